section
theorem pk_us {f : Nat → Int32} {k : Nat} {x : Int32} : upd f k x k = x := if_pos rfl
theorem pk_un {f : Nat → Int32} {k j : Nat} {x : Int32} (h : j ≠ k) : upd f k x j = f j := if_neg h
theorem pk_sub {a b : Nat} (h : b ≤ a) : nI a - nI b = nI (a - b) := by
  obtain ⟨c, rfl⟩ : ∃ c, a = c + b := ⟨a - b, by omega⟩
  rw [← nI_add, Int32.add_sub_cancel, Nat.add_sub_cancel]
theorem pk_m1 (n : Nat) : nI (n + 1) + (-1) = nI n := by
  rw [← nI_1, Int32.add_assoc, show (1 : Int32) + (-1) = 0 from rfl, Int32.add_zero]
theorem pk_mul (a b : Nat) : nI a * nI b = nI (a * b) := (Int32.ofNat_mul a b).symm
theorem pk_ix (x : Int32) {n : Nat} (hn : n < 2 ^ 31) : x < 0 ∨ nI n ≤ x ∨ ∃ j : Nat, j < n ∧ x = nI j := by
  by_cases h : x < 0
  · exact Or.inl h
  · obtain ⟨j, hj, rfl⟩ := nI_of h
    by_cases h2 : j < n
    · exact Or.inr (Or.inr ⟨j, h2, rfl⟩)
    · exact Or.inr (Or.inl (nI_le (by omega) hj))
theorem pk_le {x y : Int32} {A B : Prop} (a b : Nat) (f : a ≤ b → A) (g : b < a → B) (hx : x = nI a := by rfl) (hy : y = nI b := by rfl) (ha : a < 2 ^ 31 := by omega) (hb : b < 2 ^ 31 := by omega) : (x ≤ y → A) ∧ (¬ x ≤ y → B) := by
  subst hx hy
  rw [nI_leI ha hb]
  exact ⟨f, fun z => g (by omega)⟩
theorem pk_lt {x y : Int32} {A B : Prop} (a b : Nat) (f : a < b → A) (g : b ≤ a → B) (hx : x = nI a := by rfl) (hy : y = nI b := by rfl) (ha : a < 2 ^ 31 := by omega) (hb : b < 2 ^ 31 := by omega) : (x < y → A) ∧ (¬ x < y → B) := by
  subst hx hy
  rw [nI_ltI ha hb]
  exact ⟨f, fun z => g (by omega)⟩
theorem pk_eq {x y : Int32} {A B : Prop} (a b : Nat) (f : a = b → A) (g : a ≠ b → B) (hx : x = nI a := by rfl) (hy : y = nI b := by rfl) (ha : a < 2 ^ 31 := by omega) (hb : b < 2 ^ 31 := by omega) : (x = y → A) ∧ (¬ x = y → B) := by
  subst hx hy
  rw [nI_eq ha hb]
  exact ⟨f, g⟩
theorem pk_in {x : Int32} (n N : Nat) (h : n < N) (hx : x = nI n := by rfl) (hN : N < 2 ^ 31 := by omega) : vp_in x N := by
  subst hx
  exact vp_in_nI h hN
theorem pk_cl {x : Int32} (n : Nat) (hx : x = nI n := by rfl) (h : n < 2 ^ 31 := by omega) : x.toNatClampNeg = n := by
  subst hx
  exact nI_clamp h
theorem pk_tn {n : Nat} (h : n < 2 ^ 32) : (nI n).toBitVec.toNat = n := Nat.mod_eq_of_lt h
theorem pk_shr (a s : Int32) (k : Nat) (hs : (s.toBitVec.smod 32).toNat = k) : (a >>> s).toInt = a.toInt >>> k := by
  show (a.toBitVec.sshiftRight (s.toBitVec.smod 32).toNat).toInt = _
  rw [hs, BitVec.toInt_sshiftRight]
  rfl
theorem pk_shrN {n : Nat} (h : n < 2 ^ 31) (s : Int32) (k : Nat) (hs : (s.toBitVec.smod 32).toNat = k) : nI n >>> s = nI (n / 2 ^ k) := by
  apply Int32.toInt_inj.mp
  have h2 : n / 2 ^ k ≤ n := Nat.div_le_self _ _
  rw [pk_shr _ _ k hs, nI_toInt h, nI_toInt (by omega), Int.shiftRight_eq_div_pow]
  rfl
theorem pk_least (P : Nat → Prop) (h : ∃ k, P k) : ∃ k, P k ∧ ∀ j, j < k → ¬ P j := by
  obtain ⟨k, hk⟩ := h
  induction k using Nat.strongRecOn with
  | ind k ih =>
    by_cases e : ∃ j, j < k ∧ P j
    · obtain ⟨j, hj, pj⟩ := e
      exact ih j hj pj
    · exact ⟨k, hk, fun j hj pj => e ⟨j, hj, pj⟩⟩
theorem ts_nf {x : Bool} (h : ¬ x = false) : x = true := by cases x <;> first | rfl | exact absurd rfl h
theorem ts_nt {x : Bool} (h : ¬ x = true) : x = false := by cases x <;> first | rfl | exact absurd rfl h
theorem ts_bit {w : Int64} {s : UInt64} {j : Nat} (hj : j < 64) (hs : s.toNat = j) : ((w.toUInt64 >>> s).toInt64 &&& 1) = 0 ↔ w.toBitVec.getLsbD j = false := by
  have e : (w.toUInt64 >>> s).toInt64.toBitVec = w.toBitVec >>> j := by
    apply BitVec.eq_of_toNat_eq
    show (w.toUInt64 >>> s).toNat = _
    rw [UInt64.toNat_shiftRight, hs, Nat.mod_eq_of_lt hj, BitVec.toNat_ushiftRight]
    rfl
  rw [← Int64.toBitVec_inj, Int64.toBitVec_and, e]
  show w.toBitVec >>> j &&& 1#64 = 0#64 ↔ _
  constructor
  · intro h
    have t := congrArg (fun x => x.getLsbD 0) h
    simpa using t
  · intro h
    apply BitVec.eq_of_getLsbD_eq
    intro i hi
    cases i with
    | zero => simp [h]
    | succ i => simp
theorem wb_tb (n : Nat) : (lN n).toBitVec = BitVec.ofNat 64 n := rfl
theorem wb_c : ∀ k, k < 64 → ((nI k).toInt64 &&& 63) = lN k := by decide +kernel
theorem wb_cu : ∀ k, k < 64 → ((nI k).toInt64.toUInt64 &&& Int64.toUInt64 63) = UInt64.ofNat k := by decide +kernel
theorem wb_sm : ∀ k, k < 64 → (BitVec.ofNat 64 k).smod 64 = BitVec.ofNat 64 k := by decide +kernel
theorem u_tn {n : Nat} (h : n < 2 ^ 64) : (UInt64.ofNat n).toNat = n := Nat.mod_eq_of_lt h
end
section
def rl_F (f : Nat → Nat) : Nat → Int32 := fun k => nI (f k)
def rl_u (f : Nat → Nat) (k v : Nat) : Nat → Nat := fun j => if j = k then v else f j
theorem rl_us (f : Nat → Nat) (k v : Nat) : rl_u f k v k = v := if_pos rfl
theorem rl_un (f : Nat → Nat) {k j : Nat} (v : Nat) (h : j ≠ k) : rl_u f k v j = f j := if_neg h
theorem rl_at (f : Nat → Nat) {k : Nat} (h : k < 2 ^ 31) : rl_F f (nI k).toNatClampNeg = nI (f k) := by
  unfold rl_F; rw [nI_clamp h]
theorem rl_wr (f : Nat → Nat) {k : Nat} (v : Nat) (h : k < 2 ^ 31) : upd (rl_F f) (nI k).toNatClampNeg (nI v) = rl_F (rl_u f k v) := by
  funext j
  unfold upd rl_F rl_u
  rw [nI_clamp h]
  by_cases e : j = k
  · rw [if_pos e, if_pos e]
  · rw [if_neg e, if_neg e]
theorem rl_F0 : (fun _ => 0 : Nat → Int32) = rl_F (fun _ => 0) := rfl
theorem rl_in {k N : Nat} (h : k < N) (hN : N < 2 ^ 31) : vp_in (nI k) N = True := eq_true (vp_in_nI h hN)
theorem rl_nar0 : vp_nar .boolean 0 = nI 0 := rfl
theorem rl_nar1 : vp_nar .boolean 1 = nI 1 := rfl
theorem rl_congr {P : Int32 → Prop} {x y : Int32} (h : P x) (e : x = y) : P y := e ▸ h

/-! zero-one values of propositions -/
noncomputable def rl_b (P : Prop) : Nat := @ite Nat P (Classical.propDecidable P) 1 0
theorem rl_b1 {P : Prop} (h : P) : rl_b P = 1 := by unfold rl_b; rw [if_pos h]
theorem rl_b0 {P : Prop} (h : ¬ P) : rl_b P = 0 := by unfold rl_b; rw [if_neg h]
theorem rl_blt (P : Prop) : rl_b P < 2 := by
  by_cases h : P
  · rw [rl_b1 h]; omega
  · rw [rl_b0 h]; omega
theorem rl_bc {P Q : Prop} (h : P ↔ Q) : rl_b P = rl_b Q := by rw [propext h]
theorem rl_bi {P : Prop} : rl_b P = 1 ↔ P := by
  by_cases h : P
  · rw [rl_b1 h]; exact ⟨fun _ => h, fun _ => rfl⟩
  · rw [rl_b0 h]; exact ⟨fun z => absurd z (by omega), fun z => absurd z h⟩
theorem rl_bor (P Q : Prop) : rl_b (P ∨ Q) = if rl_b Q = 1 then 1 else rl_b P := by
  by_cases h : Q
  · rw [rl_b1 h, if_pos rfl, rl_b1 (Or.inr h)]
  · rw [rl_b0 h, if_neg (by omega)]
    exact rl_bc ⟨fun z => z.elim id (fun y => absurd y h), Or.inl⟩
theorem rl_beq (P : Prop) (i o : Nat) : rl_b (P ∨ i = o) = if i = o then 1 else rl_b P := by
  by_cases h : i = o
  · rw [if_pos h, rl_b1 (Or.inr h)]
  · rw [if_neg h]
    exact rl_bc ⟨fun z => z.elim id (fun y => absurd y h), Or.inl⟩

/-! masks of five -/
def rl_m5 (a b c d e : Nat) : Nat := a + 2 * b + 4 * c + 8 * d + 16 * e
noncomputable def rl_mk (P : Nat → Prop) : Nat := rl_m5 (rl_b (P 0)) (rl_b (P 1)) (rl_b (P 2)) (rl_b (P 3)) (rl_b (P 4))
theorem rl_5 {P : Nat → Prop} (h0 : P 0) (h1 : P 1) (h2 : P 2) (h3 : P 3) (h4 : P 4) : ∀ p, p < 5 → P p := by
  intro p hp
  rcases (by omega : p = 0 ∨ p = 1 ∨ p = 2 ∨ p = 3 ∨ p = 4) with rfl | rfl | rfl | rfl | rfl
  · exact h0
  · exact h1
  · exact h2
  · exact h3
  · exact h4
theorem rl_mkc {P Q : Nat → Prop} (h : ∀ p, p < 5 → (P p ↔ Q p)) : rl_mk P = rl_mk Q := by
  unfold rl_mk
  rw [rl_bc (h 0 (by omega)), rl_bc (h 1 (by omega)), rl_bc (h 2 (by omega)), rl_bc (h 3 (by omega)), rl_bc (h 4 (by omega))]
theorem rl_mk0 {P : Nat → Prop} (h : ∀ p, p < 5 → ¬ P p) : rl_mk P = 0 := by
  unfold rl_mk rl_m5
  rw [rl_b0 (h 0 (by omega)), rl_b0 (h 1 (by omega)), rl_b0 (h 2 (by omega)), rl_b0 (h 3 (by omega)), rl_b0 (h 4 (by omega))]
theorem rl_mklt (P : Nat → Prop) : rl_mk P < 32 := by
  have := rl_blt (P 0); have := rl_blt (P 1); have := rl_blt (P 2); have := rl_blt (P 3); have := rl_blt (P 4)
  unfold rl_mk rl_m5; omega
theorem rl_mkz {P : Nat → Prop} : rl_mk P = 0 ↔ ∀ p, p < 5 → ¬ P p := by
  refine ⟨fun h => ?_, rl_mk0⟩
  unfold rl_mk rl_m5 at h
  refine rl_5 ?_ ?_ ?_ ?_ ?_ <;> (intro z; have := rl_b1 z; omega)
theorem rl_mkI {P : Nat → Prop} : nI (rl_mk P) = 0 ↔ ∀ p, p < 5 → ¬ P p := by
  rw [← nI_0, nI_eq (by have := rl_mklt P; omega) (by omega)]
  exact rl_mkz
theorem rl_t1 : ∀ o, o < 5 → ∀ a, a < 2 → ∀ b, b < 2 → ∀ c, c < 2 → ∀ d, d < 2 → ∀ e, e < 2 → nI (rl_m5 a b c d e) ||| ((1 : Int32) <<< (nI o &&& 31)) = nI (rl_m5 (if 0 = o then 1 else a) (if 1 = o then 1 else b) (if 2 = o then 1 else c) (if 3 = o then 1 else d) (if 4 = o then 1 else e)) := by decide +kernel
theorem rl_t2 : ∀ m, m < 32 → ∀ k, k < 32 → nI m ||| nI k = nI (rl_m5 (if k % 2 = 1 then 1 else m % 2) (if k / 2 % 2 = 1 then 1 else m / 2 % 2) (if k / 4 % 2 = 1 then 1 else m / 4 % 2) (if k / 8 % 2 = 1 then 1 else m / 8 % 2) (if k / 16 % 2 = 1 then 1 else m / 16 % 2)) := by decide +kernel
theorem rl_t3 : ∀ p, p < 5 → ∀ m, m < 32 → ((nI m >>> (nI p &&& 31)) &&& 1) = nI (m / 2 ^ p % 2) := by decide +kernel
theorem rl_m5d {a b c d e : Nat} (ha : a < 2) (hb : b < 2) (hc : c < 2) (hd : d < 2) (he : e < 2) : rl_m5 a b c d e < 32 ∧ rl_m5 a b c d e % 2 = a ∧ rl_m5 a b c d e / 2 % 2 = b ∧ rl_m5 a b c d e / 4 % 2 = c ∧ rl_m5 a b c d e / 8 % 2 = d ∧ rl_m5 a b c d e / 16 % 2 = e := by
  unfold rl_m5; omega
theorem rl_mk1 (P : Nat → Prop) {o : Nat} (ho : o < 5) : nI (rl_mk P) ||| ((1 : Int32) <<< (nI o &&& 31)) = nI (rl_mk (fun p => P p ∨ p = o)) := by
  unfold rl_mk
  rw [rl_beq, rl_beq, rl_beq, rl_beq, rl_beq]
  exact rl_t1 o ho _ (rl_blt _) _ (rl_blt _) _ (rl_blt _) _ (rl_blt _) _ (rl_blt _)
theorem rl_mk2 (P Q : Nat → Prop) : nI (rl_mk P) ||| nI (rl_mk Q) = nI (rl_mk (fun p => P p ∨ Q p)) := by
  unfold rl_mk
  rw [rl_bor, rl_bor, rl_bor, rl_bor, rl_bor]
  have h1 := rl_m5d (rl_blt (P 0)) (rl_blt (P 1)) (rl_blt (P 2)) (rl_blt (P 3)) (rl_blt (P 4))
  have h2 := rl_m5d (rl_blt (Q 0)) (rl_blt (Q 1)) (rl_blt (Q 2)) (rl_blt (Q 3)) (rl_blt (Q 4))
  rw [rl_t2 _ h1.1 _ h2.1, h1.2.1, h1.2.2.1, h1.2.2.2.1, h1.2.2.2.2.1, h1.2.2.2.2.2, h2.2.1, h2.2.2.1, h2.2.2.2.1, h2.2.2.2.2.1, h2.2.2.2.2.2]
theorem rl_mkb (P : Nat → Prop) {o : Nat} (ho : o < 5) : (((nI (rl_mk P) >>> (nI o &&& 31)) &&& 1) = 1) ↔ P o := by
  have h1 := rl_m5d (rl_blt (P 0)) (rl_blt (P 1)) (rl_blt (P 2)) (rl_blt (P 3)) (rl_blt (P 4))
  have h2 : rl_mk P / 2 ^ o % 2 = rl_b (P o) := by
    unfold rl_mk
    refine rl_5 (P := fun o => rl_m5 (rl_b (P 0)) (rl_b (P 1)) (rl_b (P 2)) (rl_b (P 3)) (rl_b (P 4)) / 2 ^ o % 2 = rl_b (P o)) ?_ ?_ ?_ ?_ ?_ o ho
    · rw [show (2 : Nat) ^ 0 = 1 from rfl, Nat.div_one]; exact h1.2.1
    · exact h1.2.2.1
    · exact h1.2.2.2.1
    · exact h1.2.2.2.2.1
    · exact h1.2.2.2.2.2
  rw [rl_t3 o ho _ (rl_mklt P), h2, show (1 : Int32) = nI 1 from rfl, nI_eq (by have := rl_blt (P o); omega) (by omega)]
  exact rl_bi

/-! counts -/
noncomputable def rl_ct (P : Nat → Prop) : Nat → Nat
  | 0 => 0
  | b + 1 => rl_ct P b + rl_b (P b)
theorem rl_cc {P Q : Nat → Prop} : ∀ {N : Nat}, (∀ p, p < N → (P p ↔ Q p)) → rl_ct P N = rl_ct Q N
  | 0, _ => rfl
  | N + 1, h => by
    show rl_ct P N + rl_b (P N) = rl_ct Q N + rl_b (Q N)
    rw [rl_cc (N := N) (fun p hp => h p (by omega)), rl_bc (h N (by omega))]
theorem rl_cle (P : Nat → Prop) : ∀ N : Nat, rl_ct P N ≤ N
  | 0 => Nat.le_refl 0
  | N + 1 => by
    show rl_ct P N + rl_b (P N) ≤ N + 1
    have := rl_cle P N
    have := rl_blt (P N)
    omega
theorem rl_bm {P Q : Prop} (h : P → Q) : rl_b P ≤ rl_b Q := by
  by_cases p : P
  · rw [rl_b1 p, rl_b1 (h p)]; omega
  · rw [rl_b0 p]; omega
theorem rl_cm {P Q : Nat → Prop} : ∀ {N : Nat}, (∀ p, p < N → P p → Q p) → rl_ct P N ≤ rl_ct Q N
  | 0, _ => Nat.le_refl 0
  | N + 1, h => by
    show rl_ct P N + rl_b (P N) ≤ rl_ct Q N + rl_b (Q N)
    have := rl_cm (N := N) (fun p hp => h p (by omega))
    have := rl_bm (h N (by omega))
    omega
theorem rl_cl {P Q : Nat → Prop} {a : Nat} (hq : Q a) (hp : ¬ P a) : ∀ {N : Nat}, a < N → (∀ p, p < N → P p → Q p) → rl_ct P N + 1 ≤ rl_ct Q N
  | 0, ha, _ => absurd ha (by omega)
  | N + 1, ha, h => by
    show rl_ct P N + rl_b (P N) + 1 ≤ rl_ct Q N + rl_b (Q N)
    have hb := rl_bm (h N (by omega))
    by_cases e : a = N
    · subst e
      have := rl_cm (N := a) (fun p hp => h p (by omega))
      have := rl_b1 hq
      have := rl_b0 hp
      omega
    · have := rl_cl hq hp (N := N) (by omega) (fun p hp => h p (by omega))
      omega
theorem rl_ca {P : Nat → Prop} {a : Nat} (hp : ¬ P a) : ∀ {N : Nat}, a < N → rl_ct (fun p => P p ∨ p = a) N = rl_ct P N + 1
  | 0, ha => absurd ha (by omega)
  | N + 1, ha => by
    show rl_ct (fun p => P p ∨ p = a) N + rl_b (P N ∨ N = a) = rl_ct P N + rl_b (P N) + 1
    by_cases e : a = N
    · subst e
      have h1 : rl_ct (fun p => P p ∨ p = a) a = rl_ct P a := rl_cc (fun p hp => ⟨fun z => z.elim id (fun y => absurd y (by omega)), Or.inl⟩)
      rw [h1, rl_b1 (Or.inr rfl), rl_b0 hp]
    · have h1 := rl_ca hp (N := N) (by omega)
      have h2 : rl_b (P N ∨ N = a) = rl_b (P N) := rl_bc ⟨fun z => z.elim id (fun y => absurd y.symm e), Or.inl⟩
      rw [h1, h2]; omega
theorem rl_cn {P : Nat → Prop} : ∀ {N : Nat}, (∀ p, p < N → ¬ P p) → rl_ct P N = 0
  | 0, _ => rfl
  | N + 1, h => by
    show rl_ct P N + rl_b (P N) = 0
    rw [rl_cn (N := N) (fun p hp => h p (by omega)), rl_b0 (h N (by omega))]
theorem rl_cf {P : Nat → Prop} : ∀ {N : Nat}, N ≤ rl_ct P N → ∀ p, p < N → P p
  | 0, _ => fun p hp => absurd hp (by omega)
  | N + 1, h => by
    have h' : N + 1 ≤ rl_ct P N + rl_b (P N) := h
    have h1 := rl_cle P N
    have h2 := rl_blt (P N)
    intro p hp
    by_cases e : p = N
    · subst e
      exact rl_bi.mp (by omega)
    · exact rl_cf (N := N) (by omega) p (by omega)
theorem rl_cin {P : Nat → Prop} {a : Nat} : ∀ d : Nat, (∀ p, a ≤ p → p < a + d → P p) → rl_ct P (a + d) = rl_ct P a + d
  | 0, _ => rfl
  | d + 1, h => by
    show rl_ct P (a + d) + rl_b (P (a + d)) = rl_ct P a + (d + 1)
    rw [rl_cin d (fun p h1 h2 => h p h1 (by omega)), rl_b1 (h (a + d) (by omega) (by omega))]
    omega
theorem rl_cou {P : Nat → Prop} {a : Nat} : ∀ d : Nat, (∀ p, a ≤ p → p < a + d → ¬ P p) → rl_ct P (a + d) = rl_ct P a
  | 0, _ => rfl
  | d + 1, h => by
    show rl_ct P (a + d) + rl_b (P (a + d)) = rl_ct P a
    rw [rl_cou d (fun p h1 h2 => h p h1 (by omega)), rl_b0 (h (a + d) (by omega) (by omega))]
    omega
theorem rl_cco (P : Nat → Prop) : ∀ N : Nat, rl_ct P N + rl_ct (fun p => ¬ P p) N = N
  | 0 => rfl
  | N + 1 => by
    show rl_ct P N + rl_b (P N) + (rl_ct (fun p => ¬ P p) N + rl_b (¬ P N)) = N + 1
    have h := rl_cco P N
    by_cases p : P N
    · rw [rl_b1 p, rl_b0 (fun z => z p)]; omega
    · rw [rl_b0 p, rl_b1 p]; omega
end
section
def rl_A (n : Nat) (eo ef el et : Nat → Nat) : Prop := ∀ k, k < n → eo k < 5 ∧ ef k ≤ el k ∧ el k < 40 ∧ 1 ≤ et k ∧ et k ≤ 2
def rl_B (n : Nat) (eo ef el : Nat → Nat) : Prop := ∀ k, k + 1 < n → 40 * eo k + el k < 40 * eo (k + 1) + ef (k + 1)
def rl_T (n : Nat) (eo ef el et : Nat → Nat) (j : Nat) : Prop := j + 1 < n → eo j = eo (j + 1) → et j = et (j + 1) → el j + 1 = ef (j + 1) → False
def rl_D1 (n : Nat) (eo ef el et tb : Nat → Nat) : Prop := ∀ k, k < n → ∀ b, ef k ≤ b → b ≤ el k → tb (40 * eo k + b) = et k
def rl_D2 (n : Nat) (eo ef el tb : Nat → Nat) : Prop := ∀ o b, o < 5 → b < 40 → tb (40 * o + b) ≠ 0 → ∃ k, k < n ∧ eo k = o ∧ ef k ≤ b ∧ b ≤ el k
def rl_E2 (o s e n : Nat) (eo ef el tb : Nat → Nat) : Prop := ∀ o' b, o' < 5 → b < 40 → tb (40 * o' + b) ≠ 0 → (o' = o ∧ s ≤ b ∧ b ≤ e) ∨ ∃ k, k < n ∧ eo k = o' ∧ ef k ≤ b ∧ b ≤ el k
def rl_K (tb : Nat → Nat) (o s e k x n : Nat) (eo ef el et : Nat → Nat) : Prop :=
  rl_A n eo ef el et ∧ rl_B n eo ef el ∧ (∀ j, rl_T n eo ef el et j) ∧ rl_D1 n eo ef el et tb ∧ rl_E2 o s e n eo ef el tb ∧ (∀ j, j < k → j < n → eo j = o → el j < s ∨ e < ef j) ∧ (∀ j, k ≤ j → j < n → o ≤ eo j) ∧ (k < n → eo k = o → x ≤ ef k) ∧ k ≤ n
def rl_G (tb : Nat → Nat) (o s e n : Nat) (eo ef el et : Nat → Nat) : Prop :=
  rl_A n eo ef el et ∧ rl_B n eo ef el ∧ (∀ j, rl_T n eo ef el et j) ∧ rl_D1 n eo ef el et tb ∧ rl_E2 o s e n eo ef el tb ∧ (∀ j, j < n → eo j = o → el j < s ∨ e < ef j)
def rl_J (x n : Nat) (eo ef el et tb : Nat → Nat) : Prop :=
  rl_A n eo ef el et ∧ rl_B n eo ef el ∧ (∀ j, j + 1 ≠ x → rl_T n eo ef el et j) ∧ rl_D1 n eo ef el et tb ∧ rl_D2 n eo ef el tb
def rl_P (n : Nat) (eo ef el et tb : Nat → Nat) : Prop :=
  rl_A n eo ef el et ∧ rl_B n eo ef el ∧ (∀ j, rl_T n eo ef el et j) ∧ rl_D1 n eo ef el et tb ∧ rl_D2 n eo ef el tb
def rl_set (tb : Nat → Nat) (a b t : Nat) : Nat → Nat := fun p => if a ≤ p ∧ p < b then t else tb p
theorem rl_set_in {tb : Nat → Nat} {a b t p : Nat} (h1 : a ≤ p) (h2 : p < b) : rl_set tb a b t p = t := if_pos ⟨h1, h2⟩
theorem rl_set_lo {tb : Nat → Nat} {a b t p : Nat} (h1 : p < a) : rl_set tb a b t p = tb p := if_neg (by omega)
theorem rl_set_hi {tb : Nat → Nat} {a b t p : Nat} (h1 : b ≤ p) : rl_set tb a b t p = tb p := if_neg (by omega)
def rl_si (n a j : Nat) : Nat := if a ≤ j ∧ j + 1 < n then j + 1 else j
def rl_oi (n a j : Nat) : Nat := if a < j ∧ j ≤ n then j - 1 else j
def rl_sh (n a : Nat) (f : Nat → Nat) : Nat → Nat := fun j => f (rl_si n a j)
def rl_op (n a : Nat) (f : Nat → Nat) : Nat → Nat := fun j => f (rl_oi n a j)
theorem rl_si_lo {n a j : Nat} (h : j < a) : rl_si n a j = j := if_neg (by omega)
theorem rl_si_hi {n a j : Nat} (h : a ≤ j) (h2 : j + 1 < n) : rl_si n a j = j + 1 := if_pos ⟨h, h2⟩
theorem rl_oi_lo {n a j : Nat} (h : j ≤ a) : rl_oi n a j = j := if_neg (by omega)
theorem rl_oi_hi {n a j : Nat} (h : a < j) (h2 : j ≤ n) : rl_oi n a j = j - 1 := if_pos ⟨h, h2⟩

theorem rl_ord {n : Nat} {eo ef el et : Nat → Nat} (hA : rl_A n eo ef el et) (hB : rl_B n eo ef el) : ∀ d j, j + d + 1 < n → 40 * eo j + el j < 40 * eo (j + d + 1) + ef (j + d + 1)
  | 0, j, h => hB j h
  | d + 1, j, h => by
    have h1 := rl_ord hA hB d j (by omega)
    have h2 := hA (j + d + 1) (by omega)
    have h3 := hB (j + d + 1) (by omega)
    have e : j + (d + 1) + 1 = j + d + 1 + 1 := by omega
    rw [e]
    omega
theorem rl_lt {n : Nat} {eo ef el et : Nat → Nat} (hA : rl_A n eo ef el et) (hB : rl_B n eo ef el) {j k : Nat} (h : j < k) (hk : k < n) : 40 * eo j + el j < 40 * eo k + ef k := by
  obtain ⟨d, rfl⟩ : ∃ d, k = j + d + 1 := ⟨k - j - 1, by omega⟩
  exact rl_ord hA hB d j hk
theorem rl_srt {n : Nat} {eo ef el et : Nat → Nat} (hA : rl_A n eo ef el et) (hB : rl_B n eo ef el) {j k : Nat} (h : j ≤ k) (hk : k < n) : eo j ≤ eo k := by
  by_cases e : j = k
  · rw [e]; omega
  · have h1 := rl_lt hA hB (show j < k by omega) hk
    have h2 := hA k hk
    omega
theorem rl_n1 {n : Nat} {eo ef el et : Nat → Nat} (hA : rl_A n eo ef el et) (hB : rl_B n eo ef el) : ∀ k, k < n → k ≤ 40 * eo k + ef k
  | 0, _ => Nat.zero_le _
  | k + 1, h => by
    have h1 := rl_n1 hA hB k (by omega)
    have h2 := hB k h
    have h3 := hA k (by omega)
    omega
theorem rl_n {n : Nat} {eo ef el et : Nat → Nat} (hA : rl_A n eo ef el et) (hB : rl_B n eo ef el) : n ≤ 200 := by
  by_cases h : n = 0
  · omega
  · have h1 := rl_n1 hA hB (n - 1) (by omega)
    have h2 := hA (n - 1) (by omega)
    omega

theorem rl_shrink {tb eo ef el et ef' el' : Nat → Nat} {o s e k x n : Nat} (hK : rl_K tb o s e k x n eo ef el et) (hk : k < n) (ho : eo k = o)
    (hf : ∀ j, j ≠ k → ef' j = ef j) (hl : ∀ j, j ≠ k → el' j = el j) (h1 : ef k ≤ ef' k) (h2 : ef' k ≤ el' k) (h3 : el' k ≤ el k)
    (h4 : ∀ b, ef k ≤ b → b ≤ el k → (ef' k ≤ b ∧ b ≤ el' k) ∨ (s ≤ b ∧ b ≤ e)) (h5 : el' k < s ∨ e < ef' k) :
    rl_K tb o s e (k + 1) (x + 1) n eo ef' el' et := by
  obtain ⟨hA, hB, hT, hD, hE, hp, hq, hx, hn⟩ := hK
  have pf : ∀ j, ef j ≤ ef' j := by
    intro j
    by_cases z : j = k
    · rw [z]; exact h1
    · rw [hf j z]; omega
  have pl : ∀ j, el' j ≤ el j := by
    intro j
    by_cases z : j = k
    · rw [z]; exact h3
    · rw [hl j z]; omega
  have pb : ∀ j, j < n → ef' j ≤ el' j := by
    intro j hj
    by_cases z : j = k
    · rw [z]; exact h2
    · rw [hf j z, hl j z]; exact (hA j hj).2.1
  refine ⟨?_, ?_, ?_, ?_, ?_, ?_, ?_, ?_, ?_⟩
  · intro j hj
    have a := hA j hj; have b := pf j; have c := pl j; have d := pb j hj
    exact ⟨a.1, d, by omega, a.2.2.2⟩
  · intro j hj
    have a := hB j hj; have b := pf (j + 1); have c := pl j
    omega
  · intro j hj e1 e2 e3
    have a := hB j hj; have b := pf (j + 1); have c := pl j
    exact hT j hj e1 e2 (by omega)
  · intro j hj b b1 b2
    have b := pf j; have c := pl j
    exact hD j hj _ (by omega) (by omega)
  · intro o' b ho' hb hne
    rcases hE o' b ho' hb hne with z | ⟨i, i1, i2, i3, i4⟩
    · exact Or.inl z
    · by_cases z : i = k
      · subst z
        rcases h4 b i3 i4 with y | y
        · exact Or.inr ⟨i, i1, i2, y.1, y.2⟩
        · exact Or.inl ⟨by omega, y.1, y.2⟩
      · exact Or.inr ⟨i, i1, i2, by rw [hf i z]; exact i3, by rw [hl i z]; exact i4⟩
  · intro j hj hjn hjo
    by_cases z : j = k
    · rw [z]; exact h5
    · rw [hf j z, hl j z]; exact hp j (by omega) hjn hjo
  · intro j hj hjn
    exact hq j (by omega) hjn
  · intro hk1 hko
    have a := hB k hk1; have b := pf (k + 1); have c := hx hk ho; have d := hA k hk
    omega
  · omega

theorem rl_drop {tb eo ef el et : Nat → Nat} {o s e k x n : Nat} (hK : rl_K tb o s e k x n eo ef el et) (hk : k < n) (ho : eo k = o)
    (h1 : s ≤ ef k) (h2 : el k ≤ e) : rl_K tb o s e k (x + 1) (n - 1) (rl_sh n k eo) (rl_sh n k ef) (rl_sh n k el) (rl_sh n k et) := by
  obtain ⟨hA, hB, hT, hD, hE, hp, hq, hx, hn⟩ := hK
  have s1 : ∀ j, j < n - 1 → rl_si n k j < n := by
    intro j hj; unfold rl_si; split <;> omega
  have s2 : ∀ j, j + 1 < n - 1 → rl_si n k j < rl_si n k (j + 1) := by
    intro j hj; unfold rl_si; split <;> split <;> omega
  refine ⟨?_, ?_, ?_, ?_, ?_, ?_, ?_, ?_, ?_⟩
  · intro j hj
    exact hA _ (s1 j hj)
  · intro j hj
    exact rl_lt hA hB (s2 j hj) (s1 (j + 1) hj)
  · intro j hj e1 e2 e3
    unfold rl_sh at e1 e2 e3
    by_cases z : j + 1 = k
    · rw [rl_si_lo (by omega), rl_si_hi (by omega) (by omega)] at e1 e2 e3
      have a := rl_lt hA hB (show j < k by omega) hk
      have b := rl_lt hA hB (show k < j + 1 + 1 by omega) (by omega)
      have c := hA k hk
      omega
    · have y : rl_si n k (j + 1) = rl_si n k j + 1 := by unfold rl_si; split <;> split <;> omega
      rw [y] at e1 e2 e3
      exact hT _ (by have := s1 (j + 1) hj; omega) e1 e2 e3
  · intro j hj b b1 b2
    exact hD _ (s1 j hj) b b1 b2
  · intro o' b ho' hb hne
    rcases hE o' b ho' hb hne with z | ⟨i, i1, i2, i3, i4⟩
    · exact Or.inl z
    · rcases Nat.lt_trichotomy i k with z | z | z
      · refine Or.inr ⟨i, by omega, ?_⟩
        unfold rl_sh
        rw [rl_si_lo z]
        exact ⟨i2, i3, i4⟩
      · subst z
        exact Or.inl ⟨by omega, by omega, by omega⟩
      · refine Or.inr ⟨i - 1, by omega, ?_⟩
        unfold rl_sh
        rw [rl_si_hi (by omega) (by omega), show i - 1 + 1 = i by omega]
        exact ⟨i2, i3, i4⟩
  · intro j hj hjn
    unfold rl_sh
    rw [rl_si_lo hj]
    exact hp j hj (by omega)
  · intro j hj hjn
    unfold rl_sh
    rw [rl_si_hi hj (by omega)]
    exact hq (j + 1) (by omega) (by omega)
  · intro hk1
    unfold rl_sh
    rw [rl_si_hi (by omega) (by omega)]
    intro hko
    have a := hB k (by omega); have c := hx hk ho; have d := hA k hk
    omega
  · omega

theorem rl_split {tb eo ef el et eo' ef' el' et' : Nat → Nat} {o s e k x n : Nat} (hK : rl_K tb o s e k x n eo ef el et) (hk : k < n) (ho : eo k = o)
    (h1 : ef k < s) (h2 : e < el k) (hse : s ≤ e)
    (lo : ∀ j, j < k → eo' j = eo j ∧ ef' j = ef j ∧ el' j = el j ∧ et' j = et j)
    (m1 : eo' k = eo k ∧ ef' k = ef k ∧ el' k = s - 1 ∧ et' k = et k)
    (m2 : eo' (k + 1) = o ∧ ef' (k + 1) = e + 1 ∧ el' (k + 1) = el k ∧ et' (k + 1) = et k)
    (hi : ∀ j, k + 1 < j → j ≤ n → eo' j = eo (j - 1) ∧ ef' j = ef (j - 1) ∧ el' j = el (j - 1) ∧ et' j = et (j - 1)) :
    rl_G tb o s e (n + 1) eo' ef' el' et' := by
  obtain ⟨hA, hB, hT, hD, hE, hp, hq, hx, hn⟩ := hK
  have c4 : ∀ j, j < k ∨ j = k ∨ j = k + 1 ∨ k + 1 < j := by intro j; omega
  have aK := hA k hk
  refine ⟨?_, ?_, ?_, ?_, ?_, ?_⟩
  · intro j hj
    rcases c4 j with z | z | z | z
    · rw [(lo j z).1, (lo j z).2.1, (lo j z).2.2.1, (lo j z).2.2.2]; exact hA j (by omega)
    · rw [z, m1.1, m1.2.1, m1.2.2.1, m1.2.2.2]; omega
    · rw [z, m2.1, m2.2.1, m2.2.2.1, m2.2.2.2]; omega
    · have y := hi j z (by omega)
      rw [y.1, y.2.1, y.2.2.1, y.2.2.2]; exact hA (j - 1) (by omega)
  · intro j hj
    rcases c4 j with z | z | z | z
    · have a := hB j (by omega)
      have b := lo j z
      by_cases w : j + 1 = k
      · rw [b.1, b.2.2.1, w, m1.1, m1.2.1, ← w]; exact a
      · have d := lo (j + 1) (by omega)
        rw [b.1, b.2.2.1, d.1, d.2.1]; exact a
    · rw [z, m1.1, m1.2.2.1, m2.1, m2.2.1]; omega
    · have y := hi (j + 1) (by omega) (by omega)
      have a := hB k (by omega)
      rw [y.1, y.2.1, z, m2.1, m2.2.2.1, show k + 1 + 1 - 1 = k + 1 by omega]; omega
    · have y := hi (j + 1) (by omega) (by omega)
      have y' := hi j z (by omega)
      have a := hB (j - 1) (by omega)
      rw [show j - 1 + 1 = j by omega] at a
      rw [y.1, y.2.1, y'.1, y'.2.2.1, show j + 1 - 1 = j by omega]; exact a
  · intro j hj e1 e2 e3
    rcases c4 j with z | z | z | z
    · have b := lo j z
      by_cases w : j + 1 = k
      · rw [w, b.1, m1.1, ← w] at e1
        rw [w, b.2.2.2, m1.2.2.2, ← w] at e2
        rw [w, b.2.2.1, m1.2.1, ← w] at e3
        exact hT j (by omega) e1 e2 e3
      · have d := lo (j + 1) (by omega)
        rw [b.1, d.1] at e1
        rw [b.2.2.2, d.2.2.2] at e2
        rw [b.2.2.1, d.2.1] at e3
        exact hT j (by omega) e1 e2 e3
    · rw [z, m1.2.2.1, m2.2.1] at e3; omega
    · have y := hi (j + 1) (by omega) (by omega)
      rw [y.1, z, m2.1, show k + 1 + 1 - 1 = k + 1 by omega] at e1
      rw [y.2.2.2, z, m2.2.2.2, show k + 1 + 1 - 1 = k + 1 by omega] at e2
      rw [y.2.1, z, m2.2.2.1, show k + 1 + 1 - 1 = k + 1 by omega] at e3
      exact hT k (by omega) (by omega) e2 e3
    · have y := hi (j + 1) (by omega) (by omega)
      have y' := hi j z (by omega)
      rw [y.1, y'.1, show j + 1 - 1 = j - 1 + 1 by omega] at e1
      rw [y.2.2.2, y'.2.2.2, show j + 1 - 1 = j - 1 + 1 by omega] at e2
      rw [y.2.1, y'.2.2.1, show j + 1 - 1 = j - 1 + 1 by omega] at e3
      exact hT (j - 1) (by omega) e1 e2 e3
  · intro j hj b
    rcases c4 j with z | z | z | z
    · rw [(lo j z).1, (lo j z).2.1, (lo j z).2.2.1, (lo j z).2.2.2]; exact hD j (by omega) b
    · rw [z, m1.1, m1.2.1, m1.2.2.1, m1.2.2.2]; intro b1 b2; exact hD k hk b b1 (by omega)
    · rw [z, m2.1, m2.2.1, m2.2.2.1, m2.2.2.2, ← ho]; intro b1 b2; exact hD k hk b (by omega) b2
    · have y := hi j z (by omega)
      rw [y.1, y.2.1, y.2.2.1, y.2.2.2]; exact hD (j - 1) (by omega) b
  · intro o' b ho' hb hne
    rcases hE o' b ho' hb hne with z | ⟨i, i1, i2, i3, i4⟩
    · exact Or.inl z
    · rcases Nat.lt_trichotomy i k with z | z | z
      · have y := lo i z
        exact Or.inr ⟨i, by omega, by omega, by omega, by omega⟩
      · subst z
        by_cases w1 : b < s
        · exact Or.inr ⟨i, by omega, by omega, by omega, by omega⟩
        · by_cases w2 : b ≤ e
          · exact Or.inl ⟨by omega, by omega, by omega⟩
          · exact Or.inr ⟨i + 1, by omega, by omega, by omega, by omega⟩
      · have y := hi (i + 1) (by omega) (by omega)
        rw [show i + 1 - 1 = i by omega] at y
        exact Or.inr ⟨i + 1, by omega, by omega, by omega, by omega⟩
  · intro j hj
    rcases c4 j with z | z | z | z
    · rw [(lo j z).1, (lo j z).2.1, (lo j z).2.2.1]; exact hp j z (by omega)
    · rw [z, m1.2.2.1]; intro _; omega
    · rw [z, m2.2.1]; intro _; omega
    · have y := hi j z (by omega)
      rw [y.1, y.2.1, y.2.2.1]
      intro w
      have a := rl_lt hA hB (show k < j - 1 by omega) (by omega)
      omega
end
section
theorem rl_KG {tb eo ef el et : Nat → Nat} {o s e k x n : Nat} (hK : rl_K tb o s e k x n eo ef el et) (h : n ≤ k ∨ eo k ≠ o) : rl_G tb o s e n eo ef el et := by
  obtain ⟨hA, hB, hT, hD, hE, hp, hq, hx, hn⟩ := hK
  refine ⟨hA, hB, hT, hD, hE, ?_⟩
  intro j hj hjo
  by_cases z : j < k
  · exact hp j z hj hjo
  · exfalso
    rcases h with y | y
    · omega
    · have a := rl_srt hA hB (show k ≤ j by omega) hj
      have b := hq k (by omega) (by omega)
      omega
theorem rl_K0 {tb eo ef el et : Nat → Nat} {o s e k n : Nat} (hP : rl_P n eo ef el et tb) (hk : k ≤ n) (h1 : ∀ j, j < k → eo j < o) (h2 : ∀ j, k ≤ j → j < n → o ≤ eo j) : rl_K tb o s e k 0 n eo ef el et := by
  obtain ⟨hA, hB, hT, hD, hE⟩ := hP
  refine ⟨hA, hB, hT, hD, fun o' b ho' hb hne => Or.inr (hE o' b ho' hb hne), ?_, h2, fun _ _ => Nat.zero_le _, hk⟩
  intro j hj _ hjo
  have := h1 j hj
  omega
theorem rl_clear {tb eo ef el et : Nat → Nat} {o s e n : Nat} (hG : rl_G tb o s e n eo ef el et) (hse : s ≤ e) (he : e < 40) : rl_P n eo ef el et (rl_set tb (40 * o + s) (40 * o + e + 1) 0) := by
  obtain ⟨hA, hB, hT, hD, hE, hp⟩ := hG
  refine ⟨hA, hB, hT, ?_, ?_⟩
  · intro k hk b b1 b2
    have a := hA k hk
    by_cases z : eo k = o
    · rcases hp k hk z with y | y
      · rw [rl_set_lo (by omega)]; exact hD k hk b b1 b2
      · rw [rl_set_hi (by omega)]; exact hD k hk b b1 b2
    · by_cases y : eo k < o
      · rw [rl_set_lo (by omega)]; exact hD k hk b b1 b2
      · rw [rl_set_hi (by omega)]; exact hD k hk b b1 b2
  · intro o' b ho' hb hne
    by_cases z : 40 * o + s ≤ 40 * o' + b ∧ 40 * o' + b < 40 * o + e + 1
    · rw [rl_set_in z.1 z.2] at hne
      exact absurd rfl hne
    · have y : rl_set tb (40 * o + s) (40 * o + e + 1) 0 (40 * o' + b) = tb (40 * o' + b) := if_neg z
      rw [y] at hne
      rcases hE o' b ho' hb hne with w | w
      · exfalso
        obtain ⟨w1, w2, w3⟩ := w
        subst w1
        omega
      · exact w
def rl_J2 (k x n : Nat) (eo ef el et tb : Nat → Nat) : Prop :=
  rl_A n eo ef el et ∧ rl_B n eo ef el ∧ (∀ j, j ≠ k → j + 1 ≠ x → rl_T n eo ef el et j) ∧ rl_D1 n eo ef el et tb ∧ rl_D2 n eo ef el tb
theorem rl_insert {tb eo ef el et eo' ef' el' et' : Nat → Nat} {o s e t n a : Nat} (hG : rl_G tb o s e n eo ef el et) (ho : o < 5) (hse : s ≤ e) (he : e < 40) (ht1 : 1 ≤ t) (ht2 : t ≤ 2) (ha : a ≤ n)
    (h1 : ∀ j, j < a → 40 * eo j + el j < 40 * o + s) (h2 : ∀ j, a ≤ j → j < n → 40 * o + e < 40 * eo j + ef j)
    (lo : ∀ j, j < a → eo' j = eo j ∧ ef' j = ef j ∧ el' j = el j ∧ et' j = et j)
    (mi : eo' a = o ∧ ef' a = s ∧ el' a = e ∧ et' a = t)
    (hi : ∀ j, a < j → j ≤ n → eo' j = eo (j - 1) ∧ ef' j = ef (j - 1) ∧ el' j = el (j - 1) ∧ et' j = et (j - 1)) :
    rl_J2 a a (n + 1) eo' ef' el' et' (rl_set tb (40 * o + s) (40 * o + e + 1) t) := by
  obtain ⟨hA, hB, hT, hD, hE, hp⟩ := hG
  refine ⟨?_, ?_, ?_, ?_, ?_⟩
  · intro j hj
    rcases Nat.lt_trichotomy j a with z | z | z
    · rw [(lo j z).1, (lo j z).2.1, (lo j z).2.2.1, (lo j z).2.2.2]; exact hA j (by omega)
    · rw [z, mi.1, mi.2.1, mi.2.2.1, mi.2.2.2]; omega
    · have y := hi j z (by omega)
      rw [y.1, y.2.1, y.2.2.1, y.2.2.2]; exact hA (j - 1) (by omega)
  · intro j hj
    rcases Nat.lt_trichotomy j a with z | z | z
    · have b := lo j z
      by_cases w : j + 1 = a
      · rw [b.1, b.2.2.1, w, mi.1, mi.2.1]; exact h1 j z
      · have d := lo (j + 1) (by omega)
        rw [b.1, b.2.2.1, d.1, d.2.1]; exact hB j (by omega)
    · have y := hi (j + 1) (by omega) (by omega)
      rw [y.1, y.2.1, z, mi.1, mi.2.2.1, show a + 1 - 1 = a by omega]; exact h2 a (by omega) (by omega)
    · have y := hi (j + 1) (by omega) (by omega)
      have y' := hi j z (by omega)
      have a := hB (j - 1) (by omega)
      rw [show j - 1 + 1 = j by omega] at a
      rw [y.1, y.2.1, y'.1, y'.2.2.1, show j + 1 - 1 = j by omega]; exact a
  · intro j ja jb hj e1 e2 e3
    rcases Nat.lt_trichotomy j a with z | z | z
    · have b := lo j z
      have d := lo (j + 1) (by omega)
      rw [b.1, d.1] at e1
      rw [b.2.2.2, d.2.2.2] at e2
      rw [b.2.2.1, d.2.1] at e3
      exact hT j (by omega) e1 e2 e3
    · exact ja z
    · have y := hi (j + 1) (by omega) (by omega)
      have y' := hi j z (by omega)
      rw [y.1, y'.1, show j + 1 - 1 = j - 1 + 1 by omega] at e1
      rw [y.2.2.2, y'.2.2.2, show j + 1 - 1 = j - 1 + 1 by omega] at e2
      rw [y.2.1, y'.2.2.1, show j + 1 - 1 = j - 1 + 1 by omega] at e3
      exact hT (j - 1) (by omega) e1 e2 e3
  · intro j hj b
    rcases Nat.lt_trichotomy j a with z | z | z
    · rw [(lo j z).1, (lo j z).2.1, (lo j z).2.2.1, (lo j z).2.2.2]
      intro b1 b2
      have w := h1 j z
      rw [rl_set_lo (by omega)]
      exact hD j (by omega) b b1 b2
    · rw [z, mi.1, mi.2.1, mi.2.2.1, mi.2.2.2]
      intro b1 b2
      exact rl_set_in (by omega) (by omega)
    · have y := hi j z (by omega)
      rw [y.1, y.2.1, y.2.2.1, y.2.2.2]
      intro b1 b2
      have w := h2 (j - 1) (by omega) (by omega)
      rw [rl_set_hi (by omega)]
      exact hD (j - 1) (by omega) b b1 b2
  · intro o' b ho' hb hne
    by_cases z : 40 * o + s ≤ 40 * o' + b ∧ 40 * o' + b < 40 * o + e + 1
    · exact ⟨a, by omega, by omega, by omega, by omega⟩
    · have y : rl_set tb (40 * o + s) (40 * o + e + 1) t (40 * o' + b) = tb (40 * o' + b) := if_neg z
      rw [y] at hne
      rcases hE o' b ho' hb hne with w | ⟨i, i1, i2, i3, i4⟩
      · exfalso
        obtain ⟨w1, w2, w3⟩ := w
        subst w1
        omega
      · by_cases v : i < a
        · have y := lo i v
          exact ⟨i, by omega, by omega, by omega, by omega⟩
        · have y := hi (i + 1) (by omega) (by omega)
          rw [show i + 1 - 1 = i by omega] at y
          exact ⟨i + 1, by omega, by omega, by omega, by omega⟩
theorem rl_nojoin {tb eo ef el et : Nat → Nat} {k x n : Nat} (hJ : rl_J2 k x n eo ef el et tb) (h : rl_T n eo ef el et k) : rl_J x n eo ef el et tb := by
  obtain ⟨hA, hB, hT, hD, hE⟩ := hJ
  refine ⟨hA, hB, ?_, hD, hE⟩
  intro j jx
  by_cases z : j = k
  · rw [z]; exact h
  · exact hT j z jx
theorem rl_join {tb eo ef el et el' : Nat → Nat} {k x n : Nat} (hJ : rl_J2 k x n eo ef el et tb) (hx : x ≤ k) (hk : k + 1 < n) (e1 : eo k = eo (k + 1)) (e2 : et k = et (k + 1)) (e3 : el k + 1 = ef (k + 1))
    (l1 : el' k = el (k + 1)) (l2 : ∀ j, j ≠ k → el' j = el j) :
    rl_J x (n - 1) (rl_sh n (k + 1) eo) (rl_sh n (k + 1) ef) (rl_sh n (k + 1) el') (rl_sh n (k + 1) et) tb := by
  obtain ⟨hA, hB, hT, hD, hE⟩ := hJ
  have s1 : ∀ j, j < n - 1 → rl_si n (k + 1) j < n := by
    intro j hj; unfold rl_si; split <;> omega
  have s2 : ∀ j, j + 1 < n - 1 → rl_si n (k + 1) j < rl_si n (k + 1) (j + 1) := by
    intro j hj; unfold rl_si; split <;> split <;> omega
  have s3 : ∀ j, j < n - 1 → rl_si n (k + 1) j ≠ k + 1 := by
    intro j hj; unfold rl_si; split <;> omega
  have aK := hA k (by omega)
  have aL := hA (k + 1) (by omega)
  refine ⟨?_, ?_, ?_, ?_, ?_⟩
  · intro j hj
    unfold rl_sh
    by_cases z : rl_si n (k + 1) j = k
    · rw [z, l1]; omega
    · rw [l2 _ z]; exact hA _ (s1 j hj)
  · intro j hj
    unfold rl_sh
    have b := s2 j hj
    have c := s1 (j + 1) hj
    have d := s3 (j + 1) hj
    by_cases z : rl_si n (k + 1) j = k
    · rw [z] at b
      have := rl_lt hA hB (show k + 1 < rl_si n (k + 1) (j + 1) by omega) c
      rw [z, l1, e1]; exact this
    · rw [l2 _ z]; exact rl_lt hA hB b c
  · intro j jx hj
    unfold rl_sh
    intro f1 f2 f3
    by_cases z : rl_si n (k + 1) j = k
    · have zj : j = k := by
        unfold rl_si at z; split at z <;> omega
      subst zj
      rw [z, rl_si_hi (by omega) (by omega)] at f1 f2 f3
      rw [l1] at f3
      exact hT (j + 1) (by omega) (by omega) (by omega) (by omega) (by omega) f3
    · rw [l2 _ z] at f3
      have y : rl_si n (k + 1) (j + 1) = rl_si n (k + 1) j + 1 := by
        have zk : j ≠ k := fun e => z (by rw [e]; exact rl_si_lo (by omega))
        unfold rl_si; split <;> split <;> omega
      rw [y] at f1 f2 f3
      have w : rl_si n (k + 1) j + 1 ≠ x := by
        unfold rl_si; split <;> omega
      exact hT _ z w (by have := s1 (j + 1) hj; omega) f1 f2 f3
  · intro j hj b
    unfold rl_sh
    by_cases z : rl_si n (k + 1) j = k
    · rw [z, l1]
      intro b1 b2
      by_cases w : b ≤ el k
      · exact hD k (by omega) b b1 w
      · rw [e1, e2]; exact hD (k + 1) (by omega) b (by omega) b2
    · rw [l2 _ z]; exact hD _ (s1 j hj) b
  · intro o' b ho' hb hne
    obtain ⟨i, i1, i2, i3, i4⟩ := hE o' b ho' hb hne
    unfold rl_sh
    by_cases z : i = k ∨ i = k + 1
    · refine ⟨k, by omega, ?_⟩
      rw [rl_si_lo (by omega), l1]
      rcases z with z | z
      · subst z; exact ⟨i2, i3, by omega⟩
      · subst z; exact ⟨by omega, by omega, i4⟩
    · by_cases y : i < k
      · refine ⟨i, by omega, ?_⟩
        rw [rl_si_lo (by omega), l2 _ (by omega)]
        exact ⟨i2, i3, i4⟩
      · refine ⟨i - 1, by omega, ?_⟩
        rw [rl_si_hi (by omega) (by omega), show i - 1 + 1 = i by omega, l2 _ (by omega)]
        exact ⟨i2, i3, i4⟩
theorem rl_JP {tb eo ef el et : Nat → Nat} {n : Nat} (h : rl_J 0 n eo ef el et tb) : rl_P n eo ef el et tb :=
  ⟨h.1, h.2.1, fun j => h.2.2.1 j (by omega), h.2.2.2.1, h.2.2.2.2⟩
theorem rl_JJ {tb eo ef el et : Nat → Nat} {n k : Nat} (h : rl_J (k + 1) n eo ef el et tb) : rl_J2 k 0 n eo ef el et tb :=
  ⟨h.1, h.2.1, fun j jk _ => h.2.2.1 j (by omega), h.2.2.2.1, h.2.2.2.2⟩
theorem rl_P0 : rl_P 0 (fun _ => 0) (fun _ => 0) (fun _ => 0) (fun _ => 0) (fun _ => 0) :=
  ⟨fun _ h => absurd h (by omega), fun _ h => absurd h (by omega), fun _ h => absurd h (by omega), fun _ h => absurd h (by omega), fun _ _ _ _ h => absurd rfl h⟩
end
section
theorem rl_m1 {n : Nat} (h : 1 ≤ n) : nI n - 1 = nI (n - 1) := pk_sub (b := 1) h
def rl_bg (n : Nat) (eo : Nat → Nat) (o b : Nat) : Prop := b ≤ n ∧ (∀ k, k < b → eo k < o) ∧ (∀ k, b ≤ k → k < n → o ≤ eo k)
section
variable {n c : Nat} {eo ef el et ww wf wl wt ws : Nat → Nat}
theorem rl_begin_l {o : Nat} (hn : n ≤ 204) (ho : o < 2 ^ 31) (hb : ∀ k, k < n → eo k < 2 ^ 31) (hs : ∀ j k, j ≤ k → k < n → eo j ≤ eo k) :
    ∀ d lo hi x, x + d = 9 → hi - lo < 2 ^ d → lo ≤ hi → hi ≤ n → (∀ k, k < lo → eo k < o) → (∀ k, hi ≤ k → k < n → o ≤ eo k) →
    ∃ b, rl_bg n eo o b ∧ ∀ post : Int32 → Prop, post (nI b) → wX_begin_10 post (nI o) (nI n) (nI c) (rl_F eo) (rl_F ef) (rl_F el) (rl_F et) (rl_F ww) (rl_F wf) (rl_F wl) (rl_F wt) (rl_F ws) (d + 1) (nI lo) (nI hi) (nI x) := by
  intro d
  induction d with
  | zero =>
    intro lo hi x hx hd h1 h2 hl hh
    refine ⟨lo, ⟨by omega, hl, fun k a b => hh k (by omega) b⟩, fun post hp => ?_⟩
    exact br_t (nI_le (a := 9) (by omega) (by omega)) hp
  | succ d ih =>
    intro lo hi x hx hd h1 h2 hl hh
    have p2 : 2 ^ (d + 1) = 2 * 2 ^ d := by rw [Nat.pow_succ]; omega
    rw [p2] at hd
    have h9 : ¬ (9 : Int32) ≤ nI x := nI_ge (b := 9) (by omega) (by decide)
    by_cases z : hi ≤ lo
    · exact ⟨lo, ⟨by omega, hl, fun k a b => hh k (by omega) b⟩, fun post hp => br_f h9 (br_t (nI_le z (by omega)) hp)⟩
    · have hm : (nI lo + nI hi) >>> ((1 : Int32) &&& 31) = nI ((lo + hi) / 2) := by
        rw [nI_add, pk_shrN (by omega) _ 1 (by decide)]
      have hz : ¬ nI hi ≤ nI lo := nI_ge (by omega) (by omega)
      have hv : vp_in (nI ((lo + hi) / 2)) 204 := vp_in_nI (by omega) (by decide)
      have ra : rl_F eo (nI ((lo + hi) / 2)).toNatClampNeg = nI (eo ((lo + hi) / 2)) := rl_at eo (by omega)
      have he := hb ((lo + hi) / 2) (by omega)
      by_cases y : o ≤ eo ((lo + hi) / 2)
      · obtain ⟨b, b1, b2⟩ := ih lo ((lo + hi) / 2) (x + 1) (by omega) (by omega) (by omega) (by omega) hl (fun k k1 k2 => Nat.le_trans y (hs _ k k1 k2))
        refine ⟨b, b1, fun post hp => br_f h9 (br_f hz (nm_r hm ⟨hv, ?_⟩))⟩
        rw [ra]
        exact br_t (nI_le y he) (nm_r (nI_1 _) (b2 post hp))
      · obtain ⟨b, b1, b2⟩ := ih ((lo + hi) / 2 + 1) hi (x + 1) (by omega) (by omega) (by omega) (by omega) (fun k k1 => Nat.lt_of_le_of_lt (hs k _ (show k ≤ (lo + hi) / 2 by omega) (by omega)) (by omega)) hh
        refine ⟨b, b1, fun post hp => br_f h9 (br_f hz (nm_r hm ⟨hv, ?_⟩))⟩
        rw [ra]
        exact br_f (nI_ge (by omega) ho) (nm_r (nI_1 _) (nm_r (nI_1 _) (b2 post hp)))
theorem rl_begin {o : Nat} (hA : rl_A n eo ef el et) (hB : rl_B n eo ef el) (ho : o ≤ 5) :
    ∃ b, rl_bg n eo o b ∧ ∀ (post : Int32 → Prop) (x : Int32), x = nI o → post (nI b) → wpX_begin post (nI n, nI c, rl_F eo, rl_F ef, rl_F el, rl_F et, rl_F ww, rl_F wf, rl_F wl, rl_F wt, rl_F ws) x := by
  have hn := rl_n hA hB
  obtain ⟨b, b1, b2⟩ := rl_begin_l (c := c) (ef := ef) (el := el) (et := et) (ww := ww) (wf := wf) (wl := wl) (wt := wt) (ws := ws) (o := o) (by omega) (by omega) (fun k hk => by have := hA k hk; omega) (fun j k h1 h2 => rl_srt hA hB h1 h2) 9 0 n 0 (by omega) (by omega) (by omega) (by omega) (fun k h => absurd h (by omega)) (fun k h1 h2 => absurd h1 (by omega))
  refine ⟨b, b1, fun post x hx hp => ?_⟩
  subst hx
  exact ⟨_, b2 post hp⟩
theorem rl_copy {post : SX → Prop} {a b : Nat} {x y : Int32} (hx : x = nI a) (hy : y = nI b) (ha : a < 204) (hb : b < 204)
    (h : post (nI n, nI c, rl_F (rl_u eo b (eo a)), rl_F (rl_u ef b (ef a)), rl_F (rl_u el b (el a)), rl_F (rl_u et b (et a)), rl_F ww, rl_F wf, rl_F wl, rl_F wt, rl_F ws)) : wpX_copyPiece post (nI n, nI c, rl_F eo, rl_F ef, rl_F el, rl_F et, rl_F ww, rl_F wf, rl_F wl, rl_F wt, rl_F ws) x y := by
  subst hx hy
  have e : ∀ f : Nat → Nat, upd (rl_F f) (nI b).toNatClampNeg (rl_F f (nI a).toNatClampNeg) = rl_F (rl_u f b (f a)) := fun f => by
    rw [rl_at f (by omega), rl_wr f _ (by omega)]
  have va : vp_in (nI a) 204 := vp_in_nI ha (by decide)
  have vb : vp_in (nI b) 204 := vp_in_nI hb (by decide)
  unfold wpX_copyPiece
  exact ⟨va, vb, nm_r (e eo) ⟨va, vb, nm_r (e ef) ⟨va, vb, nm_r (e el) ⟨va, vb, nm_r (e et) h⟩⟩⟩⟩
theorem rl_sh_step (f : Nat → Nat) {i a : Nat} (h : a < i) : rl_u (rl_sh i a f) (i - 1) (rl_sh i a f i) = rl_sh (i + 1) a f := by
  funext j
  unfold rl_u rl_sh rl_si
  by_cases e : j = i - 1
  · subst e
    rw [if_pos rfl, if_neg (by omega), if_pos (by omega), show i - 1 + 1 = i by omega]
  · rw [if_neg e]
    by_cases z : a ≤ j ∧ j + 1 < i
    · rw [if_pos z, if_pos (by omega)]
    · rw [if_neg z, if_neg (by omega)]
theorem rl_sh_start (f : Nat → Nat) (a : Nat) : rl_sh (a + 1) a f = f := by
  funext j
  unfold rl_sh rl_si
  rw [if_neg (by omega)]
theorem rl_shut_l {post : SX → Prop} {a : Nat} (hn : n ≤ 204) (h : post (nI (n - 1), nI c, rl_F (rl_sh n a eo), rl_F (rl_sh n a ef), rl_F (rl_sh n a el), rl_F (rl_sh n a et), rl_F ww, rl_F wf, rl_F wl, rl_F wt, rl_F ws)) :
    ∀ d i, i + d = n → a < i → wX_shut_4 post (d + 1) (nI i) (nI n) (nI c) (rl_F (rl_sh i a eo)) (rl_F (rl_sh i a ef)) (rl_F (rl_sh i a el)) (rl_F (rl_sh i a et)) (rl_F ww) (rl_F wf) (rl_F wl) (rl_F wt) (rl_F ws) := by
  intro d
  induction d with
  | zero =>
    intro i hi ha
    have e : i = n := by omega
    subst e
    exact br_t (nI_le (by omega) (by omega)) (nm_r (rl_m1 (by omega)) h)
  | succ d ih =>
    intro i hi ha
    have st : ∀ f : Nat → Nat, rl_u (rl_sh i a f) (i - 1) (rl_sh i a f i) = rl_sh (i + 1) a f := fun f => rl_sh_step f ha
    refine br_f (nI_ge (by omega) (by omega)) (rl_copy (a := i) (b := i - 1) rfl (rl_m1 (by omega)) (by omega) (by omega) ?_)
    simp only [st]
    exact nm_r (nI_1 _) (ih (i + 1) (by omega) (by omega))
theorem rl_shut {post : SX → Prop} {a : Nat} {x : Int32} (hx : x = nI a) (hn : n ≤ 204) (ha : a < n) (h : post (nI (n - 1), nI c, rl_F (rl_sh n a eo), rl_F (rl_sh n a ef), rl_F (rl_sh n a el), rl_F (rl_sh n a et), rl_F ww, rl_F wf, rl_F wl, rl_F wt, rl_F ws)) : wpX_shut post (nI n, nI c, rl_F eo, rl_F ef, rl_F el, rl_F et, rl_F ww, rl_F wf, rl_F wl, rl_F wt, rl_F ws) x := by
  subst hx
  have k := rl_shut_l hn h (n - a - 1) (a + 1) (by omega) (by omega)
  simp only [rl_sh_start] at k
  exact nm_r (nI_1 _) ⟨_, k⟩
theorem rl_op_step (f : Nat → Nat) {n i : Nat} (h : i + 1 ≤ n) : rl_u (rl_op n (i + 1) f) (i + 1) (rl_op n (i + 1) f i) = rl_op n i f := by
  funext j
  unfold rl_u rl_op rl_oi
  by_cases e : j = i + 1
  · subst e
    rw [if_pos rfl, if_neg (by omega), if_pos (by omega), show i + 1 - 1 = i by omega]
  · rw [if_neg e]
    by_cases z : i + 1 < j ∧ j ≤ n
    · rw [if_pos z, if_pos (by omega)]
    · rw [if_neg z, if_neg (by omega)]
theorem rl_op_start (f : Nat → Nat) (n : Nat) : rl_op n n f = f := by
  funext j
  unfold rl_op rl_oi
  rw [if_neg (by omega)]
theorem rl_open_l {post : SX → Prop} {a : Nat} (hn : n < 204) (h : post (nI (n + 1), nI c, rl_F (rl_op n a eo), rl_F (rl_op n a ef), rl_F (rl_op n a el), rl_F (rl_op n a et), rl_F ww, rl_F wf, rl_F wl, rl_F wt, rl_F ws)) :
    ∀ d i, i = a + d → i ≤ n → wX_open_5 post (nI a) (d + 1) (nI i) (nI n) (nI c) (rl_F (rl_op n i eo)) (rl_F (rl_op n i ef)) (rl_F (rl_op n i el)) (rl_F (rl_op n i et)) (rl_F ww) (rl_F wf) (rl_F wl) (rl_F wt) (rl_F ws) := by
  intro d
  induction d with
  | zero =>
    intro i hi ha
    have e : i = a := by omega
    subst e
    exact br_t (nI_le (by omega) (by omega)) (nm_r (nI_1 _) h)
  | succ d ih =>
    intro i hi ha
    obtain ⟨i, rfl⟩ : ∃ i', i = i' + 1 := ⟨i - 1, by omega⟩
    have st : ∀ f : Nat → Nat, rl_u (rl_op n (i + 1) f) (i + 1) (rl_op n (i + 1) f i) = rl_op n i f := fun f => rl_op_step f ha
    refine br_f (nI_ge (by omega) (by omega)) (rl_copy (a := i) (b := i + 1) (nI_pred i) rfl (by omega) (by omega) ?_)
    simp only [st]
    exact nm_r (pk_m1 _) (ih i (by omega) (by omega))
theorem rl_open {post : SX → Prop} {a : Nat} {x : Int32} (hx : x = nI a) (hn : n < 204) (ha : a ≤ n) (h : post (nI (n + 1), nI c, rl_F (rl_op n a eo), rl_F (rl_op n a ef), rl_F (rl_op n a el), rl_F (rl_op n a et), rl_F ww, rl_F wf, rl_F wl, rl_F wt, rl_F ws)) : wpX_open post (nI n, nI c, rl_F eo, rl_F ef, rl_F el, rl_F et, rl_F ww, rl_F wf, rl_F wl, rl_F wt, rl_F ws) x := by
  subst hx
  have k := rl_open_l hn h (n - a) n (by omega) (by omega)
  simp only [rl_op_start] at k
  exact ⟨_, k⟩
end
end
section
section
variable {c : Nat} {ww wf wl wt ws : Nat → Nat}
theorem rl_cut_l {tb : Nat → Nat} {o s e : Nat} (ho : o < 5) (hse : s ≤ e) (he : e < 40) :
    ∀ d n k x (eo ef el et : Nat → Nat), n - k ≤ d → rl_K tb o s e k x n eo ef el et →
    ∃ n' eo' ef' el' et', rl_G tb o s e n' eo' ef' el' et' ∧ ∀ post : SX → Prop, post (nI n', nI c, rl_F eo', rl_F ef', rl_F el', rl_F et', rl_F ww, rl_F wf, rl_F wl, rl_F wt, rl_F ws) → wX_cutOut_10 post (nI o) (nI s) (nI e) (d + 1) (nI k) (nI x) (nI n) (nI c) (rl_F eo) (rl_F ef) (rl_F el) (rl_F et) (rl_F ww) (rl_F wf) (rl_F wl) (rl_F wt) (rl_F ws) := by
  intro d
  induction d with
  | zero =>
    intro n k x eo ef el et hd hK
    have hn := rl_n hK.1 hK.2.1
    refine ⟨n, eo, ef, el, et, rl_KG hK (Or.inl (by omega)), fun post hp => ?_⟩
    exact br_c (fun _ => hp) (fun _ => br_t (nI_le (by omega) (by have := hK.2.2.2.2.2.2.2.2; omega)) hp)
  | succ d ih =>
    intro n k x eo ef el et hd hK
    have hn := rl_n hK.1 hK.2.1
    have hkn := hK.2.2.2.2.2.2.2.2
    by_cases z : n ≤ k
    · refine ⟨n, eo, ef, el, et, rl_KG hK (Or.inl z), fun post hp => ?_⟩
      exact br_c (fun _ => hp) (fun _ => br_t (nI_le z (by omega)) hp)
    · have hk : k < n := by omega
      have aK := hK.1 k hk
      have ra : ∀ f : Nat → Nat, rl_F f (nI k).toNatClampNeg = nI (f k) := fun f => rl_at f (by omega)
      have wr : ∀ (f : Nat → Nat) (v : Nat), upd (rl_F f) (nI k).toNatClampNeg (nI v) = rl_F (rl_u f k v) := fun f v => rl_wr f v (by omega)
      have hv : vp_in (nI k) 204 := vp_in_nI (by omega) (by decide)
      have hcn : ¬ nI n ≤ nI k := nI_ge hk (by omega)
      by_cases y : eo k = o
      · have hx := hK.2.2.2.2.2.2.2.1 hk y
        have h80 : ¬ (80 : Int32) ≤ nI x := nI_ge (b := 80) (by omega) (by decide)
        have ho1 : nI (eo k) = nI o := congrArg nI y
        by_cases a1 : el k < s
        · have hK' := rl_shrink (ef' := ef) (el' := el) hK hk y (fun _ _ => rfl) (fun _ _ => rfl) (by omega) (by omega) (by omega) (fun b b1 b2 => Or.inl ⟨b1, b2⟩) (Or.inl a1)
          obtain ⟨n', eo', ef', el', et', g1, g2⟩ := ih n (k + 1) (x + 1) eo ef el et (by omega) hK'
          refine ⟨n', eo', ef', el', et', g1, fun post hp => ?_⟩
          rw [wX_cutOut_10]
          simp only [ra]
          exact br_f h80 (br_f hcn ⟨hv, br_t ho1 ⟨hv, br_t (nI_lt a1 (by omega)) (nm_r (nI_1 _) (nm_r (nI_1 _) (g2 post hp)))⟩⟩)
        · have b1 : ¬ nI (el k) < nI s := nI_nlt (by omega) (by omega)
          by_cases a2 : e < ef k
          · have hK' := rl_shrink (ef' := ef) (el' := el) hK hk y (fun _ _ => rfl) (fun _ _ => rfl) (by omega) (by omega) (by omega) (fun b b1 b2 => Or.inl ⟨b1, b2⟩) (Or.inr a2)
            obtain ⟨n', eo', ef', el', et', g1, g2⟩ := ih n (k + 1) (x + 1) eo ef el et (by omega) hK'
            refine ⟨n', eo', ef', el', et', g1, fun post hp => ?_⟩
            rw [wX_cutOut_10]
            simp only [ra]
            exact br_f h80 (br_f hcn ⟨hv, br_t ho1 ⟨hv, br_f b1 ⟨hv, br_f (nI_ge a2 (by omega)) (nm_r (nI_1 _) (nm_r (nI_1 _) (g2 post hp)))⟩⟩⟩)
          · have b2 : nI (ef k) ≤ nI e := nI_le (by omega) (by omega)
            by_cases a3 : s ≤ ef k
            · have b3 : nI s ≤ nI (ef k) := nI_le a3 (by omega)
              by_cases a4 : el k ≤ e
              · have b4 : nI (el k) ≤ nI e := nI_le a4 (by omega)
                have hK' := rl_drop hK hk y a3 a4
                obtain ⟨n', eo', ef', el', et', g1, g2⟩ := ih (n - 1) k (x + 1) _ _ _ _ (by omega) hK'
                refine ⟨n', eo', ef', el', et', g1, fun post hp => ?_⟩
                rw [wX_cutOut_10]
                simp only [wX_cutOut_161, ra]
                exact br_f h80 (br_f hcn ⟨hv, br_t ho1 ⟨hv, br_f b1 ⟨hv, br_t b2 ⟨hv, br_t b3 ⟨hv, br_t b3 ⟨hv, br_t b4 (rl_shut rfl (by omega) hk (nm_r (nI_1 _) (g2 post hp)))⟩⟩⟩⟩⟩⟩)
              · have b4 : ¬ nI (el k) ≤ nI e := nI_ge (by omega) (by omega)
                have hK' := rl_shrink (ef' := rl_u ef k (e + 1)) (el' := el) hK hk y (fun j hj => rl_un ef _ hj) (fun _ _ => rfl) (by rw [rl_us]; omega) (by rw [rl_us]; omega) (by omega) (fun b c1 c2 => by rw [rl_us]; omega) (Or.inr (by rw [rl_us]; omega))
                obtain ⟨n', eo', ef', el', et', g1, g2⟩ := ih n (k + 1) (x + 1) _ _ _ _ (by omega) hK'
                refine ⟨n', eo', ef', el', et', g1, fun post hp => ?_⟩
                rw [wX_cutOut_10]
                simp only [wX_cutOut_161, ra, nI_1, wr]
                exact br_f h80 (br_f hcn ⟨hv, br_t ho1 ⟨hv, br_f b1 ⟨hv, br_t b2 ⟨hv, br_t b3 ⟨hv, br_t b3 ⟨hv, br_f b4 ⟨hv, nm_e (nm_e (nm_e (g2 post hp)))⟩⟩⟩⟩⟩⟩⟩)
            · have b3 : ¬ nI s ≤ nI (ef k) := nI_ge (by omega) (by omega)
              have hs1 : nI s - 1 = nI (s - 1) := rl_m1 (by omega)
              by_cases a4 : el k ≤ e
              · have b4 : nI (el k) ≤ nI e := nI_le a4 (by omega)
                have hK' := rl_shrink (ef' := ef) (el' := rl_u el k (s - 1)) hK hk y (fun _ _ => rfl) (fun j hj => rl_un el _ hj) (by omega) (by rw [rl_us]; omega) (by rw [rl_us]; omega) (fun b c1 c2 => by rw [rl_us]; omega) (Or.inl (by rw [rl_us]; omega))
                obtain ⟨n', eo', ef', el', et', g1, g2⟩ := ih n (k + 1) (x + 1) _ _ _ _ (by omega) hK'
                refine ⟨n', eo', ef', el', et', g1, fun post hp => ?_⟩
                rw [wX_cutOut_10]
                simp only [wX_cutOut_161, ra, nI_1, hs1, wr]
                exact br_f h80 (br_f hcn ⟨hv, br_t ho1 ⟨hv, br_f b1 ⟨hv, br_t b2 ⟨hv, br_f b3 ⟨hv, br_t b4 ⟨hv, br_f b3 ⟨hv, nm_e (nm_e (nm_e (g2 post hp)))⟩⟩⟩⟩⟩⟩⟩)
              · have b4 : ¬ nI (el k) ≤ nI e := nI_ge (by omega) (by omega)
                have wr' : ∀ (f : Nat → Nat) (v : Nat), upd (rl_F f) (nI (k + 1)).toNatClampNeg (nI v) = rl_F (rl_u f (k + 1) v) := fun f v => rl_wr f v (by omega)
                have hv' : vp_in (nI (k + 1)) 204 := vp_in_nI (by omega) (by decide)
                refine ⟨n + 1, rl_u (rl_op n (k + 1) eo) (k + 1) o, rl_u (rl_op n (k + 1) ef) (k + 1) (e + 1), rl_u (rl_u (rl_op n (k + 1) el) (k + 1) (rl_op n (k + 1) el k)) k (s - 1), rl_u (rl_op n (k + 1) et) (k + 1) (rl_op n (k + 1) et k), ?_, fun post hp => ?_⟩
                · have lo : ∀ (f : Nat → Nat) j, j ≤ k → rl_op n (k + 1) f j = f j := fun f j hj => by
                    unfold rl_op; rw [rl_oi_lo (by omega)]
                  have hi : ∀ (f : Nat → Nat) j, k + 1 < j → j ≤ n → rl_op n (k + 1) f j = f (j - 1) := fun f j hj hjn => by
                    unfold rl_op; rw [rl_oi_hi hj hjn]
                  refine rl_split hK hk y (by omega) (by omega) hse ?_ ?_ ?_ ?_
                  · intro j hj
                    rw [rl_un _ _ (by omega), rl_un _ _ (by omega), rl_un _ _ (by omega), rl_un _ _ (by omega), rl_un _ _ (by omega)]
                    exact ⟨lo _ j (by omega), lo _ j (by omega), lo _ j (by omega), lo _ j (by omega)⟩
                  · rw [rl_us, rl_un _ _ (by omega), rl_un _ _ (by omega), rl_un _ _ (by omega)]
                    exact ⟨lo _ k (by omega), lo _ k (by omega), rfl, lo _ k (by omega)⟩
                  · rw [rl_us, rl_us, rl_un _ _ (by omega), rl_us, rl_us]
                    exact ⟨rfl, rfl, lo _ k (by omega), lo _ k (by omega)⟩
                  · intro j hj hjn
                    rw [rl_un _ _ (by omega), rl_un _ _ (by omega), rl_un _ _ (by omega), rl_un _ _ (by omega), rl_un _ _ (by omega)]
                    exact ⟨hi _ j hj hjn, hi _ j hj hjn, hi _ j hj hjn, hi _ j hj hjn⟩
                · rw [wX_cutOut_10]
                  simp only [wX_cutOut_161, ra]
                  refine br_f h80 (br_f hcn ⟨hv, br_t ho1 ⟨hv, br_f b1 ⟨hv, br_t b2 ⟨hv, br_f b3 ⟨hv, br_f b4 (rl_open (nI_1 k) (by omega) (by omega) ?_)⟩⟩⟩⟩⟩)
                  simp only [nI_1, ra, wr', hs1]
                  refine ⟨hv', nm_e ⟨hv', nm_e ⟨hv, hv', nm_e ⟨hv, hv', nm_e ⟨hv, ?_⟩⟩⟩⟩⟩
                  simp only [wr]
                  exact nm_e hp
      · have hne : ¬ nI (eo k) = nI o := by rw [nI_eq (by omega) (by omega)]; exact y
        refine ⟨n, eo, ef, el, et, rl_KG hK (Or.inr y), fun post hp => ?_⟩
        rw [wX_cutOut_10]
        simp only [ra]
        exact br_c (fun _ => hp) (fun _ => br_f hcn ⟨hv, br_f hne hp⟩)
theorem rl_cut {tb eo ef el et : Nat → Nat} {n o s e : Nat} (hP : rl_P n eo ef el et tb) (ho : o < 5) (hse : s ≤ e) (he : e < 40) :
    ∃ n' eo' ef' el' et', rl_G tb o s e n' eo' ef' el' et' ∧ ∀ post : SX → Prop, post (nI n', nI c, rl_F eo', rl_F ef', rl_F el', rl_F et', rl_F ww, rl_F wf, rl_F wl, rl_F wt, rl_F ws) → wpX_cutOut post (nI n, nI c, rl_F eo, rl_F ef, rl_F el, rl_F et, rl_F ww, rl_F wf, rl_F wl, rl_F wt, rl_F ws) (nI o) (nI s) (nI e) := by
  obtain ⟨b, ⟨b1, b2, b3⟩, b4⟩ := rl_begin (c := c) (ww := ww) (wf := wf) (wl := wl) (wt := wt) (ws := ws) (o := o) hP.1 hP.2.1 (by omega)
  obtain ⟨n', eo', ef', el', et', g1, g2⟩ := rl_cut_l (c := c) (ww := ww) (wf := wf) (wl := wl) (wt := wt) (ws := ws) ho hse he n n b 0 eo ef el et (by omega) (rl_K0 hP b1 b2 b3)
  refine ⟨n', eo', ef', el', et', g1, fun post hp => ?_⟩
  unfold wpX_cutOut
  exact b4 _ _ rfl ⟨_, g2 post hp⟩
theorem rl_jn {tb eo ef el et : Nat → Nat} {n k x : Nat} (hJ : rl_J2 k x n eo ef el et tb) (hx : x ≤ k) (hk : k < n) :
    ∃ n' eo' ef' el' et', rl_J x n' eo' ef' el' et' tb ∧ k < n' ∧ ∀ (post : SX → Prop) (y : Int32), y = nI k → post (nI n', nI c, rl_F eo', rl_F ef', rl_F el', rl_F et', rl_F ww, rl_F wf, rl_F wl, rl_F wt, rl_F ws) → wpX_joinNext post (nI n, nI c, rl_F eo, rl_F ef, rl_F el, rl_F et, rl_F ww, rl_F wf, rl_F wl, rl_F wt, rl_F ws) y := by
  have hn := rl_n hJ.1 hJ.2.1
  have aK := hJ.1 k hk
  have ra : ∀ f : Nat → Nat, rl_F f (nI k).toNatClampNeg = nI (f k) := fun f => rl_at f (by omega)
  have rb : ∀ f : Nat → Nat, rl_F f (nI (k + 1)).toNatClampNeg = nI (f (k + 1)) := fun f => rl_at f (by omega)
  have wr : ∀ (f : Nat → Nat) (v : Nat), upd (rl_F f) (nI k).toNatClampNeg (nI v) = rl_F (rl_u f k v) := fun f v => rl_wr f v (by omega)
  by_cases z : n ≤ k + 1
  · refine ⟨n, eo, ef, el, et, rl_nojoin hJ (fun h => absurd h (by omega)), hk, fun post y hy hp => ?_⟩
    subst hy
    simp only [wpX_joinNext, nI_1]
    exact br_t (nI_le z (by omega)) hp
  · have aL := hJ.1 (k + 1) (by omega)
    have hv : vp_in (nI k) 204 := vp_in_nI (by omega) (by decide)
    have hv' : vp_in (nI (k + 1)) 204 := vp_in_nI (by omega) (by decide)
    have hz : ¬ nI n ≤ nI (k + 1) := nI_ge (by omega) (by omega)
    by_cases z1 : eo k = eo (k + 1)
    · by_cases z2 : et k = et (k + 1)
      · by_cases z3 : el k + 1 = ef (k + 1)
        · refine ⟨n - 1, _, _, _, _, rl_join (el' := rl_u el k (el (k + 1))) hJ hx (by omega) z1 z2 z3 (rl_us _ _ _) (fun j hj => rl_un _ _ hj), by omega, fun post y hy hp => ?_⟩
          subst hy
          simp only [wpX_joinNext, nI_1, ra, rb, wr]
          exact br_f hz ⟨hv, hv', br_t (congrArg nI z1) ⟨hv, hv', br_t (congrArg nI z2) ⟨hv, hv', br_t (congrArg nI z3) ⟨hv', hv, nm_e (rl_shut rfl (by omega) (by omega) hp)⟩⟩⟩⟩
        · refine ⟨n, eo, ef, el, et, rl_nojoin hJ (fun _ _ _ h => z3 h), hk, fun post y hy hp => ?_⟩
          subst hy
          simp only [wpX_joinNext, nI_1, ra, rb, wr]
          have w : ¬ nI (el k + 1) = nI (ef (k + 1)) := by rw [nI_eq (by omega) (by omega)]; exact z3
          exact br_f hz ⟨hv, hv', br_t (congrArg nI z1) ⟨hv, hv', br_t (congrArg nI z2) ⟨hv, hv', br_f w hp⟩⟩⟩
      · refine ⟨n, eo, ef, el, et, rl_nojoin hJ (fun _ _ h _ => z2 h), hk, fun post y hy hp => ?_⟩
        subst hy
        simp only [wpX_joinNext, nI_1, ra, rb, wr]
        have w : ¬ nI (et k) = nI (et (k + 1)) := by rw [nI_eq (by omega) (by omega)]; exact z2
        exact br_f hz ⟨hv, hv', br_t (congrArg nI z1) ⟨hv, hv', br_f w hp⟩⟩
    · refine ⟨n, eo, ef, el, et, rl_nojoin hJ (fun _ h _ _ => z1 h), hk, fun post y hy hp => ?_⟩
      subst hy
      simp only [wpX_joinNext, nI_1, ra, rb, wr]
      have w : ¬ nI (eo k) = nI (eo (k + 1)) := by rw [nI_eq (by omega) (by omega)]; exact z1
      exact br_f hz ⟨hv, hv', br_f w hp⟩
theorem rl_scan {eo ef el et : Nat → Nat} {n s b1 : Nat} (hn : n ≤ 204) (hb : b1 ≤ n) (hf : ∀ k, k < n → ef k < 40) (hs : s < 40) :
    ∀ d i, i + d = b1 → ∃ a, i ≤ a ∧ a ≤ b1 ∧ (∀ j, i ≤ j → j < a → ef j < s) ∧ (a < b1 → s ≤ ef a) ∧
    ∀ (post : SX → Prop) (x1 x3 x4 : Int32), wX_paint_53 post x1 (nI s) x3 x4 (nI a) (nI n) (nI c) (rl_F eo) (rl_F ef) (rl_F el) (rl_F et) (rl_F ww) (rl_F wf) (rl_F wl) (rl_F wt) (rl_F ws) → wX_paint_29 post x1 (nI s) x3 x4 (nI b1) (nI n) (nI c) (rl_F eo) (rl_F ef) (rl_F el) (rl_F et) (rl_F ww) (rl_F wf) (rl_F wl) (rl_F wt) (rl_F ws) (d + 1) (nI i) := by
  intro d
  induction d with
  | zero =>
    intro i hi
    exact ⟨i, by omega, by omega, fun j h1 h2 => absurd h1 (by omega), fun h => absurd h (by omega), fun post x1 x3 x4 K => br_t (nI_le (by omega) (by omega)) K⟩
  | succ d ih =>
    intro i hi
    have ra : ∀ f : Nat → Nat, rl_F f (nI i).toNatClampNeg = nI (f i) := fun f => rl_at f (by omega)
    have hv : vp_in (nI i) 204 := vp_in_nI (by omega) (by decide)
    have hfi := hf i (by omega)
    by_cases z : s ≤ ef i
    · refine ⟨i, by omega, by omega, fun j h1 h2 => absurd h1 (by omega), fun _ => z, fun post x1 x3 x4 K => ?_⟩
      rw [wX_paint_29]
      simp only [ra]
      exact br_f (nI_ge (by omega) (by omega)) ⟨hv, br_t (nI_le z (by omega)) K⟩
    · obtain ⟨a, a1, a2, a3, a4, a5⟩ := ih (i + 1) (by omega)
      refine ⟨a, by omega, a2, fun j j1 j2 => ?_, a4, fun post x1 x3 x4 K => ?_⟩
      · by_cases y : j = i
        · rw [y]; omega
        · exact a3 j (by omega) j2
      · rw [wX_paint_29]
        simp only [ra]
        exact br_f (nI_ge (by omega) (by omega)) ⟨hv, br_f (nI_ge (by omega) (by omega)) (nm_r (nI_1 _) (a5 post x1 x3 x4 K))⟩
theorem rl_paint {tb eo ef el et : Nat → Nat} {n o s e t : Nat} (hP : rl_P n eo ef el et tb) (ho : o < 5) (hse : s ≤ e) (he : e < 40) (ht : t ≤ 2) :
    ∃ n' eo' ef' el' et', rl_P n' eo' ef' el' et' (rl_set tb (40 * o + s) (40 * o + e + 1) t) ∧ ∀ post : SX → Prop, post (nI n', nI c, rl_F eo', rl_F ef', rl_F el', rl_F et', rl_F ww, rl_F wf, rl_F wl, rl_F wt, rl_F ws) → wpX_paint post (nI n, nI c, rl_F eo, rl_F ef, rl_F el, rl_F et, rl_F ww, rl_F wf, rl_F wl, rl_F wt, rl_F ws) (nI o) (nI s) (nI e) (nI t) := by
  obtain ⟨n1, eo1, ef1, el1, et1, hG, hcut⟩ := rl_cut (c := c) (ww := ww) (wf := wf) (wl := wl) (wt := wt) (ws := ws) hP ho hse he
  by_cases z : t = 0
  · subst z
    refine ⟨n1, eo1, ef1, el1, et1, rl_clear hG hse he, fun post hp => ?_⟩
    unfold wpX_paint
    exact hcut _ (br_t rfl hp)
  · have hA := hG.1
    have hB := hG.2.1
    have hn1 := rl_n hA hB
    obtain ⟨b, ⟨p1, p2, p3⟩, p4⟩ := rl_begin (c := c) (ww := ww) (wf := wf) (wl := wl) (wt := wt) (ws := ws) (o := o) hA hB (by omega)
    obtain ⟨b', ⟨q1, q2, q3⟩, q4⟩ := rl_begin (c := c) (ww := ww) (wf := wf) (wl := wl) (wt := wt) (ws := ws) (o := o + 1) hA hB (by omega)
    have hbb : b ≤ b' := by
      by_cases y : b ≤ b'
      · exact y
      · have := p2 b' (by omega)
        have := q3 b' (by omega) (by omega)
        omega
    obtain ⟨a, a1, a2, a3, a4, a5⟩ := rl_scan (c := c) (eo := eo1) (ef := ef1) (el := el1) (et := et1) (ww := ww) (wf := wf) (wl := wl) (wt := wt) (ws := ws) (n := n1) (s := s) (b1 := b') (by omega) q1 (fun k hk => by have := hA k hk; omega) (by omega) (b' - b) b (by omega)
    have h1 : ∀ j, j < a → 40 * eo1 j + el1 j < 40 * o + s := by
      intro j hj
      have aj := hA j (by omega)
      by_cases y : j < b
      · have := p2 j y
        omega
      · have y1 := p3 j (by omega) (by omega)
        have y2 := q2 j (by omega)
        have y3 := a3 j (by omega) hj
        have y4 := hG.2.2.2.2.2 j (by omega) (by omega)
        omega
    have h2 : ∀ j, a ≤ j → j < n1 → 40 * o + e < 40 * eo1 j + ef1 j := by
      intro j hj hjn
      by_cases y : b' ≤ j
      · have := q3 j y hjn
        omega
      · have y1 := p3 j (by omega) hjn
        have y2 := q2 j (by omega)
        have y3 := a4 (by omega)
        have y4 := hG.2.2.2.2.2 j hjn (by omega)
        have y5 := hA j hjn
        have y6 := hA a (by omega)
        have y7 := p3 a (by omega) (by omega)
        have y8 := q2 a (by omega)
        by_cases w : a = j
        · rw [w] at y3; omega
        · have y9 := rl_lt hA hB (show a < j by omega) hjn
          omega
    have lo : ∀ (f : Nat → Nat) j, j ≤ a → rl_op n1 a f j = f j := fun f j hj => by
      unfold rl_op; rw [rl_oi_lo (by omega)]
    have hi : ∀ (f : Nat → Nat) j, a < j → j ≤ n1 → rl_op n1 a f j = f (j - 1) := fun f j hj hjn => by
      unfold rl_op; rw [rl_oi_hi hj hjn]
    have hJ := rl_insert (eo' := rl_u (rl_op n1 a eo1) a o) (ef' := rl_u (rl_op n1 a ef1) a s) (el' := rl_u (rl_op n1 a el1) a e) (et' := rl_u (rl_op n1 a et1) a t) (t := t) hG ho hse he (by omega) ht (by omega) h1 h2
      (fun j hj => by
        rw [rl_un _ _ (by omega), rl_un _ _ (by omega), rl_un _ _ (by omega), rl_un _ _ (by omega)]
        exact ⟨lo _ j (by omega), lo _ j (by omega), lo _ j (by omega), lo _ j (by omega)⟩)
      ⟨rl_us _ _ _, rl_us _ _ _, rl_us _ _ _, rl_us _ _ _⟩
      (fun j hj hjn => by
        rw [rl_un _ _ (by omega), rl_un _ _ (by omega), rl_un _ _ (by omega), rl_un _ _ (by omega)]
        exact ⟨hi _ j hj hjn, hi _ j hj hjn, hi _ j hj hjn, hi _ j hj hjn⟩)
    obtain ⟨n2, eo2, ef2, el2, et2, k1, k2, k3⟩ := rl_jn (c := c) (ww := ww) (wf := wf) (wl := wl) (wt := wt) (ws := ws) hJ (Nat.le_refl a) (by omega)
    have hv : vp_in (nI a) 204 := vp_in_nI (by omega) (by decide)
    have wr : ∀ (f : Nat → Nat) (v : Nat), upd (rl_F f) (nI a).toNatClampNeg (nI v) = rl_F (rl_u f a v) := fun f v => rl_wr f v (by omega)
    have ht0 : ¬ nI t = 0 := nI_ne0 (by omega) (by omega)
    by_cases y : a = 0
    · subst y
      refine ⟨n2, eo2, ef2, el2, et2, rl_JP k1, fun post hp => ?_⟩
      unfold wpX_paint
      refine hcut _ (br_f ht0 (p4 _ _ rfl (q4 _ _ (nI_1 o) ⟨_, a5 post _ _ _ ?_⟩)))
      unfold wX_paint_53
      refine rl_open rfl (by omega) (by omega) ?_
      simp only [wr]
      exact ⟨hv, nm_e ⟨hv, nm_e ⟨hv, nm_e ⟨hv, nm_e (k3 _ _ rfl (br_t (nI_le (b := 0) (by omega) (by omega)) hp))⟩⟩⟩⟩
    · obtain ⟨a, rfl⟩ : ∃ a', a = a' + 1 := ⟨a - 1, by omega⟩
      obtain ⟨n3, eo3, ef3, el3, et3, l1, l2, l3⟩ := rl_jn (c := c) (ww := ww) (wf := wf) (wl := wl) (wt := wt) (ws := ws) (rl_JJ k1) (Nat.zero_le a) (by omega)
      refine ⟨n3, eo3, ef3, el3, et3, rl_JP l1, fun post hp => ?_⟩
      unfold wpX_paint
      refine hcut _ (br_f ht0 (p4 _ _ rfl (q4 _ _ (nI_1 o) ⟨_, a5 post _ _ _ ?_⟩)))
      unfold wX_paint_53
      refine rl_open rfl (by omega) (by omega) ?_
      simp only [wr]
      exact ⟨hv, nm_e ⟨hv, nm_e ⟨hv, nm_e ⟨hv, nm_e (k3 _ _ rfl (br_f (nI_nle (by omega) (by omega)) (l3 _ _ (nI_pred a) hp)))⟩⟩⟩⟩
end
end
section
def rl_kl (t v : Nat) : Prop := (t = 2 ∧ v ≠ 0) ∨ (t = 1 ∧ v = 2)
def rl_R (tb : Nat → Nat) (o s f t p : Nat) : Prop := p ≠ o ∧ ∃ b, s ≤ b ∧ b < f ∧ rl_kl t (tb (40 * p + b))
def rl_st (o s e t : Nat) (eo ef el et : Nat → Nat) (k : Nat) : Prop := ef k ≤ e ∧ s ≤ el k ∧ eo k ≠ o ∧ (t = 2 ∨ et k = 2)
def rl_S (o s e t : Nat) (eo ef el et : Nat → Nat) (i p : Nat) : Prop := ∃ k, k < i ∧ rl_st o s e t eo ef el et k ∧ eo k = p
theorem rl_tv {tb eo ef el et : Nat → Nat} {n : Nat} (hP : rl_P n eo ef el et tb) {o b : Nat} (ho : o < 5) (hb : b < 40) : tb (40 * o + b) ≤ 2 := by
  by_cases z : tb (40 * o + b) = 0
  · omega
  · obtain ⟨k, k1, k2, k3, k4⟩ := hP.2.2.2.2 o b ho hb z
    have a := hP.2.2.2.1 k k1 b k3 k4
    have c := hP.1 k k1
    rw [k2] at a
    omega
theorem rl_SR {tb eo ef el et : Nat → Nat} {n o s e t p : Nat} (hP : rl_P n eo ef el et tb) (hse : s ≤ e) (he : e < 40) (h1 : 1 ≤ t) (h2 : t ≤ 2) (hp : p < 5) : rl_S o s e t eo ef el et n p ↔ rl_R tb o s (e + 1) t p := by
  obtain ⟨hA, hB, hT, hD, hE⟩ := hP
  constructor
  · rintro ⟨k, k1, ⟨s1, s2, s3, s4⟩, rfl⟩
    have a := hA k k1
    refine ⟨s3, if ef k ≤ s then s else ef k, ?_⟩
    have hb : s ≤ (if ef k ≤ s then s else ef k) ∧ ef k ≤ (if ef k ≤ s then s else ef k) ∧ (if ef k ≤ s then s else ef k) ≤ e ∧ (if ef k ≤ s then s else ef k) ≤ el k := by
      split <;> omega
    have v := hD k k1 _ hb.2.1 hb.2.2.2
    refine ⟨hb.1, by omega, ?_⟩
    rw [v]
    unfold rl_kl
    omega
  · rintro ⟨p1, b, b1, b2, b3⟩
    have v : tb (40 * p + b) ≠ 0 := by unfold rl_kl at b3; omega
    obtain ⟨k, k1, k2, k3, k4⟩ := hE p b hp (by omega) v
    have a := hD k k1 b k3 k4
    rw [k2] at a
    refine ⟨k, k1, ⟨by omega, by omega, by omega, ?_⟩, k2⟩
    unfold rl_kl at b3
    omega
section
variable {n c : Nat} {eo ef el et ww wf wl wt ws : Nat → Nat}
theorem rl_st1 {post : Int32 → Prop} {k o s e t : Nat} (hA : rl_A n eo ef el et) (hn : n ≤ 204) (hk : k < n) (ho : o < 5) (ht : t ≤ 2) (m1 : ef k ≤ e) (m2 : s ≤ el k) (h1 : rl_st o s e t eo ef el et k → post 1) (h0 : ¬ rl_st o s e t eo ef el et k → post 0) :
    wX_stands_26 post (nI k) (nI o) (nI t) 1 (nI n) (nI c) (rl_F eo) (rl_F ef) (rl_F el) (rl_F et) (rl_F ww) (rl_F wf) (rl_F wl) (rl_F wt) (rl_F ws) := by
  have a := hA k hk
  have hv : vp_in (nI k) 204 := vp_in_nI (by omega) (by decide)
  unfold wX_stands_26
  rw [rl_at eo (show k < 2 ^ 31 by omega), rl_at et (show k < 2 ^ 31 by omega)]
  refine br_f (by decide) ⟨hv, pk_eq (eo k) o (fun z => h0 (fun y => y.2.2.1 z)) (fun z => pk_eq t 2 (fun y => h1 ⟨m1, m2, z, Or.inl y⟩) (fun y => ⟨hv, pk_eq (et k) 2 (fun x => h1 ⟨m1, m2, z, Or.inr x⟩) (fun x => h0 ?_)⟩))⟩
  rintro ⟨_, _, _, w⟩
  omega
theorem rl_stands {post : Int32 → Prop} {k o s e t : Nat} (hA : rl_A n eo ef el et) (hn : n ≤ 204) (hk : k < n) (ho : o < 5) (hs : s < 40) (he : e < 40) (ht : t ≤ 2) (h1 : rl_st o s e t eo ef el et k → post 1) (h0 : ¬ rl_st o s e t eo ef el et k → post 0) :
    wpX_stands post (nI n, nI c, rl_F eo, rl_F ef, rl_F el, rl_F et, rl_F ww, rl_F wf, rl_F wl, rl_F wt, rl_F ws) (nI k) (nI o) (nI s) (nI e) (nI t) := by
  have a := hA k hk
  have hv : vp_in (nI k) 204 := vp_in_nI (by omega) (by decide)
  unfold wpX_stands
  dsimp only
  rw [rl_at ef (show k < 2 ^ 31 by omega), rl_at el (show k < 2 ^ 31 by omega)]
  exact ⟨hv, pk_lt e (ef k) (fun z => br_t rfl (h0 (fun y => absurd y.1 (by omega)))) (fun z => ⟨hv, pk_lt (el k) s (fun w => br_t rfl (h0 (fun y => absurd y.2.1 (by omega)))) (fun w => rl_st1 hA hn hk ho ht z w h1 h0)⟩)⟩
theorem rl_riv_l {post : Int32 → Prop} {o s e t : Nat} (hA : rl_A n eo ef el et) (hn : n ≤ 204) (ho : o < 5) (hs : s < 40) (he : e < 40) (ht : t ≤ 2) (hp : post (nI (rl_mk (rl_S o s e t eo ef el et n)))) :
    ∀ d i, i + d = n → wX_rivals_6 post (nI o) (nI s) (nI e) (nI t) (nI n) (nI c) (rl_F eo) (rl_F ef) (rl_F el) (rl_F et) (rl_F ww) (rl_F wf) (rl_F wl) (rl_F wt) (rl_F ws) (d + 1) (nI (rl_mk (rl_S o s e t eo ef el et i))) (nI i) := by
  intro d
  induction d with
  | zero =>
    intro i hi
    have e : i = n := by omega
    subst e
    exact br_t (nI_le (by omega) (by omega)) hp
  | succ d ih =>
    intro i hi
    have a := hA i (by omega)
    have hv : vp_in (nI i) 204 := vp_in_nI (by omega) (by decide)
    have ra : rl_F eo (nI i).toNatClampNeg = nI (eo i) := rl_at eo (by omega)
    refine br_f (nI_ge (by omega) (by omega)) (rl_stands hA hn (by omega) ho hs he ht (fun z => br_f (by decide) ⟨hv, ?_⟩) (fun z => br_t rfl (nm_r (nI_1 _) ?_)))
    · rw [ra]
      refine nm_r ((rl_mk1 _ a.1).trans (congrArg nI (rl_mkc (Q := rl_S o s e t eo ef el et (i + 1)) (fun p hp => ?_)))) (nm_r (nI_1 _) (ih (i + 1) (by omega)))
      constructor
      · rintro (⟨k, k1, k2, k3⟩ | h)
        · exact ⟨k, by omega, k2, k3⟩
        · exact ⟨i, by omega, z, h.symm⟩
      · rintro ⟨k, k1, k2, k3⟩
        by_cases y : k = i
        · subst y; exact Or.inr k3.symm
        · exact Or.inl ⟨k, by omega, k2, k3⟩
    · have q := ih (i + 1) (by omega)
      rw [show rl_mk (rl_S o s e t eo ef el et (i + 1)) = rl_mk (rl_S o s e t eo ef el et i) from rl_mkc (fun p hp => ?_)] at q
      · exact q
      · constructor
        · rintro ⟨k, k1, k2, k3⟩
          by_cases y : k = i
          · subst y; exact absurd k2 z
          · exact ⟨k, by omega, k2, k3⟩
        · rintro ⟨k, k1, k2, k3⟩
          exact ⟨k, by omega, k2, k3⟩
theorem rl_rivals {tb : Nat → Nat} {o s e t : Nat} (hP : rl_P n eo ef el et tb) (ho : o < 5) (hse : s ≤ e) (he : e < 40) (h1 : 1 ≤ t) (h2 : t ≤ 2) (post : Int32 → Prop) (hp : post (nI (rl_mk (rl_R tb o s (e + 1) t)))) :
    wpX_rivals post (nI n, nI c, rl_F eo, rl_F ef, rl_F el, rl_F et, rl_F ww, rl_F wf, rl_F wl, rl_F wt, rl_F ws) (nI o) (nI s) (nI e) (nI t) := by
  have hn := rl_n hP.1 hP.2.1
  rw [show rl_mk (rl_R tb o s (e + 1) t) = rl_mk (rl_S o s e t eo ef el et n) from rl_mkc (fun p h => (rl_SR hP hse he h1 h2 h).symm)] at hp
  have k := rl_riv_l (c := c) (ww := ww) (wf := wf) (wl := wl) (wt := wt) (ws := ws) hP.1 (by omega) ho (by omega) he h2 hp n 0 (by omega)
  rw [rl_mk0 (fun p _ => by rintro ⟨k, k1, _⟩; omega)] at k
  exact ⟨_, k⟩
end
section
variable {q : Nat} {tb yw yf ym yk : Nat → Nat} {yo : Nat → Int32}
theorem rl_ix (p b : Nat) : (40 : Int32) * nI p + nI b = nI (40 * p + b) := by
  rw [← nI_add, ← pk_mul]; rfl
theorem rl_clash {post : Int32 → Prop} {t v : Nat} (ht : t ≤ 2) (hv : v ≤ 2) (h1 : rl_kl t v → post 1) (h0 : ¬ rl_kl t v → post 0) : wpY_clash post (nI q, rl_F tb, rl_F yw, rl_F yf, rl_F ym, rl_F yk, yo) (nI t) (nI v) := by
  unfold wpY_clash wY_clash_9
  dsimp only
  refine pk_eq t 2 (fun z => pk_eq v 0 (fun y => pk_eq t 1 (fun w => absurd w (by omega)) (fun w => h0 ?_)) (fun y => h1 (Or.inl ⟨z, y⟩))) (fun z => pk_eq t 1 (fun y => pk_eq v 2 (fun w => h1 (Or.inr ⟨y, w⟩)) (fun w => h0 ?_)) (fun y => h0 ?_))
  · unfold rl_kl; omega
  · unfold rl_kl; omega
  · unfold rl_kl; omega
def rl_U (tb : Nat → Nat) (o s f t p b r : Nat) : Prop := r ≠ o ∧ ((r < p ∧ ∃ b', s ≤ b' ∧ b' < f ∧ rl_kl t (tb (40 * r + b'))) ∨ (r = p ∧ ∃ b', s ≤ b' ∧ b' < b ∧ rl_kl t (tb (40 * r + b'))))
theorem rl_ag_in {post : Int32 → Prop} {J : Int32 → Int32 → Prop} {o s m t p : Nat} (hT : ∀ o b, o < 5 → b < 40 → tb (40 * o + b) ≤ 2) (ho : o < 5) (hm : s + m ≤ 40) (ht : t ≤ 2) (hp : p < 5) (hJ : J (nI (rl_mk (rl_U tb o s (s + m) t p (s + m)))) (nI (p + 1))) :
    ∀ d b, b + d = s + m → s ≤ b → wY_against_15 post J (nI o) (nI s) (nI m) (nI t) (nI p) (nI q) (rl_F tb) (rl_F yw) (rl_F yf) (rl_F ym) (rl_F yk) yo (d + 1) (nI (rl_mk (rl_U tb o s (s + m) t p b))) (nI b) := by
  intro d
  induction d with
  | zero =>
    intro b hb hsb
    have e : b = s + m := by omega
    subst e
    rw [wY_against_15]
    dsimp only
    rw [nI_add]
    exact br_t (nI_le (by omega) (by omega)) (nm_r (nI_1 _) hJ)
  | succ d ih =>
    intro b hb hsb
    have q := ih (b + 1) (by omega) (by omega)
    have hc := hT p b hp (by omega)
    rw [wY_against_15]
    dsimp only
    rw [nI_add, rl_ix]
    refine br_f (nI_ge (by omega) (by omega)) (pk_eq p o (fun z => nm_r (nI_1 _) ?_) (fun z => ⟨vp_in_nI (by omega) (by decide), ?_⟩))
    · rw [show rl_mk (rl_U tb o s (s + m) t p (b + 1)) = rl_mk (rl_U tb o s (s + m) t p b) from rl_mkc (fun r hr => ?_)] at q
      · exact q
      · unfold rl_U
        constructor
        · rintro ⟨r1, r2 | r2⟩
          · exact ⟨r1, Or.inl r2⟩
          · exact absurd (r2.1.trans z) r1
        · rintro ⟨r1, r2 | r2⟩
          · exact ⟨r1, Or.inl r2⟩
          · exact absurd (r2.1.trans z) r1
    · rw [rl_at tb (show 40 * p + b < 2 ^ 31 by omega)]
      refine rl_clash ht hc (fun y => br_f (by decide) (nm_r ((rl_mk1 _ hp).trans (congrArg nI (rl_mkc (Q := rl_U tb o s (s + m) t p (b + 1)) (fun r hr => ?_)))) (nm_r (nI_1 _) q))) (fun y => br_t rfl (nm_r (nI_1 _) ?_))
      · unfold rl_U
        constructor
        · rintro (⟨r1, r2 | ⟨r2, b', b1, b2, b3⟩⟩ | h)
          · exact ⟨r1, Or.inl r2⟩
          · exact ⟨r1, Or.inr ⟨r2, b', b1, by omega, b3⟩⟩
          · subst h
            exact ⟨z, Or.inr ⟨rfl, b, hsb, by omega, y⟩⟩
        · rintro ⟨r1, r2 | ⟨r2, b', b1, b2, b3⟩⟩
          · exact Or.inl ⟨r1, Or.inl r2⟩
          · exact Or.inr r2
      · rw [show rl_mk (rl_U tb o s (s + m) t p (b + 1)) = rl_mk (rl_U tb o s (s + m) t p b) from rl_mkc (fun r hr => ?_)] at q
        · exact q
        · unfold rl_U
          constructor
          · rintro ⟨r1, r2 | ⟨r2, b', b1, b2, b3⟩⟩
            · exact ⟨r1, Or.inl r2⟩
            · by_cases w : b' = b
              · subst w; subst r2; exact absurd b3 y
              · exact ⟨r1, Or.inr ⟨r2, b', b1, by omega, b3⟩⟩
          · rintro ⟨r1, r2 | ⟨r2, b', b1, b2, b3⟩⟩
            · exact ⟨r1, Or.inl r2⟩
            · exact ⟨r1, Or.inr ⟨r2, b', b1, by omega, b3⟩⟩
theorem rl_ag_out {post : Int32 → Prop} {o s m t : Nat} (hT : ∀ o b, o < 5 → b < 40 → tb (40 * o + b) ≤ 2) (ho : o < 5) (hm : s + m ≤ 40) (ht : t ≤ 2) (hp : post (nI (rl_mk (rl_R tb o s (s + m) t)))) :
    ∀ d p, p + d = 5 → wY_against_6 post (nI o) (nI s) (nI m) (nI t) (nI q) (rl_F tb) (rl_F yw) (rl_F yf) (rl_F ym) (rl_F yk) yo (d + 1) (nI (rl_mk (rl_U tb o s (s + m) t p s))) (nI p) := by
  intro d
  induction d with
  | zero =>
    intro p h
    have e : p = 5 := by omega
    subst e
    rw [show rl_mk (rl_R tb o s (s + m) t) = rl_mk (rl_U tb o s (s + m) t 5 s) from rl_mkc (fun r hr => ?_)] at hp
    · exact br_t (nI_le (a := 5) (by omega) (by omega)) hp
    · unfold rl_U rl_R
      constructor
      · rintro ⟨r1, r2⟩
        exact ⟨r1, Or.inl ⟨hr, r2⟩⟩
      · rintro ⟨r1, r2 | r2⟩
        · exact ⟨r1, r2.2⟩
        · omega
  | succ d ih =>
    intro p h
    refine br_f (nI_ge (b := 5) (by omega) (by omega)) ⟨m + 1, rl_ag_in hT ho hm ht (by omega) ?_ m s rfl (Nat.le_refl s)⟩
    have q := ih (p + 1) (by omega)
    rw [show rl_mk (rl_U tb o s (s + m) t (p + 1) s) = rl_mk (rl_U tb o s (s + m) t p (s + m)) from rl_mkc (fun r hr => ?_)] at q
    · exact q
    · unfold rl_U
      constructor
      · rintro ⟨r1, r2 | ⟨r2, b', b1, b2, b3⟩⟩
        · by_cases w : r = p
          · exact ⟨r1, Or.inr ⟨w, r2.2⟩⟩
          · exact ⟨r1, Or.inl ⟨by omega, r2.2⟩⟩
        · omega
      · rintro ⟨r1, r2 | ⟨r2, r3⟩⟩
        · exact ⟨r1, Or.inl ⟨by omega, r2.2⟩⟩
        · exact ⟨r1, Or.inl ⟨by omega, r3⟩⟩
theorem rl_against {o s m t : Nat} (hT : ∀ o b, o < 5 → b < 40 → tb (40 * o + b) ≤ 2) (ho : o < 5) (hm : s + m ≤ 40) (ht : t ≤ 2) (post : Int32 → Prop) (hp : post (nI (rl_mk (rl_R tb o s (s + m) t)))) :
    wpY_against post (nI q, rl_F tb, rl_F yw, rl_F yf, rl_F ym, rl_F yk, yo) (nI o) (nI s) (nI m) (nI t) := by
  have k := rl_ag_out (q := q) (yw := yw) (yf := yf) (ym := ym) (yk := yk) (yo := yo) hT ho hm ht hp 5 0 rfl
  rw [rl_mk0 (fun p _ => by rintro ⟨_, h | ⟨_, b, b1, b2, _⟩⟩ <;> omega)] at k
  exact ⟨_, k⟩
end
end
section
def rl_Q (q : Nat) (yw yf ym yk ww wf wl wt ws : Nat → Nat) (c : Nat) : Prop :=
  rl_ct (fun o => ww o ≠ 0) 5 = q ∧ (∀ o, o < 5 → ww o ≤ 1) ∧
  (∀ i, i < q → yw i < 5 ∧ ww (yw i) ≠ 0 ∧ wf (yw i) = yf i ∧ wl (yw i) + 1 = yf i + ym i ∧ wt (yw i) = yk i ∧ 1 ≤ ym i ∧ yf i + ym i ≤ 40 ∧ 1 ≤ yk i ∧ yk i ≤ 2 ∧ ws (yw i) ≤ c) ∧
  (∀ i j, i < j → j < q → ws (yw i) < ws (yw j)) ∧
  (∀ o, o < 5 → ww o ≠ 0 → ∃ i, i < q ∧ yw i = o)
theorem rl_Qq {q c : Nat} {yw yf ym yk ww wf wl wt ws : Nat → Nat} (h : rl_Q q yw yf ym yk ww wf wl wt ws c) : q ≤ 5 := by
  rw [← h.1]; exact rl_cle _ 5
theorem rl_Qinj {q c : Nat} {yw yf ym yk ww wf wl wt ws : Nat → Nat} (h : rl_Q q yw yf ym yk ww wf wl wt ws c) {i j : Nat} (hi : i < q) (hj : j < q) (e : yw i = yw j) : i = j := by
  rcases Nat.lt_trichotomy i j with z | z | z
  · have := h.2.2.2.1 i j z hj
    rw [e] at this; omega
  · exact z
  · have := h.2.2.2.1 j i z hi
    rw [e] at this; omega
theorem rl_Qleave {q c : Nat} {yw yf ym yk ww wf wl wt ws : Nat → Nat} (h : rl_Q q yw yf ym yk ww wf wl wt ws c) {i : Nat} (hi : i < q) :
    rl_Q (q - 1) (rl_sh q i yw) (rl_sh q i yf) (rl_sh q i ym) (rl_sh q i yk) (rl_u ww (yw i) 0) wf wl wt ws c := by
  obtain ⟨h1, h2, h3, h4, h5⟩ := h
  have hinj : ∀ j, j < q → yw j = yw i → j = i := by
    intro j hj e
    rcases Nat.lt_trichotomy j i with z | z | z
    · have := h4 j i z hi
      rw [e] at this; omega
    · exact z
    · have := h4 i j z hj
      rw [e] at this; omega
  have s1 : ∀ j, j < q - 1 → rl_si q i j < q ∧ rl_si q i j ≠ i := by
    intro j hj; unfold rl_si; split <;> omega
  refine ⟨?_, ?_, ?_, ?_, ?_⟩
  · have a : rl_ct (fun o => ww o ≠ 0) 5 = rl_ct (fun o => rl_u ww (yw i) 0 o ≠ 0 ∨ o = yw i) 5 := by
      refine rl_cc (fun p hp => ?_)
      by_cases z : p = yw i
      · exact ⟨fun _ => Or.inr z, fun _ => by rw [z]; exact (h3 i hi).2.1⟩
      · rw [rl_un _ _ z]
        exact ⟨Or.inl, fun y => y.elim id (fun w => absurd w z)⟩
    have b := rl_ca (P := fun o => rl_u ww (yw i) 0 o ≠ 0) (a := yw i) (N := 5) (fun z => z (rl_us _ _ _)) (h3 i hi).1
    omega
  · intro o ho
    by_cases z : o = yw i
    · rw [z, rl_us]; omega
    · rw [rl_un _ _ z]; exact h2 o ho
  · intro j hj
    have a := s1 j hj
    have b := h3 _ a.1
    unfold rl_sh
    rw [rl_un _ _ (fun z => a.2 (hinj _ a.1 z))]
    exact b
  · intro j k hjk hk
    refine h4 _ _ ?_ (s1 k hk).1
    unfold rl_si; split <;> split <;> omega
  · intro o ho hw
    by_cases z : o = yw i
    · rw [z, rl_us] at hw; exact absurd rfl hw
    · rw [rl_un _ _ z] at hw
      obtain ⟨j, j1, j2⟩ := h5 o ho hw
      have hji : j ≠ i := fun y => z (by rw [← j2, y])
      by_cases y : j < i
      · refine ⟨j, by omega, ?_⟩
        unfold rl_sh; rw [rl_si_lo y]; exact j2
      · refine ⟨j - 1, by omega, ?_⟩
        unfold rl_sh; rw [rl_si_hi (by omega) (by omega), show j - 1 + 1 = j by omega]; exact j2
theorem rl_Qjoin {q c : Nat} {yw yf ym yk ww wf wl wt ws : Nat → Nat} (h : rl_Q q yw yf ym yk ww wf wl wt ws c) {o s m t : Nat} (ho : o < 5) (hw : ww o = 0) (hm : 1 ≤ m) (hs : s + m ≤ 40) (h1t : 1 ≤ t) (h2t : t ≤ 2) :
    q ≤ 4 ∧ rl_Q (q + 1) (rl_u yw q o) (rl_u yf q s) (rl_u ym q m) (rl_u yk q t) (rl_u ww o 1) (rl_u wf o s) (rl_u wl o (s + m - 1)) (rl_u wt o t) (rl_u ws o (c + 1)) (c + 1) := by
  obtain ⟨h1, h2, h3, h4, h5⟩ := h
  have hct : rl_ct (fun p => rl_u ww o 1 p ≠ 0) 5 = q + 1 := by
    have a : rl_ct (fun p => rl_u ww o 1 p ≠ 0) 5 = rl_ct (fun p => ww p ≠ 0 ∨ p = o) 5 := by
      refine rl_cc (fun p hp => ?_)
      by_cases z : p = o
      · rw [z, rl_us]; exact ⟨fun _ => Or.inr rfl, fun _ => by omega⟩
      · rw [rl_un _ _ z]; exact ⟨Or.inl, fun y => y.elim id (fun w => absurd w z)⟩
    have b := rl_ca (P := fun p => ww p ≠ 0) (a := o) (N := 5) (fun z => z hw) ho
    omega
  have hq : q + 1 ≤ 5 := by rw [← hct]; exact rl_cle _ 5
  have hne : ∀ i, i < q → yw i ≠ o := fun i hi e => (h3 i hi).2.1 (by rw [e]; exact hw)
  refine ⟨by omega, hct, ?_, ?_, ?_, ?_⟩
  · intro p hp
    by_cases z : p = o
    · rw [z, rl_us]; omega
    · rw [rl_un _ _ z]; exact h2 p hp
  · intro i hi
    by_cases z : i = q
    · rw [z, rl_us, rl_us, rl_us, rl_us, rl_us, rl_us, rl_us, rl_us, rl_us]
      exact ⟨ho, by omega, rfl, by omega, rfl, hm, hs, h1t, h2t, by omega⟩
    · have a := h3 i (by omega)
      have b := hne i (by omega)
      rw [rl_un yw _ z, rl_un yf _ z, rl_un ym _ z, rl_un yk _ z, rl_un ww _ b, rl_un wf _ b, rl_un wl _ b, rl_un wt _ b, rl_un ws _ b]
      omega
  · intro i j hij hj
    have b := hne i (by omega)
    rw [rl_un yw _ (show i ≠ q by omega), rl_un ws _ b]
    by_cases z : j = q
    · rw [z, rl_us, rl_us]
      have := h3 i (by omega)
      omega
    · rw [rl_un yw _ z, rl_un ws _ (hne j (by omega))]
      exact h4 i j hij (by omega)
  · intro p hp hpw
    by_cases z : p = o
    · exact ⟨q, by omega, by rw [rl_us, z]⟩
    · rw [rl_un _ _ z] at hpw
      obtain ⟨i, i1, i2⟩ := h5 p hp hpw
      exact ⟨i, by omega, by rw [rl_un _ _ (show i ≠ q by omega)]; exact i2⟩
theorem rl_Q0 : rl_Q 0 (fun _ => 0) (fun _ => 0) (fun _ => 0) (fun _ => 0) (fun _ => 0) (fun _ => 0) (fun _ => 0) (fun _ => 0) (fun _ => 0) 0 :=
  ⟨rl_cn (fun _ _ h => h rfl), fun _ _ => Nat.zero_le 1, fun _ h => absurd h (by omega), fun _ _ _ h => absurd h (by omega), fun _ _ h => absurd rfl h⟩
theorem rl_Qok {q c : Nat} {yw yf ym yk ww wf wl wt ws : Nat → Nat} (h : rl_Q q yw yf ym yk ww wf wl wt ws c) {o : Nat} (ho : o < 5) (hw : ww o ≠ 0) : wf o ≤ wl o ∧ wl o < 40 ∧ 1 ≤ wt o ∧ wt o ≤ 2 ∧ ws o ≤ c := by
  obtain ⟨i, i1, i2⟩ := h.2.2.2.2 o ho hw
  have a := h.2.2.1 i i1
  rw [i2] at a
  omega
section
variable {q : Nat} {tb yw yf ym yk : Nat → Nat} {yo : Nat → Int32}
theorem rl_place_l {post : Int32 → Prop} {o : Nat} (hq : q ≤ 5) (hb : ∀ i, i < q → yw i < 5) (ho : o < 5) (K1 : ∀ j, j < q → yw j = o → post (nI j)) (K0 : (∀ j, j < q → yw j ≠ o) → post (-1)) :
    ∀ d i, i + d = q → (∀ j, j < i → yw j ≠ o) → wY_placeOf_2 post (nI o) (nI q) (rl_F tb) (rl_F yw) (rl_F yf) (rl_F ym) (rl_F yk) yo (d + 1) (nI i) := by
  intro d
  induction d with
  | zero =>
    intro i hi h
    exact br_t (nI_le (by omega) (by omega)) (K0 (fun j hj => h j (by omega)))
  | succ d ih =>
    intro i hi h
    have hw := hb i (by omega)
    rw [wY_placeOf_2]
    dsimp only
    rw [rl_at yw (show i < 2 ^ 31 by omega)]
    refine br_f (nI_ge (by omega) (by omega)) (br_f (nI_ge (b := 8) (by omega) (by omega)) ⟨vp_in_nI (by omega) (by decide), pk_eq (yw i) o (fun z => K1 i (by omega) z) (fun z => nm_r (nI_1 _) (ih (i + 1) (by omega) (fun j hj => ?_)))⟩)
    by_cases y : j = i
    · rw [y]; exact z
    · exact h j (by omega)
theorem rl_place {post : Int32 → Prop} {o : Nat} (hq : q ≤ 5) (hb : ∀ i, i < q → yw i < 5) (ho : o < 5) (K1 : ∀ j, j < q → yw j = o → post (nI j)) (K0 : (∀ j, j < q → yw j ≠ o) → post (-1)) : wpY_placeOf post (nI q, rl_F tb, rl_F yw, rl_F yf, rl_F ym, rl_F yk, yo) (nI o) :=
  ⟨_, rl_place_l hq hb ho K1 K0 q 0 (by omega) (fun j hj => absurd hj (by omega))⟩
theorem rl_leave_l {post : SY → Prop} {i : Nat} (hq : q ≤ 5) (h : post (nI (q - 1), rl_F tb, rl_F (rl_sh q i yw), rl_F (rl_sh q i yf), rl_F (rl_sh q i ym), rl_F (rl_sh q i yk), yo)) :
    ∀ d j, j + d + 1 = q → i ≤ j → wY_leave_2 post (nI q) (d + 1) (nI j) (rl_F tb) (rl_F (rl_sh (j + 1) i yw)) (rl_F (rl_sh (j + 1) i yf)) (rl_F (rl_sh (j + 1) i ym)) (rl_F (rl_sh (j + 1) i yk)) yo := by
  intro d
  induction d with
  | zero =>
    intro j hj hij
    have e : q = j + 1 := by omega
    subst e
    rw [wY_leave_2]
    dsimp only
    rw [nI_pred]
    exact br_t (nI_le (by omega) (by omega)) (nm_r rfl h)
  | succ d ih =>
    intro j hj hij
    have e : ∀ f : Nat → Nat, upd (rl_F (rl_sh (j + 1) i f)) (nI j).toNatClampNeg (rl_F (rl_sh (j + 1) i f) (nI j + 1).toNatClampNeg) = rl_F (rl_sh (j + 1 + 1) i f) := fun f => by
      rw [nI_1, rl_at _ (by omega), rl_wr _ _ (by omega)]
      exact congrArg rl_F (rl_sh_step f (i := j + 1) (a := i) (by omega))
    have v0 : vp_in (nI j) 8 := vp_in_nI (by omega) (by decide)
    have v1 : vp_in (nI j + 1) 8 := by rw [nI_1]; exact vp_in_nI (by omega) (by decide)
    rw [wY_leave_2]
    dsimp only
    rw [rl_m1 (show 1 ≤ q by omega)]
    exact br_f (nI_ge (by omega) (by omega)) (br_f (nI_ge (b := 7) (by omega) (by omega)) ⟨v1, v0, nm_r (e yw) ⟨v1, v0, nm_r (e yf) ⟨v1, v0, nm_r (e ym) ⟨v1, v0, nm_r (e yk) (nm_r (nI_1 _) (ih (j + 1) (by omega) (by omega)))⟩⟩⟩⟩)
theorem rl_leave {post : SY → Prop} {i : Nat} (hq : q ≤ 5) (hi : i < q) (h : post (nI (q - 1), rl_F tb, rl_F (rl_sh q i yw), rl_F (rl_sh q i yf), rl_F (rl_sh q i ym), rl_F (rl_sh q i yk), yo)) : wpY_leave post (nI q, rl_F tb, rl_F yw, rl_F yf, rl_F ym, rl_F yk, yo) (nI i) := by
  have k := rl_leave_l hq h (q - i - 1) i (by omega) (Nat.le_refl i)
  simp only [rl_sh_start] at k
  exact ⟨_, k⟩
theorem rl_set_step (tb : Nat → Nat) {a x : Nat} (t : Nat) (h : a ≤ x) : rl_u (rl_set tb a x t) x t = rl_set tb a (x + 1) t := by
  funext j
  unfold rl_u rl_set
  by_cases e : j = x
  · rw [if_pos e, if_pos (by omega)]
  · rw [if_neg e]
    by_cases z : a ≤ j ∧ j < x
    · rw [if_pos z, if_pos (by omega)]
    · rw [if_neg z, if_neg (by omega)]
theorem rl_set_0 (tb : Nat → Nat) (a t : Nat) : rl_set tb a a t = tb := by
  funext j
  unfold rl_set
  rw [if_neg (by omega)]
theorem rl_grant_l {post : SY → Prop} {o s m t : Nat} (ho : o < 5) (hm : s + m ≤ 40) (h : post (nI q, rl_F (rl_set tb (40 * o + s) (40 * o + (s + m)) t), rl_F yw, rl_F yf, rl_F ym, rl_F yk, yo)) :
    ∀ d b, b + d = s + m → s ≤ b → wY_grant_3 post (nI o) (nI s) (nI m) (nI t) (nI q) (d + 1) (nI b) (rl_F (rl_set tb (40 * o + s) (40 * o + b) t)) (rl_F yw) (rl_F yf) (rl_F ym) (rl_F yk) yo := by
  intro d
  induction d with
  | zero =>
    intro b hb hsb
    have e : b = s + m := by omega
    subst e
    rw [wY_grant_3]
    dsimp only
    rw [nI_add]
    exact br_t (nI_le (by omega) (by omega)) h
  | succ d ih =>
    intro b hb hsb
    have e : upd (rl_F (rl_set tb (40 * o + s) (40 * o + b) t)) (nI (40 * o + b)).toNatClampNeg (nI t) = rl_F (rl_set tb (40 * o + s) (40 * o + (b + 1)) t) := by
      rw [rl_wr _ _ (by omega)]
      exact congrArg rl_F (rl_set_step tb t (by omega))
    rw [wY_grant_3]
    dsimp only
    rw [nI_add, rl_ix]
    exact br_f (nI_ge (by omega) (by omega)) ⟨vp_in_nI (by omega) (by decide), nm_r e (nm_r (nI_1 _) (ih (b + 1) (by omega) (by omega)))⟩
theorem rl_grant {post : SY → Prop} {o s m t : Nat} (ho : o < 5) (hm : s + m ≤ 40) (h : post (nI q, rl_F (rl_set tb (40 * o + s) (40 * o + (s + m)) t), rl_F yw, rl_F yf, rl_F ym, rl_F yk, yo)) : wpY_grant post (nI q, rl_F tb, rl_F yw, rl_F yf, rl_F ym, rl_F yk, yo) (nI o) (nI s) (nI m) (nI t) := by
  have k := rl_grant_l ho hm h m s rfl (Nat.le_refl s)
  rw [rl_set_0] at k
  exact ⟨_, k⟩
def rl_N (tb yw yf ym yk : Nat → Nat) (i : Nat) : Prop := ∀ p, p < 5 → ¬ rl_R tb (yw i) (yf i) (yf i + ym i) (yk i) p
theorem rl_ready_l {post : Int32 → Prop} (hT : ∀ o b, o < 5 → b < 40 → tb (40 * o + b) ≤ 2) (hq : q ≤ 5) (hb : ∀ i, i < q → yw i < 5 ∧ yf i + ym i ≤ 40 ∧ yk i ≤ 2) (K1 : ∀ i, i < q → rl_N tb yw yf ym yk i → (∀ j, j < i → ¬ rl_N tb yw yf ym yk j) → post (nI i)) (K0 : (∀ j, j < q → ¬ rl_N tb yw yf ym yk j) → post (-1)) :
    ∀ d i, i + d = q → (∀ j, j < i → ¬ rl_N tb yw yf ym yk j) → wY_ready_2 post (nI q) (rl_F tb) (rl_F yw) (rl_F yf) (rl_F ym) (rl_F yk) yo (d + 1) (nI i) := by
  intro d
  induction d with
  | zero =>
    intro i hi h
    exact br_t (nI_le (by omega) (by omega)) (K0 (fun j hj => h j (by omega)))
  | succ d ih =>
    intro i hi h
    have hw := hb i (by omega)
    have hv : vp_in (nI i) 8 := vp_in_nI (by omega) (by decide)
    rw [wY_ready_2]
    dsimp only
    rw [rl_at yw (show i < 2 ^ 31 by omega), rl_at yf (show i < 2 ^ 31 by omega), rl_at ym (show i < 2 ^ 31 by omega), rl_at yk (show i < 2 ^ 31 by omega)]
    refine br_f (nI_ge (by omega) (by omega)) (br_f (nI_ge (b := 8) (by omega) (by omega)) ⟨hv, hv, hv, hv, rl_against hT hw.1 hw.2.1 hw.2.2 _ ?_⟩)
    refine br_c (fun z => K1 i (by omega) (rl_mkI.mp z) h) (fun z => nm_r (nI_1 _) (ih (i + 1) (by omega) (fun j hj => ?_)))
    by_cases y : j = i
    · rw [y]; exact fun w => z (rl_mkI.mpr w)
    · exact h j (by omega)
theorem rl_ready {post : Int32 → Prop} (hT : ∀ o b, o < 5 → b < 40 → tb (40 * o + b) ≤ 2) (hq : q ≤ 5) (hb : ∀ i, i < q → yw i < 5 ∧ yf i + ym i ≤ 40 ∧ yk i ≤ 2) (K1 : ∀ i, i < q → rl_N tb yw yf ym yk i → (∀ j, j < i → ¬ rl_N tb yw yf ym yk j) → post (nI i)) (K0 : (∀ j, j < q → ¬ rl_N tb yw yf ym yk j) → post (-1)) : wpY_ready post (nI q, rl_F tb, rl_F yw, rl_F yf, rl_F ym, rl_F yk, yo) :=
  ⟨_, rl_ready_l hT hq hb K1 K0 q 0 (by omega) (fun j hj => absurd hj (by omega))⟩
end
end
section
/-- the two states hold the same locks, piece by piece against byte by byte, and the same requests -/
def i_Rel (k : Nat) (u : SX) (v : SY) : Prop := ∃ (n c : Nat) (eo ef el et ww wf wl wt ws : Nat → Nat) (q : Nat) (tb yw yf ym yk : Nat → Nat) (yo : Nat → Int32), u = (nI n, nI c, rl_F eo, rl_F ef, rl_F el, rl_F et, rl_F ww, rl_F wf, rl_F wl, rl_F wt, rl_F ws) ∧ v = (nI q, rl_F tb, rl_F yw, rl_F yf, rl_F ym, rl_F yk, yo) ∧ rl_P n eo ef el et tb ∧ rl_Q q yw yf ym yk ww wf wl wt ws c ∧ c ≤ k
theorem rl_el {k : Nat} {Z : SX → SY → Prop} (h : ∀ (n c : Nat) (eo ef el et ww wf wl wt ws : Nat → Nat) (q : Nat) (tb yw yf ym yk : Nat → Nat) (yo : Nat → Int32), rl_P n eo ef el et tb → rl_Q q yw yf ym yk ww wf wl wt ws c → c ≤ k → Z (nI n, nI c, rl_F eo, rl_F ef, rl_F el, rl_F et, rl_F ww, rl_F wf, rl_F wl, rl_F wt, rl_F ws) (nI q, rl_F tb, rl_F yw, rl_F yf, rl_F ym, rl_F yk, yo)) {u : SX} {v : SY} (I : i_Rel k u v) : Z u v :=
  I.elim fun n I => I.elim fun c I => I.elim fun eo I => I.elim fun ef I => I.elim fun el I => I.elim fun et I => I.elim fun ww I => I.elim fun wf I => I.elim fun wl I => I.elim fun wt I => I.elim fun ws I => I.elim fun q I => I.elim fun tb I => I.elim fun yw I => I.elim fun yf I => I.elim fun ym I => I.elim fun yk I => I.elim fun yo I => by
    rw [I.1, I.2.1]
    exact h n c eo ef el et ww wf wl wt ws q tb yw yf ym yk yo I.2.2.1 I.2.2.2.1 I.2.2.2.2
theorem rl_mkRel {k n c : Nat} {eo ef el et ww wf wl wt ws : Nat → Nat} {q : Nat} {tb yw yf ym yk : Nat → Nat} {yo : Nat → Int32} (hP : rl_P n eo ef el et tb) (hQ : rl_Q q yw yf ym yk ww wf wl wt ws c) (hc : c ≤ k) : i_Rel k (nI n, nI c, rl_F eo, rl_F ef, rl_F el, rl_F et, rl_F ww, rl_F wf, rl_F wl, rl_F wt, rl_F ws) (nI q, rl_F tb, rl_F yw, rl_F yf, rl_F ym, rl_F yk, yo) :=
  ⟨n, c, eo, ef, el, et, ww, wf, wl, wt, ws, q, tb, yw, yf, ym, yk, yo, rfl, rfl, hP, hQ, hc⟩
def rl_Bk (tb ww wf wl wt : Nat → Nat) (o p : Nat) : Prop := ww o ≠ 0 ∧ rl_R tb o (wf o) (wl o + 1) (wt o) p
def rl_Rd (tb ww wf wl wt : Nat → Nat) (o : Nat) : Prop := ww o ≠ 0 ∧ ∀ p, p < 5 → ¬ rl_R tb o (wf o) (wl o + 1) (wt o) p
section
variable {n c : Nat} {eo ef el et ww wf wl wt ws : Nat → Nat} {q : Nat} {tb yw yf ym yk : Nat → Nat} {yo : Nat → Int32}
theorem rl_blk {o : Nat} (hP : rl_P n eo ef el et tb) (hQ : rl_Q q yw yf ym yk ww wf wl wt ws c) (ho : o < 5) (post : Int32 → Prop) (hp : post (nI (rl_mk (rl_Bk tb ww wf wl wt o)))) : wpX_blockers post (nI n, nI c, rl_F eo, rl_F ef, rl_F el, rl_F et, rl_F ww, rl_F wf, rl_F wl, rl_F wt, rl_F ws) (nI o) := by
  have hw := hQ.2.1 o ho
  have h31 : o < 2 ^ 31 := by omega
  have hv : vp_in (nI o) 5 := vp_in_nI ho (by decide)
  unfold wpX_blockers
  dsimp only
  rw [rl_at ww h31, rl_at wf h31, rl_at wl h31, rl_at wt h31]
  by_cases z : ww o = 0
  · rw [rl_mk0 (fun p _ h => h.1 z)] at hp
    exact ⟨hv, br_t (congrArg nI z) hp⟩
  · have a := rl_Qok hQ ho z
    rw [show rl_mk (rl_Bk tb ww wf wl wt o) = rl_mk (rl_R tb o (wf o) (wl o + 1) (wt o)) from rl_mkc (fun p _ => ⟨fun h => h.2, fun h => ⟨z, h⟩⟩)] at hp
    exact ⟨hv, br_f (nI_ne0 (by omega) (by omega)) ⟨hv, hv, hv, rl_rivals hP ho a.1 a.2.1 a.2.2.1 a.2.2.2.1 _ hp⟩⟩
theorem rl_RdB {o : Nat} (hw : ww o ≠ 0) : nI (rl_mk (rl_Bk tb ww wf wl wt o)) = 0 ↔ rl_Rd tb ww wf wl wt o := by
  rw [rl_mkI]
  exact ⟨fun h => ⟨hw, fun p hp z => h p hp ⟨hw, z⟩⟩, fun h p hp z => h.2 p hp z.2⟩
theorem rl_find0 {post : Int32 → SX → Prop} {J : Int32 → Int32 → Int32 → Int32 → (Nat → Int32) → (Nat → Int32) → (Nat → Int32) → (Nat → Int32) → (Nat → Int32) → (Nat → Int32) → (Nat → Int32) → (Nat → Int32) → (Nat → Int32) → Prop} {x1 x2 : Int32} (hP : rl_P n eo ef el et tb) (hQ : rl_Q q yw yf ym yk ww wf wl wt ws c) (hN : ∀ o, o < 5 → ¬ rl_Rd tb ww wf wl wt o) (hp : post x1 (nI n, nI c, rl_F eo, rl_F ef, rl_F el, rl_F et, rl_F ww, rl_F wf, rl_F wl, rl_F wt, rl_F ws)) :
    ∀ d i, i + d = 5 → wX_settle_14 post J x1 x2 (nI n) (nI c) (rl_F eo) (rl_F ef) (rl_F el) (rl_F et) (rl_F ww) (rl_F wf) (rl_F wl) (rl_F wt) (rl_F ws) (d + 1) (-1) (nI i) := by
  intro d
  induction d with
  | zero =>
    intro i hi
    exact br_t (nI_le (a := 5) (by omega) (by omega)) (br_f (by decide) hp)
  | succ d ih =>
    intro i hi
    have hw := hQ.2.1 i (by omega)
    have k := ih (i + 1) (by omega)
    rw [wX_settle_14]
    dsimp only
    rw [rl_at ww (show i < 2 ^ 31 by omega)]
    refine br_f (nI_ge (b := 5) (by omega) (by omega)) ⟨vp_in_nI (by omega) (by decide), pk_eq (ww i) 0 (fun z => nm_r (nI_1 _) k) (fun z => rl_blk hP hQ (by omega) _ ?_)⟩
    exact br_f (fun w => hN i (by omega) ((rl_RdB z).mp w)) (nm_r (nI_1 _) k)
theorem rl_find1 {post : Int32 → SX → Prop} {J : Int32 → Int32 → Int32 → Int32 → (Nat → Int32) → (Nat → Int32) → (Nat → Int32) → (Nat → Int32) → (Nat → Int32) → (Nat → Int32) → (Nat → Int32) → (Nat → Int32) → (Nat → Int32) → Prop} {g x w0 n' : Nat} {eo' ef' el' et' : Nat → Nat} (hP : rl_P n eo ef el et tb) (hQ : rl_Q q yw yf ym yk ww wf wl wt ws c) (hc : c < 2 ^ 31) (h0 : w0 < 5) (h1 : rl_Rd tb ww wf wl wt w0) (h2 : ∀ o, o < 5 → rl_Rd tb ww wf wl wt o → o ≠ w0 → ws w0 < ws o)
    (hpaint : ∀ K : SX → Prop, K (nI n', nI c, rl_F eo', rl_F ef', rl_F el', rl_F et', rl_F (rl_u ww w0 0), rl_F wf, rl_F wl, rl_F wt, rl_F ws) → wpX_paint K (nI n, nI c, rl_F eo, rl_F ef, rl_F el, rl_F et, rl_F (rl_u ww w0 0), rl_F wf, rl_F wl, rl_F wt, rl_F ws) (nI w0) (nI (wf w0)) (nI (wl w0)) (nI (wt w0)))
    (hJ : J (nI (g + 1)) (nI (x + 1)) (nI n') (nI c) (rl_F eo') (rl_F ef') (rl_F el') (rl_F et') (rl_F (rl_u ww w0 0)) (rl_F wf) (rl_F wl) (rl_F wt) (rl_F ws)) :
    ∀ d i (x3 : Int32), i + d = 5 → ((x3 = -1 ∧ ∀ o, o < i → ¬ rl_Rd tb ww wf wl wt o) ∨ ∃ w, x3 = nI w ∧ w < i ∧ rl_Rd tb ww wf wl wt w ∧ (w0 < i → w = w0)) → wX_settle_14 post J (nI g) (nI x) (nI n) (nI c) (rl_F eo) (rl_F ef) (rl_F el) (rl_F et) (rl_F ww) (rl_F wf) (rl_F wl) (rl_F wt) (rl_F ws) (d + 1) x3 (nI i) := by
  intro d
  induction d with
  | zero =>
    intro i x3 hi h
    rcases h with ⟨_, h⟩ | ⟨w, rfl, hw, hr, hww⟩
    · exact absurd h1 (h w0 (by omega))
    · have e := hww (by omega)
      subst e
      have h31 : w < 2 ^ 31 := by omega
      have hv : vp_in (nI w) 5 := vp_in_nI h0 (by decide)
      rw [wX_settle_14]
      dsimp only
      rw [rl_nar0, rl_wr ww 0 h31, rl_at wf h31, rl_at wl h31, rl_at wt h31]
      exact br_t (nI_le (a := 5) (by omega) (by omega)) (br_t (nI_pos' h31) ⟨hv, nm_e ⟨hv, hv, hv, hpaint _ (nm_r (nI_1 _) (nm_r (nI_1 _) hJ))⟩⟩)
  | succ d ih =>
    intro i x3 hi h
    have hw := hQ.2.1 i (by omega)
    have h31 : i < 2 ^ 31 := by omega
    have hv : vp_in (nI i) 5 := vp_in_nI (by omega) (by decide)
    have keep : ¬ rl_Rd tb ww wf wl wt i → wX_settle_14 post J (nI g) (nI x) (nI n) (nI c) (rl_F eo) (rl_F ef) (rl_F el) (rl_F et) (rl_F ww) (rl_F wf) (rl_F wl) (rl_F wt) (rl_F ws) (d + 1) x3 (nI (i + 1)) := by
      intro hn
      have hne : w0 ≠ i := fun e => hn (e ▸ h1)
      refine ih (i + 1) x3 (by omega) ?_
      rcases h with ⟨h3, h4⟩ | ⟨w, w1, w2, w3, w4⟩
      · refine Or.inl ⟨h3, fun o ho => ?_⟩
        by_cases y : o = i
        · rw [y]; exact hn
        · exact h4 o (by omega)
      · exact Or.inr ⟨w, w1, by omega, w3, fun y => w4 (by omega)⟩
    have take : rl_Rd tb ww wf wl wt i → (w0 < i → False) → wX_settle_14 post J (nI g) (nI x) (nI n) (nI c) (rl_F eo) (rl_F ef) (rl_F el) (rl_F et) (rl_F ww) (rl_F wf) (rl_F wl) (rl_F wt) (rl_F ws) (d + 1) (nI i) (nI (i + 1)) := by
      intro hr hlt
      exact ih (i + 1) (nI i) (by omega) (Or.inr ⟨i, rfl, by omega, hr, fun y => by
        by_cases z : w0 < i
        · exact (hlt z).elim
        · omega⟩)
    rw [wX_settle_14]
    dsimp only
    rw [rl_at ww h31]
    refine br_f (nI_ge (b := 5) (by omega) (by omega)) ⟨hv, pk_eq (ww i) 0 (fun z => nm_r (nI_1 _) (keep (fun y => y.1 z))) (fun z => rl_blk hP hQ (by omega) _ ?_)⟩
    refine br_c (fun y => ?_) (fun y => nm_r (nI_1 _) (keep (fun w => y ((rl_RdB z).mpr w))))
    have hr := (rl_RdB z).mp y
    rcases h with ⟨h3, h4⟩ | ⟨w, w1, w2, w3, w4⟩
    · subst h3
      exact br_t (by decide) (nm_r (nI_1 _) (take hr (fun v => absurd h1 (h4 w0 v))))
    · subst w1
      have w31 : w < 2 ^ 31 := by omega
      have b1 := (rl_Qok hQ (show i < 5 by omega) z).2.2.2.2
      have b2 := (rl_Qok hQ (show w < 5 by omega) w3.1).2.2.2.2
      rw [rl_at ws h31, rl_at ws w31]
      refine br_f (nI_pos w31) ⟨hv, vp_in_nI (by omega) (by decide), pk_le (ws w) (ws i) (fun v => nm_r (nI_1 _) ?_) (fun v => nm_r (nI_1 _) (take hr (fun u => ?_)))⟩
      · refine ih (i + 1) (nI w) (by omega) (Or.inr ⟨w, rfl, by omega, w3, fun u => ?_⟩)
        by_cases t : w0 < i
        · exact w4 t
        · have e : w0 = i := by omega
          have := h2 w (by omega) w3 (by omega)
          rw [e] at this
          omega
      · have e := w4 u
        have := h2 i (by omega) hr (by omega)
        rw [e] at v
        omega
theorem rl_idle {post : Int32 → SY → Prop} {g : Nat} (hT : ∀ o b, o < 5 → b < 40 → tb (40 * o + b) ≤ 2) (hq : q ≤ 5) (hb : ∀ i, i < q → yw i < 5 ∧ yf i + ym i ≤ 40 ∧ yk i ≤ 2) (hN : ∀ j, j < q → ¬ rl_N tb yw yf ym yk j) (hp : post (nI g) (nI q, rl_F tb, rl_F yw, rl_F yf, rl_F ym, rl_F yk, yo)) :
    ∀ d x, x + d = 5 → wY_settle_4 post (d + 1) (nI g) (nI x) (nI q) (rl_F tb) (rl_F yw) (rl_F yf) (rl_F ym) (rl_F yk) yo := by
  intro d
  induction d with
  | zero =>
    intro x hx
    exact br_t (nI_le (a := 5) (by omega) (by omega)) hp
  | succ d ih =>
    intro x hx
    exact br_f (nI_ge (b := 5) (by omega) (by omega)) (rl_ready hT hq hb (fun i h1 h2 _ => absurd h2 (hN i h1)) (fun _ => br_t (by decide) (nm_r (nI_1 _) (ih (x + 1) (by omega)))))
theorem rl_NRd (hQ : rl_Q q yw yf ym yk ww wf wl wt ws c) {i : Nat} (hi : i < q) : rl_N tb yw yf ym yk i ↔ rl_Rd tb ww wf wl wt (yw i) := by
  have a := hQ.2.2.1 i hi
  unfold rl_N rl_Rd
  rw [a.2.2.1, a.2.2.2.1, a.2.2.2.2.1]
  exact ⟨fun h => ⟨a.2.1, h⟩, fun h => h.2⟩
end
theorem rl_settle_l {k : Nat} (hk : k < 2 ^ 31) : ∀ d x g (n c : Nat) (eo ef el et ww wf wl wt ws : Nat → Nat) (q : Nat) (tb yw yf ym yk : Nat → Nat) (yo : Nat → Int32), x + d = 5 → rl_P n eo ef el et tb → rl_Q q yw yf ym yk ww wf wl wt ws c → c ≤ k → q ≤ d →
    ∃ (r : Int32) (u' : SX) (v' : SY), i_Rel k u' v' ∧ (∀ post : Int32 → SX → Prop, post r u' → wX_settle_4 post (d + 1) (nI g) (nI x) (nI n) (nI c) (rl_F eo) (rl_F ef) (rl_F el) (rl_F et) (rl_F ww) (rl_F wf) (rl_F wl) (rl_F wt) (rl_F ws)) ∧ (∀ post : Int32 → SY → Prop, post r v' → wY_settle_4 post (d + 1) (nI g) (nI x) (nI q) (rl_F tb) (rl_F yw) (rl_F yf) (rl_F ym) (rl_F yk) yo) := by
  intro d
  induction d with
  | zero =>
    intro x g n c eo ef el et ww wf wl wt ws q tb yw yf ym yk yo hx hP hQ hc hq
    refine ⟨nI g, (nI n, nI c, rl_F eo, rl_F ef, rl_F el, rl_F et, rl_F ww, rl_F wf, rl_F wl, rl_F wt, rl_F ws), (nI q, rl_F tb, rl_F yw, rl_F yf, rl_F ym, rl_F yk, yo), rl_mkRel hP hQ hc, fun post hp => ?_, fun post hp => br_t (nI_le (a := 5) (by omega) (by omega)) hp⟩
    refine br_f (nI_nlt (a := 5) (by omega) (by omega)) ⟨_, rl_find0 hP hQ (fun o ho h => ?_) hp 5 0 (by omega)⟩
    obtain ⟨i, i1, _⟩ := hQ.2.2.2.2 o ho h.1
    omega
  | succ d ih =>
    intro x g n c eo ef el et ww wf wl wt ws q tb yw yf ym yk yo hx hP hQ hc hq
    have hT : ∀ o b, o < 5 → b < 40 → tb (40 * o + b) ≤ 2 := fun o b h1 h2 => rl_tv hP h1 h2
    have hq5 := rl_Qq hQ
    have hb : ∀ i, i < q → yw i < 5 ∧ yf i + ym i ≤ 40 ∧ yk i ≤ 2 := fun i hi => by have a := hQ.2.2.1 i hi; omega
    have h5 : ¬ (5 : Int32) < nI x := nI_nlt (a := 5) (by omega) (by omega)
    by_cases hr : ∃ i, i < q ∧ rl_N tb yw yf ym yk i
    · obtain ⟨i, ⟨i1, i2⟩, i3⟩ := pk_least _ hr
      have a := hQ.2.2.1 i i1
      have r0 := (rl_NRd (tb := tb) hQ i1).mp i2
      have r1 : ∀ o, o < 5 → rl_Rd tb ww wf wl wt o → o ≠ yw i → ws (yw i) < ws o := by
        intro o ho hro hne
        obtain ⟨j, j1, j2⟩ := hQ.2.2.2.2 o ho hro.1
        subst j2
        have hj := (rl_NRd (tb := tb) hQ j1).mpr hro
        have hji : j ≠ i := fun e => hne (by rw [e])
        by_cases z : j < i
        · exact absurd ⟨j1, hj⟩ (i3 j z)
        · exact hQ.2.2.2.1 i j (by omega) j1
      obtain ⟨n', eo', ef', el', et', p1, p2⟩ := rl_paint (c := c) (ww := rl_u ww (yw i) 0) (wf := wf) (wl := wl) (wt := wt) (ws := ws) (o := yw i) (s := wf (yw i)) (e := wl (yw i)) (t := wt (yw i)) hP (by omega) (by omega) (by omega) (by omega)
      rw [a.2.2.1, a.2.2.2.2.1, show 40 * yw i + wl (yw i) + 1 = 40 * yw i + (yf i + ym i) by omega] at p1
      obtain ⟨r, u', v', e1, e2, e3⟩ := ih (x + 1) (g + 1) n' c eo' ef' el' et' (rl_u ww (yw i) 0) wf wl wt ws (q - 1) (rl_set tb (40 * yw i + yf i) (40 * yw i + (yf i + ym i)) (yk i)) (rl_sh q i yw) (rl_sh q i yf) (rl_sh q i ym) (rl_sh q i yk) yo (by omega) p1 (rl_Qleave hQ i1) hc (by omega)
      refine ⟨r, u', v', e1, fun post hp => ?_, fun post hp => ?_⟩
      · exact br_f h5 ⟨_, rl_find1 hP hQ (by omega) a.1 r0 r1 p2 (e2 post hp) 5 0 (-1) (by omega) (Or.inl ⟨rfl, fun o ho => absurd ho (by omega)⟩)⟩
      · refine br_f (nI_ge (b := 5) (by omega) (by omega)) (rl_ready hT hq5 hb (fun j j1 j2 j3 => ?_) (fun h => absurd i2 (h i i1)))
        have e : j = i := by
          rcases Nat.lt_trichotomy j i with z | z | z
          · exact absurd ⟨j1, j2⟩ (i3 j z)
          · exact z
          · exact absurd i2 (j3 i z)
        subst e
        have h31 : j < 2 ^ 31 := by omega
        have hv : vp_in (nI j) 8 := vp_in_nI (by omega) (by decide)
        dsimp only
        rw [rl_at yw h31, rl_at yf h31, rl_at ym h31, rl_at yk h31]
        exact br_f (nI_pos h31) ⟨hv, hv, hv, hv, rl_grant a.1 (by omega) (rl_leave hq5 i1 (nm_r (nI_1 _) (nm_r (nI_1 _) (e3 post hp))))⟩
    · have hN : ∀ j, j < q → ¬ rl_N tb yw yf ym yk j := fun j hj h => hr ⟨j, hj, h⟩
      refine ⟨nI g, (nI n, nI c, rl_F eo, rl_F ef, rl_F el, rl_F et, rl_F ww, rl_F wf, rl_F wl, rl_F wt, rl_F ws), (nI q, rl_F tb, rl_F yw, rl_F yf, rl_F ym, rl_F yk, yo), rl_mkRel hP hQ hc, fun post hp => ?_, fun post hp => rl_idle hT hq5 hb hN hp (d + 1) x (by omega)⟩
      refine br_f h5 ⟨_, rl_find0 hP hQ (fun o ho h => ?_) hp 5 0 (by omega)⟩
      obtain ⟨j, j1, j2⟩ := hQ.2.2.2.2 o ho h.1
      subst j2
      exact hN j j1 ((rl_NRd hQ j1).mpr h)
theorem rl_settle {k n c : Nat} {eo ef el et ww wf wl wt ws : Nat → Nat} {q : Nat} {tb yw yf ym yk : Nat → Nat} {yo : Nat → Int32} (hk : k < 2 ^ 31) (hP : rl_P n eo ef el et tb) (hQ : rl_Q q yw yf ym yk ww wf wl wt ws c) (hc : c ≤ k) :
    ∃ (r : Int32) (u' : SX) (v' : SY), i_Rel k u' v' ∧ (∀ post : Int32 → SX → Prop, post r u' → wpX_settle post (nI n, nI c, rl_F eo, rl_F ef, rl_F el, rl_F et, rl_F ww, rl_F wf, rl_F wl, rl_F wt, rl_F ws)) ∧ (∀ post : Int32 → SY → Prop, post r v' → wpY_settle post (nI q, rl_F tb, rl_F yw, rl_F yf, rl_F ym, rl_F yk, yo)) := by
  obtain ⟨r, u', v', e1, e2, e3⟩ := rl_settle_l hk 5 0 0 n c eo ef el et ww wf wl wt ws q tb yw yf ym yk yo rfl hP hQ hc (rl_Qq hQ)
  exact ⟨r, u', v', e1, fun post hp => ⟨_, e2 post hp⟩, fun post hp => ⟨_, e3 post hp⟩⟩
end
section
/-! reaching: sets of owners, E a b: a waits for b -/
def rl_cls (E : Nat → Nat → Prop) (Z : Nat → Prop) : Prop := ∀ a b, a < 5 → b < 5 → Z a → E a b → Z b
def rl_snd (E : Nat → Nat → Prop) (R R' : Nat → Prop) : Prop := ∀ Z, rl_cls E Z → (∀ p, p < 5 → R p → Z p) → ∀ p, p < 5 → R' p → Z p
def rl_good (E : Nat → Nat → Prop) (i : Nat) (R R' : Nat → Prop) : Prop := (∀ p, R p → R' p) ∧ rl_snd E R R' ∧ (∀ a b, i ≤ a → a < 5 → R a → E a b → R' b)
def rl_prog (E : Nat → Nat → Prop) (x : Nat) (R : Nat → Prop) : Prop := rl_cls E R ∨ x ≤ rl_ct R 5
theorem rl_prog5 {E : Nat → Nat → Prop} {R : Nat → Prop} (h : rl_prog E 5 R) : rl_cls E R := by
  rcases h with h | h
  · exact h
  · intro a b _ hb _ _
    exact rl_cf h b hb
theorem rl_progS {E : Nat → Nat → Prop} {x : Nat} {R R' : Nat → Prop} (h : rl_prog E x R) (g : rl_good E 0 R R') : rl_prog E (x + 1) R' := by
  obtain ⟨g1, g2, g3⟩ := g
  by_cases z : ∃ p, p < 5 ∧ R' p ∧ ¬ R p
  · obtain ⟨p, p1, p2, p3⟩ := z
    rcases h with h | h
    · exact absurd (g2 R h (fun _ _ y => y) p p1 p2) p3
    · exact Or.inr (Nat.le_trans (Nat.succ_le_succ h) (rl_cl p2 p3 p1 (fun y _ hy => g1 y hy)))
  · refine Or.inl (fun a b ha hb hR hE => ?_)
    have w : R a := by
      by_cases y : R a
      · exact y
      · exact absurd ⟨a, ha, hR, y⟩ z
    exact g3 a b (by omega) ha w hE
theorem rl_sndT {E : Nat → Nat → Prop} {R R1 R2 : Nat → Prop} (h1 : rl_snd E R R1) (h2 : rl_snd E R1 R2) : rl_snd E R R2 :=
  fun Z hZ hR p hp h => h2 Z hZ (fun p hp h => h1 Z hZ hR p hp h) p hp h
theorem rl_same {E : Nat → Nat → Prop} {S R' R'' : Nat → Prop} {o : Nat} (ho : o < 5) (hS : ¬ S o) (m1 : ∀ p, S p → R' p) (s1 : rl_snd E S R') (c1 : rl_cls E R')
    (m2 : ∀ p, (∃ a, a < 5 ∧ S a ∧ E a p) → R'' p) (s2 : rl_snd E (fun p => ∃ a, a < 5 ∧ S a ∧ E a p) R'') (c2 : rl_cls E R'') : R' o ↔ R'' o := by
  constructor
  · intro h
    have k := s1 (fun p => S p ∨ R'' p) (fun a b ha hb hz he => by
      rcases hz with hz | hz
      · exact Or.inr (m2 b ⟨a, ha, hz, he⟩)
      · exact Or.inr (c2 a b ha hb hz he)) (fun p _ hp => Or.inl hp) o ho h
    exact k.elim (fun y => absurd y hS) id
  · intro h
    exact s2 R' c1 (fun p hp ⟨a, ha, hs, he⟩ => c1 a p ha hp (m1 a hs) he) o ho h
section
variable {n c : Nat} {eo ef el et ww wf wl wt ws : Nat → Nat} {q : Nat} {tb yw yf ym yk : Nat → Nat} {yo : Nat → Int32}
theorem rl_lead_in (hP : rl_P n eo ef el et tb) (hQ : rl_Q q yw yf ym yk ww wf wl wt ws c) :
    ∀ d i (R : Nat → Prop), i + d = 5 → ∃ R', rl_good (rl_Bk tb ww wf wl wt) i R R' ∧ ∀ (post : Int32 → Prop) (J : Int32 → Int32 → Prop) (x2 : Int32) (x : Nat), J (nI (rl_mk R')) (nI (x + 1)) → wX_leadsTo_14 post J x2 (nI x) (nI n) (nI c) (rl_F eo) (rl_F ef) (rl_F el) (rl_F et) (rl_F ww) (rl_F wf) (rl_F wl) (rl_F wt) (rl_F ws) (d + 1) (nI (rl_mk R)) (nI i) := by
  intro d
  induction d with
  | zero =>
    intro i R hi
    refine ⟨R, ⟨fun _ h => h, fun Z _ hR => hR, fun a b h1 h2 => absurd h1 (by omega)⟩, fun post J x2 x hJ => ?_⟩
    exact br_t (nI_le (a := 5) (by omega) (by omega)) (nm_r (nI_1 _) hJ)
  | succ d ih =>
    intro i R hi
    have h5 : ¬ (5 : Int32) ≤ nI i := nI_ge (b := 5) (by omega) (by omega)
    by_cases z : R i
    · obtain ⟨R', ⟨g1, g2, g3⟩, k⟩ := ih (i + 1) (fun p => R p ∨ rl_Bk tb ww wf wl wt i p) (by omega)
      refine ⟨R', ⟨fun p h => g1 p (Or.inl h), ?_, ?_⟩, fun post J x2 x hJ => ?_⟩
      · intro Z hZ hR p hp h
        refine g2 Z hZ (fun p hp y => ?_) p hp h
        rcases y with y | y
        · exact hR p hp y
        · exact hZ i p (by omega) hp (hR i (by omega) z) y
      · intro a b h1 h2 h3 h4
        by_cases y : a = i
        · rw [y] at h4; exact g1 b (Or.inr h4)
        · exact g3 a b (by omega) h2 (Or.inl h3) h4
      · refine br_f h5 (br_t ((rl_mkb R (by omega)).mpr z) (rl_blk hP hQ (by omega) _ (nm_r (rl_mk2 _ _) (nm_r (nI_1 _) (k post J x2 x hJ)))))
    · obtain ⟨R', ⟨g1, g2, g3⟩, k⟩ := ih (i + 1) R (by omega)
      refine ⟨R', ⟨g1, g2, ?_⟩, fun post J x2 x hJ => ?_⟩
      · intro a b h1 h2 h3 h4
        by_cases y : a = i
        · rw [y] at h3; exact absurd h3 z
        · exact g3 a b (by omega) h2 h3 h4
      · exact br_f h5 (br_f (fun w => z ((rl_mkb R (by omega)).mp w)) (nm_r (nI_1 _) (k post J x2 x hJ)))
theorem rl_lead_out {o : Nat} (hP : rl_P n eo ef el et tb) (hQ : rl_Q q yw yf ym yk ww wf wl wt ws c) (ho : o < 5) :
    ∀ d x (R : Nat → Prop), x + d = 5 → rl_prog (rl_Bk tb ww wf wl wt) x R → ∃ R', (∀ p, R p → R' p) ∧ rl_snd (rl_Bk tb ww wf wl wt) R R' ∧ rl_cls (rl_Bk tb ww wf wl wt) R' ∧ ∀ post : Int32 → Prop, (R' o → post 1) → (¬ R' o → post 0) → wX_leadsTo_5 post (nI o) (nI n) (nI c) (rl_F eo) (rl_F ef) (rl_F el) (rl_F et) (rl_F ww) (rl_F wf) (rl_F wl) (rl_F wt) (rl_F ws) (d + 1) (nI (rl_mk R)) (nI x) := by
  intro d
  induction d with
  | zero =>
    intro x R hx hp
    have e : x = 5 := by omega
    subst e
    refine ⟨R, fun _ h => h, fun Z _ hR => hR, rl_prog5 hp, fun post h1 h0 => ?_⟩
    exact br_t (nI_le (a := 5) (by omega) (by omega)) (br_c (fun h => h1 ((rl_mkb R ho).mp h)) (fun h => h0 (fun w => h ((rl_mkb R ho).mpr w))))
  | succ d ih =>
    intro x R hx hp
    obtain ⟨R1, g, k⟩ := rl_lead_in (eo := eo) (c := c) hP hQ 5 0 R (by omega)
    obtain ⟨R', r1, r2, r3, r4⟩ := ih (x + 1) R1 (by omega) (rl_progS hp g)
    refine ⟨R', fun p h => r1 p (g.1 p h), rl_sndT g.2.1 r2, r3, fun post h1 h0 => ?_⟩
    exact br_f (nI_ge (b := 5) (by omega) (by omega)) ⟨_, k post _ (nI o) x (r4 post h1 h0)⟩
theorem rl_lead {o : Nat} (hP : rl_P n eo ef el et tb) (hQ : rl_Q q yw yf ym yk ww wf wl wt ws c) (ho : o < 5) (S : Nat → Prop) :
    ∃ R', (∀ p, S p → R' p) ∧ rl_snd (rl_Bk tb ww wf wl wt) S R' ∧ rl_cls (rl_Bk tb ww wf wl wt) R' ∧ ∀ post : Int32 → Prop, (R' o → post 1) → (¬ R' o → post 0) → wpX_leadsTo post (nI n, nI c, rl_F eo, rl_F ef, rl_F el, rl_F et, rl_F ww, rl_F wf, rl_F wl, rl_F wt, rl_F ws) (nI (rl_mk S)) (nI o) := by
  obtain ⟨R', r1, r2, r3, r4⟩ := rl_lead_out (c := c) hP hQ ho 5 0 S (by omega) (Or.inr (Nat.zero_le _))
  exact ⟨R', r1, r2, r3, fun post h1 h0 => ⟨_, r4 post h1 h0⟩⟩

theorem rl_cir_in {E : Nat → Nat → Prop} (hE : ∀ p, p < 5 → yo p = nI (rl_mk (E p))) (R0 : Nat → Prop) :
    ∀ d i (R : Nat → Prop), i + d = 5 → (∀ p, R0 p → R p) → ∃ R', (∀ p, R p → R' p) ∧ (∀ Z, rl_cls E Z → (∀ p, p < 5 → R p → Z p) → ∀ p, p < 5 → R' p → Z p) ∧ (∀ a b, i ≤ a → a < 5 → R0 a → E a b → R' b) ∧ ∀ (post : Int32 → SY → Prop) (J : Int32 → Int32 → Prop) (x1 : Int32) (x : Nat), J (nI (rl_mk R')) (nI (x + 1)) → wY_circles_148 post J x1 (nI (rl_mk R0)) (nI x) (nI q) (rl_F tb) (rl_F yw) (rl_F yf) (rl_F ym) (rl_F yk) yo (d + 1) (nI (rl_mk R)) (nI i) := by
  intro d
  induction d with
  | zero =>
    intro i R hi hR0
    refine ⟨R, fun _ h => h, fun Z _ hR => hR, fun a b h1 h2 => absurd h1 (by omega), fun post J x1 x hJ => ?_⟩
    exact br_t (nI_le (a := 5) (by omega) (by omega)) (nm_r (nI_1 _) hJ)
  | succ d ih =>
    intro i R hi hR0
    have h5 : ¬ (5 : Int32) ≤ nI i := nI_ge (b := 5) (by omega) (by omega)
    by_cases z : R0 i
    · obtain ⟨R', g1, g2, g3, k⟩ := ih (i + 1) (fun p => R p ∨ E i p) (by omega) (fun p h => Or.inl (hR0 p h))
      refine ⟨R', fun p h => g1 p (Or.inl h), ?_, ?_, fun post J x1 x hJ => ?_⟩
      · intro Z hZ hR p hp h
        refine g2 Z hZ (fun p hp y => ?_) p hp h
        rcases y with y | y
        · exact hR p hp y
        · exact hZ i p (by omega) hp (hR i (by omega) (hR0 i z)) y
      · intro a b h1 h2 h3 h4
        by_cases y : a = i
        · rw [y] at h4; exact g1 b (Or.inr h4)
        · exact g3 a b (by omega) h2 h3 h4
      · rw [wY_circles_148]
        dsimp only
        rw [nI_clamp (show i < 2 ^ 31 by omega), hE i (by omega)]
        exact br_f h5 (br_t ((rl_mkb R0 (by omega)).mpr z) ⟨vp_in_nI (by omega) (by decide), nm_r (rl_mk2 _ _) (nm_r (nI_1 _) (k post J x1 x hJ))⟩)
    · obtain ⟨R', g1, g2, g3, k⟩ := ih (i + 1) R (by omega) hR0
      refine ⟨R', g1, g2, ?_, fun post J x1 x hJ => ?_⟩
      · intro a b h1 h2 h3 h4
        by_cases y : a = i
        · rw [y] at h3; exact absurd h3 z
        · exact g3 a b (by omega) h2 h3 h4
      · exact br_f h5 (br_f (fun w => z ((rl_mkb R0 (by omega)).mp w)) (nm_r (nI_1 _) (k post J x1 x hJ)))
theorem rl_cir_out {E : Nat → Nat → Prop} {o : Nat} (hE : ∀ p, p < 5 → yo p = nI (rl_mk (E p))) (ho : o < 5) :
    ∀ d x (R : Nat → Prop), x + d = 5 → rl_prog E x R → ∃ R', (∀ p, R p → R' p) ∧ rl_snd E R R' ∧ rl_cls E R' ∧ ∀ post : Int32 → SY → Prop, (R' o → post 1 (nI q, rl_F tb, rl_F yw, rl_F yf, rl_F ym, rl_F yk, yo)) → (¬ R' o → post 0 (nI q, rl_F tb, rl_F yw, rl_F yf, rl_F ym, rl_F yk, yo)) → wY_circles_136 post (nI o) (nI q) (rl_F tb) (rl_F yw) (rl_F yf) (rl_F ym) (rl_F yk) yo (d + 1) (nI (rl_mk R)) (nI x) := by
  intro d
  induction d with
  | zero =>
    intro x R hx hp
    have e : x = 5 := by omega
    subst e
    refine ⟨R, fun _ h => h, fun Z _ hR => hR, rl_prog5 hp, fun post h1 h0 => ?_⟩
    exact br_t (nI_le (a := 5) (by omega) (by omega)) (br_c (fun h => h1 ((rl_mkb R ho).mp h)) (fun h => h0 (fun w => h ((rl_mkb R ho).mpr w))))
  | succ d ih =>
    intro x R hx hp
    obtain ⟨R1, g1, g2, g3, k⟩ := rl_cir_in (q := q) (tb := tb) (yw := yw) (yf := yf) (ym := ym) (yk := yk) hE R 5 0 R (by omega) (fun _ h => h)
    obtain ⟨R', r1, r2, r3, r4⟩ := ih (x + 1) R1 (by omega) (rl_progS hp ⟨g1, g2, g3⟩)
    refine ⟨R', fun p h => r1 p (g1 p h), rl_sndT g2 r2, r3, fun post h1 h0 => ?_⟩
    exact br_f (nI_ge (b := 5) (by omega) (by omega)) ⟨_, k post _ (nI o) x (r4 post h1 h0)⟩
theorem rl_cir_fst {E : Nat → Nat → Prop} {S : Nat → Prop} {post : Int32 → SY → Prop} {x1 : Int32} (hE : ∀ p, p < 5 → yo p = nI (rl_mk (E p))) (K : ∃ m, wY_circles_136 post x1 (nI q) (rl_F tb) (rl_F yw) (rl_F yf) (rl_F ym) (rl_F yk) yo m (nI (rl_mk (fun p => ∃ a, a < 5 ∧ S a ∧ E a p))) 0) :
    ∀ d i, i + d = 5 → wY_circles_101 post x1 (nI (rl_mk S)) (nI q) (rl_F tb) (rl_F yw) (rl_F yf) (rl_F ym) (rl_F yk) yo (d + 1) (nI (rl_mk (fun p => ∃ a, a < i ∧ S a ∧ E a p))) (nI i) := by
  intro d
  induction d with
  | zero =>
    intro i hi
    have e : i = 5 := by omega
    subst e
    exact br_t (nI_le (a := 5) (by omega) (by omega)) K
  | succ d ih =>
    intro i hi
    have h5 : ¬ (5 : Int32) ≤ nI i := nI_ge (b := 5) (by omega) (by omega)
    have k := ih (i + 1) (by omega)
    by_cases z : S i
    · rw [wY_circles_101]
      dsimp only
      rw [nI_clamp (show i < 2 ^ 31 by omega), hE i (by omega)]
      refine br_f h5 (br_t ((rl_mkb S (by omega)).mpr z) ⟨vp_in_nI (by omega) (by decide), nm_r ((rl_mk2 _ _).trans (congrArg nI (rl_mkc (Q := fun p => ∃ a, a < i + 1 ∧ S a ∧ E a p) (fun p hp => ?_)))) (nm_r (nI_1 _) k)⟩)
      constructor
      · rintro (⟨a, a1, a2, a3⟩ | h)
        · exact ⟨a, by omega, a2, a3⟩
        · exact ⟨i, by omega, z, h⟩
      · rintro ⟨a, a1, a2, a3⟩
        by_cases y : a = i
        · rw [y] at a3; exact Or.inr a3
        · exact Or.inl ⟨a, by omega, a2, a3⟩
    · rw [show rl_mk (fun p => ∃ a, a < i + 1 ∧ S a ∧ E a p) = rl_mk (fun p => ∃ a, a < i ∧ S a ∧ E a p) from rl_mkc (fun p hp => ?_)] at k
      · exact br_f h5 (br_f (fun w => z ((rl_mkb S (by omega)).mp w)) (nm_r (nI_1 _) k))
      · constructor
        · rintro ⟨a, a1, a2, a3⟩
          by_cases y : a = i
          · rw [y] at a2; exact absurd a2 z
          · exact ⟨a, by omega, a2, a3⟩
        · rintro ⟨a, a1, a2, a3⟩
          exact ⟨a, by omega, a2, a3⟩
theorem rl_and7 : ∀ w, w < 5 → nI w &&& 7 = nI w := by decide +kernel
theorem rl_cir_fill {post : Int32 → SY → Prop} {x1 x2 x3 : Int32} (hT : ∀ o b, o < 5 → b < 40 → tb (40 * o + b) ≤ 2) (hQ : rl_Q q yw yf ym yk ww wf wl wt ws c) (K : ∀ yo : Nat → Int32, (∀ p, p < 5 → yo p = nI (rl_mk (rl_Bk tb ww wf wl wt p))) → ∃ m, wY_circles_101 post x1 x2 (nI q) (rl_F tb) (rl_F yw) (rl_F yf) (rl_F ym) (rl_F yk) yo m x3 0) :
    ∀ d i (yo : Nat → Int32), i + d = q → (∀ j, j < i → yo (yw j) = nI (rl_mk (rl_Bk tb ww wf wl wt (yw j)))) → (∀ p, p < 5 → (∀ j, j < i → yw j ≠ p) → yo p = 0) → wY_circles_29 post x1 x2 x3 (nI q) (d + 1) (nI i) (rl_F tb) (rl_F yw) (rl_F yf) (rl_F ym) (rl_F yk) yo := by
  have hq := rl_Qq hQ
  intro d
  induction d with
  | zero =>
    intro i yo hi h1 h2
    refine br_t (nI_le (by omega) (by omega)) (K yo (fun p hp => ?_))
    by_cases z : ww p = 0
    · rw [rl_mk0 (fun r _ h => h.1 z)]
      refine h2 p hp (fun j hj e => ?_)
      exact (hQ.2.2.1 j (by omega)).2.1 (by rw [e]; exact z)
    · obtain ⟨j, j1, j2⟩ := hQ.2.2.2.2 p hp z
      have := h1 j (by omega)
      rw [j2] at this
      exact this
  | succ d ih =>
    intro i yo hi h1 h2
    have a := hQ.2.2.1 i (by omega)
    have h31 : i < 2 ^ 31 := by omega
    have hv : vp_in (nI i) 8 := vp_in_nI (by omega) (by decide)
    rw [wY_circles_29]
    dsimp only
    rw [rl_at yw h31, rl_at yf h31, rl_at ym h31, rl_at yk h31, rl_and7 _ a.1]
    refine br_f (nI_ge (by omega) (by omega)) (br_f (nI_ge (b := 8) (by omega) (by omega)) ⟨hv, hv, hv, hv, hv, rl_against hT a.1 (by omega) (by omega) _ ⟨vp_in_nI (by omega) (by decide), nm_e (nm_r (nI_1 _) (ih (i + 1) _ (by omega) ?_ ?_))⟩⟩)
    · intro j hj
      rw [nI_clamp (by omega)]
      by_cases y : j = i
      · rw [y, pk_us]
        refine congrArg nI (rl_mkc (fun p hp => ?_))
        unfold rl_Bk
        rw [a.2.2.1, a.2.2.2.1, a.2.2.2.2.1]
        exact ⟨fun h => ⟨a.2.1, h⟩, fun h => h.2⟩
      · rw [pk_un (fun e => y (rl_Qinj hQ (by omega) (by omega) e))]
        exact h1 j (by omega)
    · intro p hp h
      rw [nI_clamp (by omega), pk_un (fun e => h i (by omega) e.symm)]
      exact h2 p hp (fun j hj => h j (by omega))
theorem rl_cir_zero {post : Int32 → SY → Prop} {x1 x2 x3 : Int32} (K : ∀ yo : Nat → Int32, (∀ p, p < 8 → yo p = 0) → ∃ m, wY_circles_29 post x1 x2 x3 (nI q) m 0 (rl_F tb) (rl_F yw) (rl_F yf) (rl_F ym) (rl_F yk) yo) :
    ∀ d i (yo : Nat → Int32), i + d = 8 → (∀ p, p < i → yo p = 0) → wY_circles_5 post x1 x2 x3 (nI q) (d + 1) (nI i) (rl_F tb) (rl_F yw) (rl_F yf) (rl_F ym) (rl_F yk) yo := by
  intro d
  induction d with
  | zero =>
    intro i yo hi h
    exact br_t (nI_le (a := 8) (by omega) (by omega)) (K yo (fun p hp => h p (by omega)))
  | succ d ih =>
    intro i yo hi h
    refine br_f (nI_ge (b := 8) (by omega) (by omega)) ⟨vp_in_nI (by omega) (by decide), nm_e (nm_r (nI_1 _) (ih (i + 1) _ (by omega) (fun p hp => ?_)))⟩
    rw [nI_clamp (by omega)]
    by_cases y : p = i
    · rw [y, pk_us]
    · rw [pk_un y]; exact h p (by omega)
theorem rl_circles {o : Nat} (hT : ∀ o b, o < 5 → b < 40 → tb (40 * o + b) ≤ 2) (hQ : rl_Q q yw yf ym yk ww wf wl wt ws c) (ho : o < 5) (S : Nat → Prop) :
    ∃ R', (∀ p, (∃ a, a < 5 ∧ S a ∧ rl_Bk tb ww wf wl wt a p) → R' p) ∧ rl_snd (rl_Bk tb ww wf wl wt) (fun p => ∃ a, a < 5 ∧ S a ∧ rl_Bk tb ww wf wl wt a p) R' ∧ rl_cls (rl_Bk tb ww wf wl wt) R' ∧
    ∀ post : Int32 → SY → Prop, (R' o → ∀ yo : Nat → Int32, post 1 (nI q, rl_F tb, rl_F yw, rl_F yf, rl_F ym, rl_F yk, yo)) → (¬ R' o → ∀ yo : Nat → Int32, post 0 (nI q, rl_F tb, rl_F yw, rl_F yf, rl_F ym, rl_F yk, yo)) → wpY_circles post (nI q, rl_F tb, rl_F yw, rl_F yf, rl_F ym, rl_F yk, yo) (nI o) (nI (rl_mk S)) := by
  obtain ⟨R', r1, r2, r3, _⟩ := rl_cir_out (q := q) (tb := tb) (yw := yw) (yf := yf) (ym := ym) (yk := yk) (yo := fun p => nI (rl_mk (rl_Bk tb ww wf wl wt p))) (E := rl_Bk tb ww wf wl wt) (fun _ _ => rfl) ho 5 0 (fun p => ∃ a, a < 5 ∧ S a ∧ rl_Bk tb ww wf wl wt a p) (by omega) (Or.inr (Nat.zero_le _))
  refine ⟨R', r1, r2, r3, fun post h1 h0 => ⟨9, rl_cir_zero (fun yo hz => ⟨_, rl_cir_fill hT hQ (fun yo hE => ?_) q 0 yo (by omega) (fun j hj => absurd hj (by omega)) (fun p hp _ => hz p (by omega))⟩) 8 0 yo rfl (fun p hp => absurd hp (by omega))⟩⟩
  obtain ⟨Q', q1, q2, q3, q4⟩ := rl_cir_out (q := q) (tb := tb) (yw := yw) (yf := yf) (ym := ym) (yk := yk) (E := rl_Bk tb ww wf wl wt) hE ho 5 0 (fun p => ∃ a, a < 5 ∧ S a ∧ rl_Bk tb ww wf wl wt a p) (by omega) (Or.inr (Nat.zero_le _))
  have f1 : Q' o → R' o := fun h => q2 R' r3 (fun p _ h => r1 p h) o ho h
  have f2 : R' o → Q' o := fun h => r2 Q' q3 (fun p _ h => q1 p h) o ho h
  have k := rl_cir_fst (q := q) (tb := tb) (yw := yw) (yf := yf) (ym := ym) (yk := yk) (S := S) hE ⟨_, q4 post (fun h => h1 (f1 h) yo) (fun h => h0 (fun w => h (f2 w)) yo)⟩ 5 0 (by omega)
  rw [rl_mk0 (P := fun p => ∃ a, a < 0 ∧ S a ∧ rl_Bk tb ww wf wl wt a p) (fun p _ => by rintro ⟨a, a1, _⟩; omega)] at k
  exact ⟨_, k⟩
end
end
section
theorem rl_owner (x : Int32) : (∃ o, o < 5 ∧ x = nI o) ∨ ((∀ post : Int32 → Prop, post 0 → wpX_isOwner post x) ∧ (∀ (post : Int32 → Prop) (u : SY), post 1 → wpY_bad post u x)) := by
  rcases pk_ix x (n := 5) (by omega) with h | h | h
  · refine Or.inr ⟨fun post hp => br_t h hp, fun post u hp => ?_⟩
    obtain ⟨a, b, c, d, e, f, g⟩ := u
    exact br_t h hp
  · have h0 : ¬ x < 0 := fun z => absurd (Int32.lt_of_le_of_lt h z) (by decide)
    have h4 : ¬ x ≤ 4 := fun z => absurd (Int32.le_trans h z) (by decide)
    refine Or.inr ⟨fun post hp => br_f h0 (br_t h hp), fun post u hp => ?_⟩
    obtain ⟨a, b, c, d, e, f, g⟩ := u
    exact br_f h0 (br_f h4 hp)
  · exact Or.inl h
theorem rl_ownX {o : Nat} {post : Int32 → Prop} (ho : o < 5) (hp : post 1) : wpX_isOwner post (nI o) :=
  br_f (nI_pos (by omega)) (br_f (nI_ge (b := 5) ho (by decide)) hp)
theorem rl_byte (x : Int32) : (∃ o, o < 40 ∧ x = nI o) ∨ ((∀ post : Int32 → Prop, post 0 → wpX_isByte post x) ∧ (∀ (post : Int32 → Prop) (u : SY), post 1 → wpY_badByte post u x)) := by
  rcases pk_ix x (n := 40) (by omega) with h | h | h
  · refine Or.inr ⟨fun post hp => br_t h hp, fun post u hp => ?_⟩
    obtain ⟨a, b, c, d, e, f, g⟩ := u
    exact br_t h hp
  · have h0 : ¬ x < 0 := fun z => absurd (Int32.lt_of_le_of_lt h z) (by decide)
    have h4 : ¬ x ≤ 39 := fun z => absurd (Int32.le_trans h z) (by decide)
    refine Or.inr ⟨fun post hp => br_f h0 (br_t h hp), fun post u hp => ?_⟩
    obtain ⟨a, b, c, d, e, f, g⟩ := u
    exact br_f h0 (br_f h4 hp)
  · exact Or.inl h
theorem rl_byteX {o : Nat} {post : Int32 → Prop} (ho : o < 40) (hp : post 1) : wpX_isByte post (nI o) :=
  br_f (nI_pos (by omega)) (br_f (nI_ge (b := 40) ho (by decide)) hp)
theorem rl_rng (x y : Int32) : (∃ s m, 1 ≤ m ∧ s + m ≤ 40 ∧ x = nI s ∧ y = nI m) ∨ ((∀ post : Int32 → Prop, post 0 → wpX_isRange post x y) ∧ (∀ (post : Int32 → Prop) (u : SY), post 1 → wpY_badRange post u x y)) := by
  by_cases a1 : y < 1
  · refine Or.inr ⟨fun post hp => br_t a1 hp, fun post u hp => ?_⟩
    obtain ⟨a, b, c, d, e, f, g⟩ := u
    exact br_t a1 hp
  · by_cases a2 : 40 < y
    · refine Or.inr ⟨fun post hp => br_f a1 (br_t a2 hp), fun post u hp => ?_⟩
      obtain ⟨a, b, c, d, e, f, g⟩ := u
      exact br_f a1 (br_t a2 hp)
    · by_cases a3 : x < 0
      · refine Or.inr ⟨fun post hp => br_f a1 (br_f a2 (br_t a3 hp)), fun post u hp => ?_⟩
        obtain ⟨a, b, c, d, e, f, g⟩ := u
        exact br_f a1 (br_f a2 (br_t a3 hp))
      · by_cases a4 : (40 - y) < x
        · refine Or.inr ⟨fun post hp => br_f a1 (br_f a2 (br_f a3 (br_t a4 hp))), fun post u hp => ?_⟩
          obtain ⟨a, b, c, d, e, f, g⟩ := u
          exact br_f a1 (br_f a2 (br_f a3 (br_f (Int32.not_le.mpr a4) hp)))
        · refine Or.inl ?_
          have y0 : ¬ y < 0 := fun h => a1 (Int32.lt_trans h (by decide))
          obtain ⟨m, hm, rfl⟩ := nI_of y0
          obtain ⟨s, hs, rfl⟩ := nI_of a3
          have e1 : 1 ≤ m := by
            by_cases z : 1 ≤ m
            · exact z
            · exact absurd (nI_lt (a := m) (b := 1) (by omega) (by omega)) a1
          have e2 : m ≤ 40 := by
            by_cases z : m ≤ 40
            · exact z
            · exact absurd (nI_lt (a := 40) (b := m) (by omega) hm) a2
          have e3 : (40 : Int32) - nI m = nI (40 - m) := pk_sub (a := 40) e2
          rw [e3] at a4
          have e4 : s ≤ 40 - m := by
            by_cases z : s ≤ 40 - m
            · exact z
            · exact absurd (nI_lt (a := 40 - m) (b := s) (by omega) hs) a4
          exact ⟨s, m, e1, by omega, rfl, rfl⟩
theorem rl_rngX {s m : Nat} {post : Int32 → Prop} (hm : 1 ≤ m) (hs : s + m ≤ 40) (hp : post 1) : wpX_isRange post (nI s) (nI m) := by
  have e3 : (40 : Int32) - nI m = nI (40 - m) := pk_sub (a := 40) (by omega)
  unfold wpX_isRange
  rw [e3]
  exact br_f (nI_nlt (b := 1) (by omega) (by omega)) (br_f (nI_nlt (a := 40) (by omega) (by omega)) (br_f (nI_pos (by omega)) (br_f (nI_nlt (by omega) (by omega)) hp)))
theorem rl_typ (x : Int32) : (∃ t, t ≤ 2 ∧ x = nI t) ∨ (x < 0 ∨ (¬ x < 0 ∧ ¬ x ≤ 2)) := by
  rcases pk_ix x (n := 3) (by omega) with h | h | ⟨t, ht, rfl⟩
  · exact Or.inr (Or.inl h)
  · exact Or.inr (Or.inr ⟨fun z => absurd (Int32.lt_of_le_of_lt h z) (by decide), fun z => absurd (Int32.le_trans h z) (by decide)⟩)
  · exact Or.inl ⟨t, by omega, rfl⟩
section
variable {n c : Nat} {eo ef el et ww wf wl wt ws : Nat → Nat} {q : Nat} {tb yw yf ym yk : Nat → Nat} {yo : Nat → Int32}
theorem rl_ownY {o : Nat} {post : Int32 → Prop} (ho : o < 5) (hp : post 0) : wpY_bad post (nI q, rl_F tb, rl_F yw, rl_F yf, rl_F ym, rl_F yk, yo) (nI o) :=
  br_f (nI_pos (by omega)) (br_t (nI_le (b := 4) (by omega) (by decide)) hp)
theorem rl_byteY {o : Nat} {post : Int32 → Prop} (ho : o < 40) (hp : post 0) : wpY_badByte post (nI q, rl_F tb, rl_F yw, rl_F yf, rl_F ym, rl_F yk, yo) (nI o) :=
  br_f (nI_pos (by omega)) (br_t (nI_le (b := 39) (by omega) (by decide)) hp)
theorem rl_rngY {s m : Nat} {post : Int32 → Prop} (hm : 1 ≤ m) (hs : s + m ≤ 40) (hp : post 0) : wpY_badRange post (nI q, rl_F tb, rl_F yw, rl_F yf, rl_F ym, rl_F yk, yo) (nI s) (nI m) := by
  have e3 : (40 : Int32) - nI m = nI (40 - m) := pk_sub (a := 40) (by omega)
  unfold wpY_badRange
  dsimp only
  rw [e3]
  exact br_f (nI_nlt (b := 1) (by omega) (by omega)) (br_f (nI_nlt (a := 40) (by omega) (by omega)) (br_f (nI_pos (by omega)) (br_t (nI_le (by omega) (by omega)) hp)))
theorem rl_refok {o s m t l : Nat} {post : Int32 → Prop} (hw : ww o ≤ 1) (ho : o < 5) (hm : 1 ≤ m) (hs : s + m ≤ 40) (hl : l ≤ t) (ht : t ≤ 2) (h0 : ww o = 0 → post 0) (h4 : ww o ≠ 0 → post (-4)) : wpX_refused post (nI n, nI c, rl_F eo, rl_F ef, rl_F el, rl_F et, rl_F ww, rl_F wf, rl_F wl, rl_F wt, rl_F ws) (nI o) (nI s) (nI m) (nI t) (nI l) := by
  unfold wpX_refused
  dsimp only
  rw [rl_at ww (show o < 2 ^ 31 by omega)]
  exact rl_ownX ho (br_f (by decide) (rl_rngX hm hs (br_f (by decide) (br_f (nI_nlt hl (by omega)) (br_t (nI_le (b := 2) ht (by decide)) ⟨vp_in_nI ho (by decide), pk_eq (ww o) 0 h0 h4⟩)))))
theorem rl_noplace (hQ : rl_Q q yw yf ym yk ww wf wl wt ws c) {o : Nat} (hw : ww o = 0) : ∀ j, j < q → yw j ≠ o :=
  fun j hj e => (hQ.2.2.1 j hj).2.1 (by rw [e]; exact hw)
theorem rl_place0 {post : Int32 → Prop} {o : Nat} (hQ : rl_Q q yw yf ym yk ww wf wl wt ws c) (ho : o < 5) (hw : ww o = 0) (hp : post (-1)) : wpY_placeOf post (nI q, rl_F tb, rl_F yw, rl_F yf, rl_F ym, rl_F yk, yo) (nI o) :=
  rl_place (rl_Qq hQ) (fun i hi => (hQ.2.2.1 i hi).1) ho (fun j hj e => absurd e (rl_noplace hQ hw j hj)) (fun _ => hp)
theorem rl_place1 {post : Int32 → Prop} {o : Nat} (hQ : rl_Q q yw yf ym yk ww wf wl wt ws c) (ho : o < 5) (hw : ww o ≠ 0) (hp : ∀ j, j < q → yw j = o → post (nI j)) : wpY_placeOf post (nI q, rl_F tb, rl_F yw, rl_F yf, rl_F ym, rl_F yk, yo) (nI o) :=
  rl_place (rl_Qq hQ) (fun i hi => (hQ.2.2.1 i hi).1) ho hp (fun h => by
    obtain ⟨j, j1, j2⟩ := hQ.2.2.2.2 o ho hw
    exact absurd j2 (h j j1))
theorem rl_ref0 (v1 v2 v3 v4 : Int32) : (∃ o s m t, o < 5 ∧ 1 ≤ m ∧ s + m ≤ 40 ∧ t ≤ 2 ∧ v1 = nI o ∧ v2 = nI s ∧ v3 = nI m ∧ v4 = nI t) ∨
    ∃ r : Int32, ¬ 0 ≤ r ∧ (∀ post : Int32 → Prop, post r → wpX_refused post (nI n, nI c, rl_F eo, rl_F ef, rl_F el, rl_F et, rl_F ww, rl_F wf, rl_F wl, rl_F wt, rl_F ws) v1 v2 v3 v4 0) ∧ (∀ post : Int32 → SY → Prop, post r (nI q, rl_F tb, rl_F yw, rl_F yf, rl_F ym, rl_F yk, yo) → wpY_lock post (nI q, rl_F tb, rl_F yw, rl_F yf, rl_F ym, rl_F yk, yo) v1 v2 v3 v4) := by
  rcases rl_owner v1 with ⟨o, ho, rfl⟩ | ⟨fX, fY⟩
  · rcases rl_rng v2 v3 with ⟨s, m, hm, hs, rfl, rfl⟩ | ⟨fX, fY⟩
    · rcases rl_typ v4 with ⟨t, ht, rfl⟩ | h | ⟨h, h'⟩
      · exact Or.inl ⟨o, s, m, t, ho, hm, hs, ht, rfl, rfl, rfl, rfl⟩
      · refine Or.inr ⟨-3, by decide, fun post hp => ?_, fun post hp => ?_⟩
        · unfold wpX_refused
          dsimp only
          exact rl_ownX ho (br_f (by decide) (rl_rngX hm hs (br_f (by decide) (br_t h hp))))
        · unfold wpY_lock
          dsimp only
          exact rl_ownY ho (br_t rfl (rl_rngY hm hs (br_t rfl (br_t h hp))))
      · refine Or.inr ⟨-3, by decide, fun post hp => ?_, fun post hp => ?_⟩
        · unfold wpX_refused
          dsimp only
          exact rl_ownX ho (br_f (by decide) (rl_rngX hm hs (br_f (by decide) (br_f h (br_f h' hp)))))
        · unfold wpY_lock
          dsimp only
          exact rl_ownY ho (br_t rfl (rl_rngY hm hs (br_t rfl (br_f h (br_f h' hp)))))
    · refine Or.inr ⟨-2, by decide, fun post hp => ?_, fun post hp => ?_⟩
      · unfold wpX_refused
        dsimp only
        exact rl_ownX ho (br_f (by decide) (fX _ (br_t rfl hp)))
      · unfold wpY_lock
        dsimp only
        exact rl_ownY ho (br_t rfl (fY _ _ (br_f (by decide) hp)))
  · refine Or.inr ⟨-1, by decide, fun post hp => ?_, fun post hp => ?_⟩
    · unfold wpX_refused
      dsimp only
      exact fX _ (br_t rfl hp)
    · unfold wpY_lock
      dsimp only
      exact fY _ _ (br_f (by decide) hp)
theorem rl_ref1 (v1 v2 v3 v4 : Int32) : (∃ o s m t, o < 5 ∧ 1 ≤ m ∧ s + m ≤ 40 ∧ 1 ≤ t ∧ t ≤ 2 ∧ v1 = nI o ∧ v2 = nI s ∧ v3 = nI m ∧ v4 = nI t) ∨
    ∃ r : Int32, ¬ 0 ≤ r ∧ (∀ post : Int32 → Prop, post r → wpX_refused post (nI n, nI c, rl_F eo, rl_F ef, rl_F el, rl_F et, rl_F ww, rl_F wf, rl_F wl, rl_F wt, rl_F ws) v1 v2 v3 v4 1) ∧ (∀ post : Int32 → SY → Prop, post r (nI q, rl_F tb, rl_F yw, rl_F yf, rl_F ym, rl_F yk, yo) → wpY_await post (nI q, rl_F tb, rl_F yw, rl_F yf, rl_F ym, rl_F yk, yo) v1 v2 v3 v4) ∧ (∀ post : Int32 → SY → Prop, post 0 (nI q, rl_F tb, rl_F yw, rl_F yf, rl_F ym, rl_F yk, yo) → wpY_wouldCircle post (nI q, rl_F tb, rl_F yw, rl_F yf, rl_F ym, rl_F yk, yo) v1 v2 v3 v4) := by
  rcases rl_owner v1 with ⟨o, ho, rfl⟩ | ⟨fX, fY⟩
  · rcases rl_rng v2 v3 with ⟨s, m, hm, hs, rfl, rfl⟩ | ⟨fX, fY⟩
    · by_cases h1 : v4 < 1
      · have z1 : ¬ v4 = 1 := fun e => by rw [e] at h1; exact absurd h1 (by decide)
        have z2 : ¬ v4 = 2 := fun e => by rw [e] at h1; exact absurd h1 (by decide)
        refine Or.inr ⟨-3, by decide, fun post hp => ?_, fun post hp => ?_, fun post hp => ?_⟩
        · unfold wpX_refused
          dsimp only
          exact rl_ownX ho (br_f (by decide) (rl_rngX hm hs (br_f (by decide) (br_t h1 hp))))
        · unfold wpY_await
          dsimp only
          exact rl_ownY ho (br_t rfl (rl_rngY hm hs (br_t rfl (br_f z1 (br_f z2 hp)))))
        · unfold wpY_wouldCircle
          dsimp only
          exact rl_ownY ho (br_t rfl (rl_rngY hm hs (br_t rfl (br_f z1 (br_f z2 hp)))))
      · rcases rl_typ v4 with ⟨t, ht, rfl⟩ | h | ⟨h, h'⟩
        · refine Or.inl ⟨o, s, m, t, ho, hm, hs, ?_, ht, rfl, rfl, rfl, rfl⟩
          by_cases z : 1 ≤ t
          · exact z
          · exact absurd (nI_lt (a := t) (b := 1) (by omega) (by omega)) h1
        · exact absurd (Int32.lt_trans h (by decide)) h1
        · have z1 : ¬ v4 = 1 := fun e => by rw [e] at h'; exact absurd (by decide) h'
          have z2 : ¬ v4 = 2 := fun e => by rw [e] at h'; exact absurd (by decide) h'
          refine Or.inr ⟨-3, by decide, fun post hp => ?_, fun post hp => ?_, fun post hp => ?_⟩
          · unfold wpX_refused
            dsimp only
            exact rl_ownX ho (br_f (by decide) (rl_rngX hm hs (br_f (by decide) (br_f h1 (br_f h' hp)))))
          · unfold wpY_await
            dsimp only
            exact rl_ownY ho (br_t rfl (rl_rngY hm hs (br_t rfl (br_f z1 (br_f z2 hp)))))
          · unfold wpY_wouldCircle
            dsimp only
            exact rl_ownY ho (br_t rfl (rl_rngY hm hs (br_t rfl (br_f z1 (br_f z2 hp)))))
    · refine Or.inr ⟨-2, by decide, fun post hp => ?_, fun post hp => ?_, fun post hp => ?_⟩
      · unfold wpX_refused
        dsimp only
        exact rl_ownX ho (br_f (by decide) (fX _ (br_t rfl hp)))
      · unfold wpY_await
        dsimp only
        exact rl_ownY ho (br_t rfl (fY _ _ (br_f (by decide) hp)))
      · unfold wpY_wouldCircle
        dsimp only
        exact rl_ownY ho (br_t rfl (fY _ _ (br_f (by decide) hp)))
  · refine Or.inr ⟨-1, by decide, fun post hp => ?_, fun post hp => ?_, fun post hp => ?_⟩
    · unfold wpX_refused
      dsimp only
      exact fX _ (br_t rfl hp)
    · unfold wpY_await
      dsimp only
      exact fY _ _ (br_f (by decide) hp)
    · unfold wpY_wouldCircle
      dsimp only
      exact fY _ _ (br_f (by decide) hp)
end
end
section
theorem i_up {k : Nat} {u : SX} {v : SY} (h : i_Rel k u v) : i_Rel (k + 5) u v :=
  rl_el (Z := fun u v => i_Rel (k + 5) u v) (fun _ _ _ _ _ _ _ _ _ _ _ _ _ _ _ _ _ _ hP hQ hc => rl_mkRel hP hQ (by omega)) h
theorem i_vc0 : wpX_init (fun u => wpY_init (fun v => i_Rel 0 u v)) :=
  ⟨0, 0, fun _ => 0, fun _ => 0, fun _ => 0, fun _ => 0, fun _ => 0, fun _ => 0, fun _ => 0, fun _ => 0, fun _ => 0, 0, fun _ => 0, fun _ => 0, fun _ => 0, fun _ => 0, fun _ => 0, fun _ => 0, rfl, rfl, rl_P0, rl_Q0, Nat.le_refl 0⟩
theorem rl_last {s m : Nat} (hm : 1 ≤ m) : nI s + nI m - 1 = nI (s + m - 1) := by rw [nI_add, rl_m1 (by omega)]
section
variable {n c : Nat} {eo ef el et ww wf wl wt ws : Nat → Nat} {q : Nat} {tb yw yf ym yk : Nat → Nat} {yo : Nat → Int32}
theorem rl_rivm {o s m t : Nat} (hP : rl_P n eo ef el et tb) (ho : o < 5) (hm : 1 ≤ m) (hs : s + m ≤ 40) (h1 : 1 ≤ t) (h2 : t ≤ 2) (post : Int32 → Prop) (hp : post (nI (rl_mk (rl_R tb o s (s + m) t)))) :
    wpX_rivals post (nI n, nI c, rl_F eo, rl_F ef, rl_F el, rl_F et, rl_F ww, rl_F wf, rl_F wl, rl_F wt, rl_F ws) (nI o) (nI s) (nI (s + m - 1)) (nI t) := by
  refine rl_rivals hP ho (by omega) (by omega) h1 h2 post ?_
  rw [show s + m - 1 + 1 = s + m by omega]
  exact hp
theorem rl_go {k o s m t : Nat} (hk : k < 2 ^ 31) (hP : rl_P n eo ef el et tb) (hQ : rl_Q q yw yf ym yk ww wf wl wt ws c) (hc : c ≤ k) (ho : o < 5) (hm : 1 ≤ m) (hs : s + m ≤ 40) (ht : t ≤ 2) :
    ∃ n' eo' ef' el' et' r u' v', i_Rel k u' v' ∧ (∀ K : SX → Prop, K (nI n', nI c, rl_F eo', rl_F ef', rl_F el', rl_F et', rl_F ww, rl_F wf, rl_F wl, rl_F wt, rl_F ws) → wpX_paint K (nI n, nI c, rl_F eo, rl_F ef, rl_F el, rl_F et, rl_F ww, rl_F wf, rl_F wl, rl_F wt, rl_F ws) (nI o) (nI s) (nI (s + m - 1)) (nI t)) ∧
    (∀ post : Int32 → SX → Prop, post r u' → wpX_settle post (nI n', nI c, rl_F eo', rl_F ef', rl_F el', rl_F et', rl_F ww, rl_F wf, rl_F wl, rl_F wt, rl_F ws)) ∧ (∀ post : Int32 → SY → Prop, post r v' → wpY_settle post (nI q, rl_F (rl_set tb (40 * o + s) (40 * o + (s + m)) t), rl_F yw, rl_F yf, rl_F ym, rl_F yk, yo)) := by
  obtain ⟨n', eo', ef', el', et', p1, p2⟩ := rl_paint (c := c) (ww := ww) (wf := wf) (wl := wl) (wt := wt) (ws := ws) (o := o) (s := s) (e := s + m - 1) (t := t) hP ho (by omega) (by omega) ht
  rw [show 40 * o + (s + m - 1) + 1 = 40 * o + (s + m) by omega] at p1
  obtain ⟨r, u', v', e1, e2, e3⟩ := rl_settle (yo := yo) hk p1 hQ hc
  exact ⟨n', eo', ef', el', et', r, u', v', e1, p2, e2, e3⟩
end
theorem i_vc_lock {k : Nat} {u : SX} {v : SY} (I : i_Rel k u v) (hk : k + 5 ≤ 2560) (v1 : Int32) (v2 : Int32) (v3 : Int32) (v4 : Int32) : wpX_lock (fun r u' => wpY_lock (fun r' v' => r' = r ∧ i_Rel (k + 5) u' v') v v1 v2 v3 v4) u v1 v2 v3 v4 := by
  refine rl_el (Z := fun u v => wpX_lock (fun r u' => wpY_lock (fun r' v' => r' = r ∧ i_Rel (k + 5) u' v') v v1 v2 v3 v4) u v1 v2 v3 v4) ?_ I
  intro n c eo ef el et ww wf wl wt ws q tb yw yf ym yk yo hP hQ hc
  rcases rl_ref0 (n := n) (c := c) (eo := eo) (ef := ef) (el := el) (et := et) (ww := ww) (wf := wf) (wl := wl) (wt := wt) (ws := ws) (q := q) (tb := tb) (yw := yw) (yf := yf) (ym := ym) (yk := yk) (yo := yo) v1 v2 v3 v4 with ⟨o, s, m, t, ho, hm, hs, ht, rfl, rfl, rfl, rfl⟩ | ⟨r, hr, fX, fY⟩
  · have hT : ∀ o b, o < 5 → b < 40 → tb (40 * o + b) ≤ 2 := fun o b h1 h2 => rl_tv hP h1 h2
    unfold wpX_lock
    dsimp only
    by_cases hw : ww o = 0
    · by_cases hR : ∀ p, p < 5 → ¬ rl_R tb o s (s + m) t p
      · obtain ⟨n', eo', ef', el', et', r, ⟨y1, y2, y3, y4, y5, y6, y7, y8, y9, y10, y11⟩, ⟨z1, z2, z3, z4, z5, z6, z7⟩, e1, e2, e3, e4⟩ := rl_go (yo := yo) (k := k + 5) (by omega) hP hQ (by omega) ho hm hs ht
        have hx : wX_lock_48 (fun r u' => wpY_lock (fun r' v' => r' = r ∧ i_Rel (k + 5) u' v') (nI q, rl_F tb, rl_F yw, rl_F yf, rl_F ym, rl_F yk, yo) (nI o) (nI s) (nI m) (nI t)) (nI o) (nI s) (nI t) (nI (s + m - 1)) (nI n) (nI c) (rl_F eo) (rl_F ef) (rl_F el) (rl_F et) (rl_F ww) (rl_F wf) (rl_F wl) (rl_F wt) (rl_F ws) := by
          unfold wX_lock_48
          refine e2 _ (e3 _ ?_)
          dsimp only
          unfold wpY_lock
          dsimp only
          exact rl_ownY ho (br_t rfl (rl_rngY hm hs (br_t rfl (br_f (nI_pos (by omega)) (br_t (nI_le (b := 2) ht (by decide)) (rl_place0 hQ ho hw (br_t (by decide) (rl_against hT ho hs ht _ (br_t (rl_mkI.mpr hR) (rl_grant ho hs (e4 _ ⟨rfl, e1⟩)))))))))))
        refine rl_refok (l := 0) (hQ.2.1 o ho) ho hm hs (Nat.zero_le _) ht (fun _ => br_t (by decide) (nm_r (rl_last hm) ?_)) (fun h => absurd hw h)
        by_cases h0 : t = 0
        · exact br_t (congrArg nI h0) hx
        · exact br_f (nI_ne0 (by omega) (by omega)) (rl_rivm hP ho hm hs (by omega) ht _ (br_t (rl_mkI.mpr hR) hx))
      · have h0 : t ≠ 0 := fun e => hR (fun p hp h => by
          obtain ⟨_, b, _, _, h⟩ := h
          unfold rl_kl at h
          omega)
        refine rl_refok (l := 0) (hQ.2.1 o ho) ho hm hs (Nat.zero_le _) ht (fun _ => br_t (by decide) (nm_r (rl_last hm) ?_)) (fun h => absurd hw h)
        refine br_f (nI_ne0 (by omega) (by omega)) (rl_rivm hP ho hm hs (by omega) ht _ (br_f (fun h => hR (rl_mkI.mp h)) ?_))
        unfold wpY_lock
        dsimp only
        exact rl_ownY ho (br_t rfl (rl_rngY hm hs (br_t rfl (br_f (nI_pos (by omega)) (br_t (nI_le (b := 2) ht (by decide)) (rl_place0 hQ ho hw (br_t (by decide) (rl_against hT ho hs ht _ (br_f (fun h => hR (rl_mkI.mp h)) ⟨rfl, rl_mkRel hP hQ (by omega)⟩)))))))))
    · refine rl_refok (l := 0) (hQ.2.1 o ho) ho hm hs (Nat.zero_le _) ht (fun h => absurd h hw) (fun _ => br_f (by decide) ?_)
      unfold wpY_lock
      dsimp only
      exact rl_ownY ho (br_t rfl (rl_rngY hm hs (br_t rfl (br_f (nI_pos (by omega)) (br_t (nI_le (b := 2) ht (by decide)) (rl_place1 hQ ho hw (fun j hj _ => br_f (nI_pos (by have := rl_Qq hQ; omega)) ⟨rfl, rl_mkRel hP hQ (by omega)⟩)))))))
  · unfold wpX_lock
    dsimp only
    exact fX _ (br_f hr (fY _ ⟨rfl, rl_mkRel hP hQ (by omega)⟩))
theorem rl_Rself {tb : Nat → Nat} {o s f t : Nat} : ¬ rl_R tb o s f t o := fun h => h.1 rfl
theorem i_vc_await {k : Nat} {u : SX} {v : SY} (I : i_Rel k u v) (hk : k + 5 ≤ 2560) (v1 : Int32) (v2 : Int32) (v3 : Int32) (v4 : Int32) : wpX_await (fun r u' => wpY_await (fun r' v' => r' = r ∧ i_Rel (k + 5) u' v') v v1 v2 v3 v4) u v1 v2 v3 v4 := by
  refine rl_el (Z := fun u v => wpX_await (fun r u' => wpY_await (fun r' v' => r' = r ∧ i_Rel (k + 5) u' v') v v1 v2 v3 v4) u v1 v2 v3 v4) ?_ I
  intro n c eo ef el et ww wf wl wt ws q tb yw yf ym yk yo hP hQ hc
  rcases rl_ref1 (n := n) (c := c) (eo := eo) (ef := ef) (el := el) (et := et) (ww := ww) (wf := wf) (wl := wl) (wt := wt) (ws := ws) (q := q) (tb := tb) (yw := yw) (yf := yf) (ym := ym) (yk := yk) (yo := yo) v1 v2 v3 v4 with ⟨o, s, m, t, ho, hm, hs, ht1, ht, rfl, rfl, rfl, rfl⟩ | ⟨r, hr, fX, fY, _⟩
  · have hT : ∀ o b, o < 5 → b < 40 → tb (40 * o + b) ≤ 2 := fun o b h1 h2 => rl_tv hP h1 h2
    have h31 : o < 2 ^ 31 := by omega
    have yg : ∀ post : Int32 → SY → Prop, wY_await_37 post (nI o) (nI s) (nI m) (nI t) (nI q) (rl_F tb) (rl_F yw) (rl_F yf) (rl_F ym) (rl_F yk) yo → wpY_await post (nI q, rl_F tb, rl_F yw, rl_F yf, rl_F ym, rl_F yk, yo) (nI o) (nI s) (nI m) (nI t) := by
      intro post h
      unfold wpY_await
      dsimp only
      exact rl_ownY ho (br_t rfl (rl_rngY hm hs (br_t rfl (pk_eq t 1 (fun _ => h) (fun z => pk_eq t 2 (fun _ => h) (fun z' => absurd ht (by omega)))))))
    unfold wpX_await
    dsimp only
    by_cases hw : ww o = 0
    · refine rl_refok (l := 1) (hQ.2.1 o ho) ho hm hs ht1 ht (fun _ => br_t (by decide) (nm_r (rl_last hm) (rl_rivm hP ho hm hs ht1 ht _ ?_))) (fun h => absurd hw h)
      by_cases hR : ∀ p, p < 5 → ¬ rl_R tb o s (s + m) t p
      · obtain ⟨n', eo', ef', el', et', r, ⟨y1, y2, y3, y4, y5, y6, y7, y8, y9, y10, y11⟩, ⟨z1, z2, z3, z4, z5, z6, z7⟩, e1, e2, e3, e4⟩ := rl_go (yo := yo) (k := k + 5) (by omega) hP hQ (by omega) ho hm hs ht
        refine br_t (rl_mkI.mpr hR) (e2 _ (e3 _ (yg _ ?_)))
        unfold wY_await_37
        exact rl_place0 hQ ho hw (br_t (by decide) (rl_against hT ho hs ht _ (br_t (rl_mkI.mpr hR) (rl_grant ho hs (e4 _ ⟨rfl, e1⟩)))))
      · have hR' : ¬ nI (rl_mk (rl_R tb o s (s + m) t)) = 0 := fun h => hR (rl_mkI.mp h)
        refine br_f hR' ?_
        obtain ⟨R1, a1, a2, a3, a4⟩ := rl_lead (c := c) hP hQ ho (rl_R tb o s (s + m) t)
        obtain ⟨R2, b1, b2, b3, b4⟩ := rl_circles (yo := yo) hT hQ ho (rl_R tb o s (s + m) t)
        have same : R1 o ↔ R2 o := rl_same ho rl_Rself a1 a2 a3 b1 b2 b3
        refine a4 _ (fun h => br_f (by decide) (yg _ ?_)) (fun h => br_t rfl ?_)
        · unfold wY_await_37
          exact rl_place0 hQ ho hw (br_t (by decide) (rl_against hT ho hs ht _ (br_f hR' (b4 _ (fun _ yo' => br_f (by decide) ⟨rfl, rl_mkRel hP hQ (by omega)⟩) (fun h' => absurd (same.mp h) h')))))
        · have hv : vp_in (nI o) 5 := vp_in_nI ho (by decide)
          obtain ⟨q4, hQ'⟩ := rl_Qjoin hQ ho hw hm hs ht1 ht
          have hq31 : q < 2 ^ 31 := by omega
          have hv8 : vp_in (nI q) 8 := vp_in_nI (by omega) (by decide)
          rw [rl_nar1, rl_wr ww 1 h31, rl_wr wf s h31, rl_wr wl (s + m - 1) h31, rl_wr wt t h31]
          refine ⟨hv, nm_e ⟨hv, nm_e ⟨hv, nm_e ⟨hv, nm_e (nm_r (nI_1 _) ⟨hv, nm_r (rl_wr ws (c + 1) h31) (yg _ ?_)⟩)⟩⟩⟩⟩
          unfold wY_await_37
          refine rl_place0 hQ ho hw (br_t (by decide) (rl_against hT ho hs ht _ (br_f hR' (b4 _ (fun h' => absurd (same.mpr h') h) (fun _ yo' => br_t rfl (br_f (nI_ge (b := 8) (by omega) (by omega)) ?_)))))) 
          rw [rl_wr yw o hq31, rl_wr yf s hq31, rl_wr ym m hq31, rl_wr yk t hq31]
          exact ⟨hv8, nm_e ⟨hv8, nm_e ⟨hv8, nm_e ⟨hv8, nm_e (nm_r (nI_1 _) ⟨rfl, rl_mkRel hP hQ' (by omega)⟩)⟩⟩⟩⟩
    · refine rl_refok (l := 1) (hQ.2.1 o ho) ho hm hs ht1 ht (fun h => absurd h hw) (fun _ => br_f (by decide) (yg _ ?_))
      unfold wY_await_37
      exact rl_place1 hQ ho hw (fun j hj _ => br_f (nI_pos (by have := rl_Qq hQ; omega)) ⟨rfl, rl_mkRel hP hQ (by omega)⟩)
  · unfold wpX_await
    dsimp only
    exact fX _ (br_f hr (fY _ ⟨rfl, rl_mkRel hP hQ (by omega)⟩))
theorem i_vc_wouldCircle {k : Nat} {u : SX} {v : SY} (I : i_Rel k u v) (hk : k + 5 ≤ 2560) (v1 : Int32) (v2 : Int32) (v3 : Int32) (v4 : Int32) : wpX_wouldCircle (fun r => wpY_wouldCircle (fun r' v' => r' = r ∧ i_Rel (k + 5) u v') v v1 v2 v3 v4) u v1 v2 v3 v4 := by
  refine rl_el (Z := fun u v => wpX_wouldCircle (fun r => wpY_wouldCircle (fun r' v' => r' = r ∧ i_Rel (k + 5) u v') v v1 v2 v3 v4) u v1 v2 v3 v4) ?_ I
  intro n c eo ef el et ww wf wl wt ws q tb yw yf ym yk yo hP hQ hc
  rcases rl_ref1 (n := n) (c := c) (eo := eo) (ef := ef) (el := el) (et := et) (ww := ww) (wf := wf) (wl := wl) (wt := wt) (ws := ws) (q := q) (tb := tb) (yw := yw) (yf := yf) (ym := ym) (yk := yk) (yo := yo) v1 v2 v3 v4 with ⟨o, s, m, t, ho, hm, hs, ht1, ht, rfl, rfl, rfl, rfl⟩ | ⟨r, hr, fX, _, fY⟩
  · have hT : ∀ o b, o < 5 → b < 40 → tb (40 * o + b) ≤ 2 := fun o b h1 h2 => rl_tv hP h1 h2
    have yg : ∀ post : Int32 → SY → Prop, wY_wouldCircle_31 post (nI o) (nI s) (nI m) (nI t) (nI q) (rl_F tb) (rl_F yw) (rl_F yf) (rl_F ym) (rl_F yk) yo → wpY_wouldCircle post (nI q, rl_F tb, rl_F yw, rl_F yf, rl_F ym, rl_F yk, yo) (nI o) (nI s) (nI m) (nI t) := by
      intro post h
      unfold wpY_wouldCircle
      dsimp only
      exact rl_ownY ho (br_t rfl (rl_rngY hm hs (br_t rfl (pk_eq t 1 (fun _ => h) (fun z => pk_eq t 2 (fun _ => h) (fun z' => absurd ht (by omega)))))))
    unfold wpX_wouldCircle
    dsimp only
    rw [rl_last hm]
    by_cases hw : ww o = 0
    · refine rl_refok (l := 1) (hQ.2.1 o ho) ho hm hs ht1 ht (fun _ => br_t (by decide) (rl_rivm hP ho hm hs ht1 ht _ ?_)) (fun h => absurd hw h)
      by_cases hR : ∀ p, p < 5 → ¬ rl_R tb o s (s + m) t p
      · refine br_t (rl_mkI.mpr hR) (yg _ ?_)
        unfold wY_wouldCircle_31
        exact rl_place0 hQ ho hw (br_t (by decide) (rl_against hT ho hs ht _ (br_t (rl_mkI.mpr hR) ⟨rfl, rl_mkRel hP hQ (by omega)⟩)))
      · have hR' : ¬ nI (rl_mk (rl_R tb o s (s + m) t)) = 0 := fun h => hR (rl_mkI.mp h)
        refine br_f hR' ?_
        obtain ⟨R1, a1, a2, a3, a4⟩ := rl_lead (c := c) hP hQ ho (rl_R tb o s (s + m) t)
        obtain ⟨R2, b1, b2, b3, b4⟩ := rl_circles (yo := yo) hT hQ ho (rl_R tb o s (s + m) t)
        have same : R1 o ↔ R2 o := rl_same ho rl_Rself a1 a2 a3 b1 b2 b3
        refine a4 _ (fun h => br_f (by decide) (yg _ ?_)) (fun h => br_t rfl (yg _ ?_))
        · unfold wY_wouldCircle_31
          exact rl_place0 hQ ho hw (br_t (by decide) (rl_against hT ho hs ht _ (br_f hR' (b4 _ (fun _ yo' => br_f (by decide) ⟨rfl, rl_mkRel hP hQ (by omega)⟩) (fun h' => absurd (same.mp h) h')))))
        · unfold wY_wouldCircle_31
          exact rl_place0 hQ ho hw (br_t (by decide) (rl_against hT ho hs ht _ (br_f hR' (b4 _ (fun h' => absurd (same.mpr h') h) (fun _ yo' => br_t rfl ⟨rfl, rl_mkRel hP hQ (by omega)⟩)))))
    · refine rl_refok (l := 1) (hQ.2.1 o ho) ho hm hs ht1 ht (fun h => absurd h hw) (fun _ => br_f (by decide) (yg _ ?_))
      unfold wY_wouldCircle_31
      exact rl_place1 hQ ho hw (fun j hj _ => br_f (nI_pos (by have := rl_Qq hQ; omega)) ⟨rfl, rl_mkRel hP hQ (by omega)⟩)
  · unfold wpX_wouldCircle
    dsimp only
    exact fX _ (br_f hr (fY _ ⟨rfl, rl_mkRel hP hQ (by omega)⟩))
end
section
theorem i_vc_cancel {k : Nat} {u : SX} {v : SY} (I : i_Rel k u v) (hk : k + 5 ≤ 2560) (v1 : Int32) : wpX_cancel (fun r u' => wpY_cancel (fun r' v' => r' = r ∧ i_Rel (k + 5) u' v') v v1) u v1 := by
  refine rl_el (Z := fun u v => wpX_cancel (fun r u' => wpY_cancel (fun r' v' => r' = r ∧ i_Rel (k + 5) u' v') v v1) u v1) ?_ I
  intro n c eo ef el et ww wf wl wt ws q tb yw yf ym yk yo hP hQ hc
  unfold wpX_cancel wpY_cancel
  dsimp only
  rcases rl_owner v1 with ⟨o, ho, rfl⟩ | ⟨fX, fY⟩
  · have h31 : o < 2 ^ 31 := by omega
    have hv : vp_in (nI o) 5 := vp_in_nI ho (by decide)
    have hw1 := hQ.2.1 o ho
    have hq := rl_Qq hQ
    rw [rl_at ww h31, rl_nar0, rl_wr ww 0 h31]
    refine rl_ownX ho (br_f (by decide) ⟨hv, pk_eq (ww o) 0 (fun hw => ?_) (fun hw => ⟨hv, nm_e ?_⟩)⟩)
    · exact rl_ownY ho (br_t rfl (rl_place0 hQ ho hw (br_f (by decide) ⟨rfl, rl_mkRel hP hQ (by omega)⟩)))
    · refine rl_ownY ho (br_t rfl (rl_place1 hQ ho hw (fun j hj e => br_t (nI_pos' (by omega)) (rl_leave hq hj ⟨rfl, ?_⟩))))
      have hQ' := rl_Qleave hQ hj
      rw [e] at hQ'
      exact rl_mkRel hP hQ' (by omega)
  · exact fX _ (br_t rfl (fY _ _ (br_f (by decide) ⟨rfl, rl_mkRel hP hQ (by omega)⟩)))
theorem i_vc_waiting {k : Nat} {u : SX} {v : SY} (I : i_Rel k u v) (hk : k + 5 ≤ 2560) (v1 : Int32) : wpX_waiting (fun r => wpY_waiting (fun r' => r' = r ∧ i_Rel (k + 5) u v) v v1) u v1 := by
  refine rl_el (Z := fun u v => wpX_waiting (fun r => wpY_waiting (fun r' => r' = r ∧ i_Rel (k + 5) u v) v v1) u v1) ?_ I
  intro n c eo ef el et ww wf wl wt ws q tb yw yf ym yk yo hP hQ hc
  unfold wpX_waiting wpY_waiting
  dsimp only
  rcases rl_owner v1 with ⟨o, ho, rfl⟩ | ⟨fX, fY⟩
  · have h31 : o < 2 ^ 31 := by omega
    have hv : vp_in (nI o) 5 := vp_in_nI ho (by decide)
    have hw1 := hQ.2.1 o ho
    have hq := rl_Qq hQ
    rw [rl_at ww h31]
    refine rl_ownX ho (br_f (by decide) ⟨hv, pk_eq (ww o) 0 (fun hw => ?_) (fun hw => ?_)⟩)
    · exact rl_ownY ho (br_t rfl (rl_place0 hQ ho hw (br_t (by decide) ⟨rfl, rl_mkRel hP hQ (by omega)⟩)))
    · exact rl_ownY ho (br_t rfl (rl_place1 hQ ho hw (fun j hj e => br_f (nI_pos (by omega)) ⟨rfl, rl_mkRel hP hQ (by omega)⟩)))
  · exact fX _ (br_t rfl (fY _ _ (br_f (by decide) ⟨rfl, rl_mkRel hP hQ (by omega)⟩)))
theorem i_vc_waitsFor {k : Nat} {u : SX} {v : SY} (I : i_Rel k u v) (hk : k + 5 ≤ 2560) (v1 : Int32) : wpX_waitsFor (fun r => wpY_waitsFor (fun r' => r' = r ∧ i_Rel (k + 5) u v) v v1) u v1 := by
  refine rl_el (Z := fun u v => wpX_waitsFor (fun r => wpY_waitsFor (fun r' => r' = r ∧ i_Rel (k + 5) u v) v v1) u v1) ?_ I
  intro n c eo ef el et ww wf wl wt ws q tb yw yf ym yk yo hP hQ hc
  unfold wpX_waitsFor wpY_waitsFor
  dsimp only
  rcases rl_owner v1 with ⟨o, ho, rfl⟩ | ⟨fX, fY⟩
  · have hT : ∀ o b, o < 5 → b < 40 → tb (40 * o + b) ≤ 2 := fun o b h1 h2 => rl_tv hP h1 h2
    have hq := rl_Qq hQ
    refine rl_ownX ho (br_f (by decide) (rl_blk hP hQ ho _ ?_))
    refine rl_ownY ho (br_t rfl ?_)
    by_cases hw : ww o = 0
    · refine rl_place0 hQ ho hw (br_f (by decide) ⟨?_, rl_mkRel hP hQ (by omega)⟩)
      rw [rl_mk0 (fun p _ h => h.1 hw)]
      rfl
    · refine rl_place1 hQ ho hw (fun j hj e => br_t (nI_pos' (by omega)) ?_)
      have h31 : j < 2 ^ 31 := by omega
      have hv : vp_in (nI j) 8 := vp_in_nI (by omega) (by decide)
      have a := hQ.2.2.1 j hj
      rw [rl_at yf h31, rl_at ym h31, rl_at yk h31]
      refine ⟨hv, hv, hv, rl_against hT ho (by omega) (by omega) _ ⟨congrArg nI (rl_mkc (fun p hp => ?_)), rl_mkRel hP hQ (by omega)⟩⟩
      unfold rl_Bk
      rw [e] at a
      rw [a.2.2.1, a.2.2.2.1, a.2.2.2.2.1]
      exact ⟨fun h => ⟨hw, h⟩, fun h => h.2⟩
  · exact fX _ (br_t rfl (fY _ _ (br_f (by decide) ⟨rfl, rl_mkRel hP hQ (by omega)⟩)))
theorem rl_ahead_ct {q c : Nat} {yw yf ym yk ww wf wl wt ws : Nat → Nat} (hQ : rl_Q q yw yf ym yk ww wf wl wt ws c) : ∀ j, j < q → rl_ct (fun p => ww p ≠ 0 ∧ ws p < ws (yw j)) 5 = j := by
  obtain ⟨h1, h2, h3, h4, h5⟩ := hQ
  have hle : ∀ i j, i < q → j < q → ws (yw i) < ws (yw j) → i < j := by
    intro i j hi hj h
    rcases Nat.lt_trichotomy i j with z | z | z
    · exact z
    · rw [z] at h; omega
    · have := h4 j i z hi; omega
  intro j
  induction j with
  | zero =>
    intro hj
    refine rl_cn (fun p hp h => ?_)
    obtain ⟨i, i1, i2⟩ := h5 p hp h.1
    have := h.2
    rw [← i2] at this
    have := hle i 0 i1 hj this
    omega
  | succ j ih =>
    intro hj
    have a : rl_ct (fun p => ww p ≠ 0 ∧ ws p < ws (yw (j + 1))) 5 = rl_ct (fun p => (ww p ≠ 0 ∧ ws p < ws (yw j)) ∨ p = yw j) 5 := by
      refine rl_cc (fun p hp => ⟨fun h => ?_, fun h => ?_⟩)
      · obtain ⟨i, i1, i2⟩ := h5 p hp h.1
        have z := h.2
        rw [← i2] at z
        have y := hle i (j + 1) i1 hj z
        by_cases w : i = j
        · right; rw [← i2, w]
        · left; refine ⟨h.1, ?_⟩; rw [← i2]; exact h4 i j (by omega) (by omega)
      · have y := h4 j (j + 1) (by omega) hj
        rcases h with h | h
        · exact ⟨h.1, by omega⟩
        · rw [h]; exact ⟨(h3 j (by omega)).2.1, y⟩
    rw [a, rl_ca (P := fun p => ww p ≠ 0 ∧ ws p < ws (yw j)) (a := yw j) (fun h => absurd h.2 (by omega)) (h3 j (by omega)).1, ih (by omega)]
section
variable {n c : Nat} {eo ef el et ww wf wl wt ws : Nat → Nat} {q : Nat} {tb yw yf ym yk : Nat → Nat} {yo : Nat → Int32}
theorem rl_ahead_l {post : Int32 → Prop} {o : Nat} (hQ : rl_Q q yw yf ym yk ww wf wl wt ws c) (hc : c < 2 ^ 31) (ho : o < 5) (hw : ww o ≠ 0) (hp : post (nI (rl_ct (fun p => ww p ≠ 0 ∧ ws p < ws o) 5))) :
    ∀ d i, i + d = 5 → wX_ahead_25 post (nI o) (nI n) (nI c) (rl_F eo) (rl_F ef) (rl_F el) (rl_F et) (rl_F ww) (rl_F wf) (rl_F wl) (rl_F wt) (rl_F ws) (d + 1) (nI (rl_ct (fun p => ww p ≠ 0 ∧ ws p < ws o) i)) (nI i) := by
  intro d
  induction d with
  | zero =>
    intro i hi
    have e : i = 5 := by omega
    subst e
    exact br_t (nI_le (a := 5) (by omega) (by omega)) hp
  | succ d ih =>
    intro i hi
    have k := ih (i + 1) (by omega)
    have k' : rl_ct (fun p => ww p ≠ 0 ∧ ws p < ws o) (i + 1) = rl_ct (fun p => ww p ≠ 0 ∧ ws p < ws o) i + rl_b (ww i ≠ 0 ∧ ws i < ws o) := rfl
    have hw1 := hQ.2.1 i (by omega)
    have hso := (rl_Qok hQ ho hw).2.2.2.2
    have hv : vp_in (nI i) 5 := vp_in_nI (by omega) (by decide)
    have hvo : vp_in (nI o) 5 := vp_in_nI ho (by decide)
    have z0 : ∀ a : Nat, nI a + 0 = nI a := fun a => nI_add a 0
    rw [wX_ahead_25]
    dsimp only
    rw [rl_at ww (show i < 2 ^ 31 by omega), rl_at ws (show i < 2 ^ 31 by omega), rl_at ws (show o < 2 ^ 31 by omega)]
    refine br_f (nI_ge (b := 5) (by omega) (by omega)) ⟨hv, ?_⟩
    by_cases hz : ww i = 0
    · rw [k', rl_b0 (fun h => h.1 hz)] at k
      exact br_t (congrArg nI hz) (nm_r (z0 _) (nm_r (nI_1 _) k))
    · have hsi := (rl_Qok hQ (show i < 5 by omega) hz).2.2.2.2
      refine br_f (nI_ne0 (by omega) (by omega)) ⟨hv, hvo, pk_le (ws o) (ws i) (fun z => nm_r (z0 _) (nm_r (nI_1 _) ?_)) (fun z => nm_r (nI_1 _) (nm_r (nI_1 _) ?_))⟩
      · rw [k', rl_b0 (fun h => absurd h.2 (by omega))] at k
        exact k
      · rw [k', rl_b1 ⟨hz, z⟩] at k
        exact k
end
theorem i_vc_ahead {k : Nat} {u : SX} {v : SY} (I : i_Rel k u v) (hk : k + 5 ≤ 2560) (v1 : Int32) : wpX_ahead (fun r => wpY_ahead (fun r' => r' = r ∧ i_Rel (k + 5) u v) v v1) u v1 := by
  refine rl_el (Z := fun u v => wpX_ahead (fun r => wpY_ahead (fun r' => r' = r ∧ i_Rel (k + 5) u v) v v1) u v1) ?_ I
  intro n c eo ef el et ww wf wl wt ws q tb yw yf ym yk yo hP hQ hc
  unfold wpX_ahead wpY_ahead
  dsimp only
  rcases rl_owner v1 with ⟨o, ho, rfl⟩ | ⟨fX, fY⟩
  · have h31 : o < 2 ^ 31 := by omega
    have hv : vp_in (nI o) 5 := vp_in_nI ho (by decide)
    have hw1 := hQ.2.1 o ho
    have hq := rl_Qq hQ
    rw [rl_at ww h31]
    refine rl_ownX ho (br_f (by decide) ⟨hv, pk_eq (ww o) 0 (fun hw => ?_) (fun hw => ⟨6, rl_ahead_l hQ (by omega) ho hw ?_ 5 0 rfl⟩)⟩)
    · exact rl_ownY ho (br_t rfl (rl_place0 hQ ho hw (br_f (by decide) ⟨rfl, rl_mkRel hP hQ (by omega)⟩)))
    · refine rl_ownY ho (br_t rfl (rl_place1 hQ ho hw (fun j hj e => br_t (nI_pos' (by omega)) ⟨?_, rl_mkRel hP hQ (by omega)⟩)))
      rw [← e, rl_ahead_ct hQ j hj]
  · exact fX _ (br_t rfl (fY _ _ (br_f (by decide) ⟨rfl, rl_mkRel hP hQ (by omega)⟩)))
end
section
section
variable {n c : Nat} {eo ef el et ww wf wl wt ws : Nat → Nat} {q : Nat} {tb yw yf ym yk : Nat → Nat} {yo : Nat → Int32}
theorem rl_pat_l {post : Int32 → Prop} {o b b0 b1 : Nat} (hP : rl_P n eo ef el et tb) (ho : o < 5) (hb : b < 40) (g0 : rl_bg n eo o b0) (g1 : rl_bg n eo (o + 1) b1)
    (K1 : ∀ k, k < n → eo k = o → ef k ≤ b → b ≤ el k → post (nI k)) (K0 : tb (40 * o + b) = 0 → post (-1)) :
    ∀ d i, i + d = b1 → b0 ≤ i → (∀ j, b0 ≤ j → j < i → ¬ (ef j ≤ b ∧ b ≤ el j)) → wX_pieceAt_15 post (nI b) (nI b1) (nI n) (nI c) (rl_F eo) (rl_F ef) (rl_F el) (rl_F et) (rl_F ww) (rl_F wf) (rl_F wl) (rl_F wt) (rl_F ws) (d + 1) (nI i) := by
  have hn := rl_n hP.1 hP.2.1
  have hb1 := g1.1
  intro d
  induction d with
  | zero =>
    intro i hi h0 h
    refine br_t (nI_le (by omega) (by omega)) (K0 ?_)
    by_cases z : tb (40 * o + b) = 0
    · exact z
    · obtain ⟨k, k1, k2, k3, k4⟩ := hP.2.2.2.2 o b ho hb z
      have a1 : b0 ≤ k := by
        by_cases y : b0 ≤ k
        · exact y
        · have := g0.2.1 k (by omega); omega
      have a2 : k < b1 := by
        by_cases y : k < b1
        · exact y
        · have := g1.2.2 k (by omega) k1; omega
      exact absurd ⟨k3, k4⟩ (h k a1 (by omega))
  | succ d ih =>
    intro i hi h0 h
    have a := hP.1 i (by omega)
    have e1 := g0.2.2 i h0 (by omega)
    have e2 := g1.2.1 i (by omega)
    have hv : vp_in (nI i) 204 := vp_in_nI (by omega) (by decide)
    have nx : ¬ (ef i ≤ b ∧ b ≤ el i) → wX_pieceAt_15 post (nI b) (nI b1) (nI n) (nI c) (rl_F eo) (rl_F ef) (rl_F el) (rl_F et) (rl_F ww) (rl_F wf) (rl_F wl) (rl_F wt) (rl_F ws) (d + 1) (nI (i + 1)) := fun z => ih (i + 1) (by omega) (by omega) (fun j j1 j2 => by
      by_cases y : j = i
      · rw [y]; exact z
      · exact h j j1 (by omega))
    rw [wX_pieceAt_15]
    dsimp only
    rw [rl_at ef (show i < 2 ^ 31 by omega), rl_at el (show i < 2 ^ 31 by omega)]
    exact br_f (nI_ge (by omega) (by omega)) ⟨hv, pk_lt b (ef i) (fun z => nm_r (nI_1 _) (nx (by omega))) (fun z => ⟨hv, pk_lt (el i) b (fun y => nm_r (nI_1 _) (nx (by omega))) (fun y => K1 i (by omega) (by omega) z y)⟩)⟩
theorem rl_pat {post : Int32 → Prop} {o b : Nat} (hP : rl_P n eo ef el et tb) (ho : o < 5) (hb : b < 40)
    (K1 : ∀ k, k < n → eo k = o → ef k ≤ b → b ≤ el k → post (nI k)) (K0 : tb (40 * o + b) = 0 → post (-1)) : wpX_pieceAt post (nI n, nI c, rl_F eo, rl_F ef, rl_F el, rl_F et, rl_F ww, rl_F wf, rl_F wl, rl_F wt, rl_F ws) (nI o) (nI b) := by
  obtain ⟨b0, g0, w0⟩ := rl_begin (c := c) (ww := ww) (wf := wf) (wl := wl) (wt := wt) (ws := ws) (o := o) hP.1 hP.2.1 (by omega)
  obtain ⟨b1, g1, w1⟩ := rl_begin (c := c) (ww := ww) (wf := wf) (wl := wl) (wt := wt) (ws := ws) (o := o + 1) hP.1 hP.2.1 (by omega)
  have hbb : b0 ≤ b1 := by
    by_cases y : b0 ≤ b1
    · exact y
    · have := g0.2.1 b1 (by omega)
      have := g1.2.2 b1 (by omega) (by have := g0.1; omega)
      omega
  unfold wpX_pieceAt
  dsimp only
  exact w1 _ _ (nI_1 o) (w0 _ _ rfl ⟨_, rl_pat_l hP ho hb g0 g1 K1 K0 (b1 - b0) b0 (by omega) (Nat.le_refl _) (fun j h1 h2 => absurd h1 (by omega))⟩)
theorem rl_holdX {post : Int32 → Prop} {b : Nat} (hP : rl_P n eo ef el et tb) (hb : b < 40) (hp : post (nI (rl_mk (fun p => tb (40 * p + b) ≠ 0)))) :
    ∀ d i, i + d = 5 → wX_holders_13 post (nI b) (nI n) (nI c) (rl_F eo) (rl_F ef) (rl_F el) (rl_F et) (rl_F ww) (rl_F wf) (rl_F wl) (rl_F wt) (rl_F ws) (d + 1) (nI (rl_mk (fun p => p < i ∧ tb (40 * p + b) ≠ 0))) (nI i) := by
  intro d
  induction d with
  | zero =>
    intro i hi
    rw [show rl_mk (fun p => tb (40 * p + b) ≠ 0) = rl_mk (fun p => p < i ∧ tb (40 * p + b) ≠ 0) from rl_mkc (fun p hp => ⟨fun h => ⟨by omega, h⟩, fun h => h.2⟩)] at hp
    exact br_t (nI_le (a := 5) (by omega) (by omega)) hp
  | succ d ih =>
    intro i hi
    have k := ih (i + 1) (by omega)
    have hn := rl_n hP.1 hP.2.1
    refine br_f (nI_ge (b := 5) (by omega) (by omega)) (rl_pat hP (by omega) hb (fun j j1 j2 j3 j4 => br_f (nI_pos (by omega)) (nm_r ((rl_mk1 _ (by omega)).trans (congrArg nI (rl_mkc (Q := fun p => p < i + 1 ∧ tb (40 * p + b) ≠ 0) (fun p hp => ?_)))) (nm_r (nI_1 _) k))) (fun z => br_t (by decide) (nm_r (nI_1 _) ?_)))
    · have e := hP.2.2.2.1 j j1 b j3 j4
      have a := hP.1 j j1
      rw [j2] at e
      constructor
      · rintro (h | h)
        · exact ⟨by omega, h.2⟩
        · rw [h]; exact ⟨by omega, by omega⟩
      · rintro ⟨h1, h2⟩
        by_cases y : p = i
        · exact Or.inr y
        · exact Or.inl ⟨by omega, h2⟩
    · rw [show rl_mk (fun p => p < i + 1 ∧ tb (40 * p + b) ≠ 0) = rl_mk (fun p => p < i ∧ tb (40 * p + b) ≠ 0) from rl_mkc (fun p hp => ⟨fun h => ⟨?_, h.2⟩, fun h => ⟨by omega, h.2⟩⟩)] at k
      · exact k
      · by_cases y : p = i
        · rw [y] at h; exact absurd z h.2
        · omega
theorem rl_holdY_l {post : Int32 → Prop} {b : Nat} (hT : ∀ o b, o < 5 → b < 40 → tb (40 * o + b) ≤ 2) (hb : b < 40) (hp : post (nI (rl_mk (fun p => tb (40 * p + b) ≠ 0)))) :
    ∀ d i, i + d = 5 → wY_holders_14 post (nI b) (nI q) (rl_F tb) (rl_F yw) (rl_F yf) (rl_F ym) (rl_F yk) yo (d + 1) (nI (rl_mk (fun p => p < i ∧ tb (40 * p + b) ≠ 0))) (nI i) := by
  intro d
  induction d with
  | zero =>
    intro i hi
    rw [show rl_mk (fun p => tb (40 * p + b) ≠ 0) = rl_mk (fun p => p < i ∧ tb (40 * p + b) ≠ 0) from rl_mkc (fun p hp => ⟨fun h => ⟨by omega, h⟩, fun h => h.2⟩)] at hp
    exact br_t (nI_le (a := 5) (by omega) (by omega)) hp
  | succ d ih =>
    intro i hi
    have k := ih (i + 1) (by omega)
    have ht := hT i b (by omega) hb
    rw [wY_holders_14]
    dsimp only
    rw [rl_ix, rl_at tb (show 40 * i + b < 2 ^ 31 by omega)]
    refine br_f (nI_ge (b := 5) (by omega) (by omega)) ⟨vp_in_nI (by omega) (by decide), pk_eq (tb (40 * i + b)) 0 (fun z => nm_r (nI_1 _) ?_) (fun z => nm_r ((rl_mk1 _ (by omega)).trans (congrArg nI (rl_mkc (Q := fun p => p < i + 1 ∧ tb (40 * p + b) ≠ 0) (fun p hp => ?_)))) (nm_r (nI_1 _) k))⟩
    · rw [show rl_mk (fun p => p < i + 1 ∧ tb (40 * p + b) ≠ 0) = rl_mk (fun p => p < i ∧ tb (40 * p + b) ≠ 0) from rl_mkc (fun p hp => ⟨fun h => ⟨?_, h.2⟩, fun h => ⟨by omega, h.2⟩⟩)] at k
      · exact k
      · by_cases y : p = i
        · rw [y] at h; exact absurd z h.2
        · omega
    · constructor
      · rintro (h | h)
        · exact ⟨by omega, h.2⟩
        · rw [h]; exact ⟨by omega, z⟩
      · rintro ⟨h1, h2⟩
        by_cases y : p = i
        · exact Or.inr y
        · exact Or.inl ⟨by omega, h2⟩
theorem rl_holdY {post : Int32 → Prop} {b : Nat} (hT : ∀ o b, o < 5 → b < 40 → tb (40 * o + b) ≤ 2) (hb : b < 40) (hp : post (nI (rl_mk (fun p => tb (40 * p + b) ≠ 0)))) : wpY_holders post (nI q, rl_F tb, rl_F yw, rl_F yf, rl_F ym, rl_F yk, yo) (nI b) := by
  unfold wpY_holders
  dsimp only
  have k := rl_holdY_l (q := q) (yw := yw) (yf := yf) (ym := ym) (yk := yk) (yo := yo) hT hb hp 5 0 rfl
  rw [rl_mk0 (P := fun p => p < 0 ∧ tb (40 * p + b) ≠ 0) (fun p _ h => absurd h.1 (by omega))] at k
  exact rl_byteY hb (br_t rfl ⟨_, k⟩)
end
theorem i_vc_lockAt {k : Nat} {u : SX} {v : SY} (I : i_Rel k u v) (hk : k + 5 ≤ 2560) (v1 : Int32) (v2 : Int32) : wpX_lockAt (fun r => wpY_lockAt (fun r' => r' = r ∧ i_Rel (k + 5) u v) v v1 v2) u v1 v2 := by
  refine rl_el (Z := fun u v => wpX_lockAt (fun r => wpY_lockAt (fun r' => r' = r ∧ i_Rel (k + 5) u v) v v1 v2) u v1 v2) ?_ I
  intro n c eo ef el et ww wf wl wt ws q tb yw yf ym yk yo hP hQ hc
  have hn := rl_n hP.1 hP.2.1
  unfold wpX_lockAt wpY_lockAt
  dsimp only
  rcases rl_owner v1 with ⟨o, ho, rfl⟩ | ⟨fX, fY⟩
  · rcases rl_byte v2 with ⟨b, hb, rfl⟩ | ⟨fX, fY⟩
    · rw [rl_ix, rl_at tb (show 40 * o + b < 2 ^ 31 by omega)]
      have hv : vp_in (nI (40 * o + b)) 200 := vp_in_nI (by omega) (by decide)
      refine rl_ownX ho (br_f (by decide) (rl_byteX hb (br_f (by decide) (rl_pat hP ho hb (fun j j1 j2 j3 j4 => ?_) (fun z => ?_)))))
      · rw [rl_at et (show j < 2 ^ 31 by omega)]
        refine br_t (nI_pos' (by omega)) ⟨vp_in_nI (by omega) (by decide), rl_ownY ho (br_t rfl (rl_byteY hb (br_t rfl ⟨hv, ?_, rl_mkRel hP hQ (by omega)⟩)))⟩
        have e := hP.2.2.2.1 j j1 b j3 j4
        rw [j2] at e
        rw [e]
      · refine br_f (by decide) (rl_ownY ho (br_t rfl (rl_byteY hb (br_t rfl ⟨hv, ?_, rl_mkRel hP hQ (by omega)⟩))))
        rw [z]
        rfl
    · exact rl_ownX ho (br_f (by decide) (fX _ (br_t rfl (rl_ownY ho (br_t rfl (fY _ _ (br_f (by decide) ⟨rfl, rl_mkRel hP hQ (by omega)⟩)))))))
  · exact fX _ (br_t rfl (fY _ _ (br_f (by decide) ⟨rfl, rl_mkRel hP hQ (by omega)⟩)))
theorem i_vc_holders {k : Nat} {u : SX} {v : SY} (I : i_Rel k u v) (hk : k + 5 ≤ 2560) (v1 : Int32) : wpX_holders (fun r => wpY_holders (fun r' => r' = r ∧ i_Rel (k + 5) u v) v v1) u v1 := by
  refine rl_el (Z := fun u v => wpX_holders (fun r => wpY_holders (fun r' => r' = r ∧ i_Rel (k + 5) u v) v v1) u v1) ?_ I
  intro n c eo ef el et ww wf wl wt ws q tb yw yf ym yk yo hP hQ hc
  have hT : ∀ o b, o < 5 → b < 40 → tb (40 * o + b) ≤ 2 := fun o b h1 h2 => rl_tv hP h1 h2
  rcases rl_byte v1 with ⟨b, hb, rfl⟩ | ⟨fX, fY⟩
  · have k := rl_holdX (c := c) (ww := ww) (wf := wf) (wl := wl) (wt := wt) (ws := ws) (post := fun r => wpY_holders (fun r' => r' = r ∧ i_Rel (k + 5) (nI n, nI c, rl_F eo, rl_F ef, rl_F el, rl_F et, rl_F ww, rl_F wf, rl_F wl, rl_F wt, rl_F ws) (nI q, rl_F tb, rl_F yw, rl_F yf, rl_F ym, rl_F yk, yo)) (nI q, rl_F tb, rl_F yw, rl_F yf, rl_F ym, rl_F yk, yo) (nI b)) hP hb (rl_holdY hT hb ⟨rfl, rl_mkRel hP hQ (by omega)⟩) 5 0 rfl
    rw [rl_mk0 (P := fun p => p < 0 ∧ tb (40 * p + b) ≠ 0) (fun p _ h => absurd h.1 (by omega))] at k
    unfold wpX_holders
    dsimp only
    exact rl_byteX hb (br_f (by decide) ⟨_, k⟩)
  · unfold wpX_holders wpY_holders
    dsimp only
    exact fX _ (br_t rfl (fY _ _ (br_f (by decide) ⟨rfl, rl_mkRel hP hQ (by omega)⟩)))
end
section
def rl_bad (tb : Nat → Nat) (o t b : Nat) : Prop := ¬ ∀ p, p < 5 → ¬ rl_R tb o b (b + 1) t p
def rl_mx (a b : Nat) : Nat := if a ≤ b then b else a
def rl_obi (o s e t : Nat) (eo ef el et : Nat → Nat) (i v : Nat) : Prop := (∀ k, k < i → rl_st o s e t eo ef el et k → v ≤ rl_mx (ef k) s) ∧ (v = 40 ∨ ∃ k, k < i ∧ rl_st o s e t eo ef el et k ∧ v = rl_mx (ef k) s)
theorem rl_obs {tb eo ef el et : Nat → Nat} {n o s m t v : Nat} (hP : rl_P n eo ef el et tb) (hm : 1 ≤ m) (hs : s + m ≤ 40) (h1 : 1 ≤ t) (h2 : t ≤ 2) (hv : rl_obi o s (s + m - 1) t eo ef el et n v) :
    (v ≠ 40 → s ≤ v ∧ v < s + m ∧ rl_bad tb o t v) ∧ (∀ b, s ≤ b → b < s + m → rl_bad tb o t b → v ≤ b) := by
  obtain ⟨hA, hB, hT, hD, hE⟩ := hP
  constructor
  · intro hne
    rcases hv.2 with h | ⟨k, k1, ⟨s1, s2, s3, s4⟩, k3⟩
    · exact absurd h hne
    · have a := hA k k1
      have hb : s ≤ v ∧ v < s + m ∧ ef k ≤ v ∧ v ≤ el k := by
        rw [k3]; unfold rl_mx; split <;> omega
      refine ⟨hb.1, hb.2.1, fun h => h (eo k) a.1 ⟨s3, v, Nat.le_refl v, by omega, ?_⟩⟩
      rw [hD k k1 v hb.2.2.1 hb.2.2.2]
      unfold rl_kl
      omega
  · intro b b1 b2 hb
    by_cases z : v ≤ b
    · exact z
    · refine absurd (fun p hp h => ?_) hb
      obtain ⟨p1, b', b3, b4, b5⟩ := h
      have e : b' = b := by omega
      subst e
      have hne : tb (40 * p + b') ≠ 0 := by unfold rl_kl at b5; omega
      obtain ⟨k, k1, k2, k3, k4⟩ := hE p b' hp (by omega) hne
      have e := hD k k1 b' k3 k4
      rw [k2] at e
      have hst : rl_st o s (s + m - 1) t eo ef el et k := ⟨by omega, by omega, by omega, by unfold rl_kl at b5; omega⟩
      have w := hv.1 k k1 hst
      unfold rl_mx at w
      split at w <;> omega
section
variable {n c : Nat} {eo ef el et ww wf wl wt ws : Nat → Nat} {q : Nat} {tb yw yf ym yk : Nat → Nat} {yo : Nat → Int32}
theorem rl_obsX {post : Int32 → Prop} {o s m t : Nat} (hA : rl_A n eo ef el et) (hn : n ≤ 204) (ho : o < 5) (hm : 1 ≤ m) (hs : s + m ≤ 40) (ht : t ≤ 2)
    (K : ∀ v, v ≤ 40 → rl_obi o s (s + m - 1) t eo ef el et n v → (v = 40 → post (-4)) ∧ (v ≠ 40 → post (nI v))) :
    ∀ d i v, i + d = n → v ≤ 40 → rl_obi o s (s + m - 1) t eo ef el et i v → wX_obstacle_42 post (nI o) (nI s) (nI m) (nI t) (nI n) (nI c) (rl_F eo) (rl_F ef) (rl_F el) (rl_F et) (rl_F ww) (rl_F wf) (rl_F wl) (rl_F wt) (rl_F ws) (d + 1) (nI v) (nI i) := by
  intro d
  induction d with
  | zero =>
    intro i v hi hv h
    have e : i = n := by omega
    subst e
    have k := K v hv h
    exact br_t (nI_le (by omega) (by omega)) (pk_eq v 40 k.1 k.2)
  | succ d ih =>
    intro i v hi hv h
    have a := hA i (by omega)
    have h31 : i < 2 ^ 31 := by omega
    have hvi : vp_in (nI i) 204 := vp_in_nI (by omega) (by decide)
    have nx : ∀ w, w ≤ 40 → rl_obi o s (s + m - 1) t eo ef el et (i + 1) w → wX_obstacle_42 post (nI o) (nI s) (nI m) (nI t) (nI n) (nI c) (rl_F eo) (rl_F ef) (rl_F el) (rl_F et) (rl_F ww) (rl_F wf) (rl_F wl) (rl_F wt) (rl_F ws) (d + 1) (nI w) (nI (i + 1)) := fun w hw hh => ih (i + 1) w (by omega) hw hh
    have fin : rl_st o s (s + m - 1) t eo ef el et i → wX_obstacle_91 post (wX_obstacle_42 post (nI o) (nI s) (nI m) (nI t) (nI n) (nI c) (rl_F eo) (rl_F ef) (rl_F el) (rl_F et) (rl_F ww) (rl_F wf) (rl_F wl) (rl_F wt) (rl_F ws) (d + 1)) (nI o) (nI s) (nI m) (nI t) (nI v) (nI i) (nI (rl_mx (ef i) s)) (nI n) (nI c) (rl_F eo) (rl_F ef) (rl_F el) (rl_F et) (rl_F ww) (rl_F wf) (rl_F wl) (rl_F wt) (rl_F ws) := by
      intro z
      have hmx : rl_mx (ef i) s < 40 := by unfold rl_mx; split <;> omega
      refine pk_le v (rl_mx (ef i) s) (fun y => nm_r (nI_1 _) (nx v hv ⟨fun k hk hst => ?_, ?_⟩)) (fun y => nm_r (nI_1 _) (nx (rl_mx (ef i) s) (by omega) ⟨fun k hk hst => ?_, Or.inr ⟨i, by omega, z, rfl⟩⟩))
      · by_cases w : k = i
        · rw [w]; exact y
        · exact h.1 k (by omega) hst
      · rcases h.2 with w | ⟨k, k1, k2, k3⟩
        · exact Or.inl w
        · exact Or.inr ⟨k, by omega, k2, k3⟩
      · by_cases w : k = i
        · rw [w]; exact Nat.le_refl _
        · have := h.1 k (by omega) hst
          omega
    rw [wX_obstacle_42]
    dsimp only
    rw [rl_last hm, rl_at ef h31]
    refine br_f (nI_ge (by omega) (by omega)) (rl_stands hA hn (by omega) ho (by omega) (by omega) ht (fun z => br_f (by decide) ⟨hvi, ?_⟩) (fun z => br_t rfl (nm_r (nI_1 _) (nx v hv ⟨fun k hk hst => ?_, ?_⟩))))
    · have f := fin z
      unfold rl_mx at f
      by_cases y : ef i ≤ s
      · rw [if_pos y] at f
        exact br_t (nI_le y (by omega)) f
      · rw [if_neg y] at f
        exact br_f (nI_ge (by omega) (by omega)) ⟨hvi, f⟩
    · by_cases w : k = i
      · rw [w] at hst; exact absurd hst z
      · exact h.1 k (by omega) hst
    · rcases h.2 with w | ⟨k, k1, k2, k3⟩
      · exact Or.inl w
      · exact Or.inr ⟨k, by omega, k2, k3⟩
theorem rl_obsY {post : Int32 → Prop} {o s m t : Nat} (hT : ∀ o b, o < 5 → b < 40 → tb (40 * o + b) ≤ 2) (ho : o < 5) (hs : s + m ≤ 40) (ht : t ≤ 2)
    (K1 : ∀ b, s ≤ b → b < s + m → rl_bad tb o t b → (∀ b', s ≤ b' → b' < b → ¬ rl_bad tb o t b') → post (nI b)) (K0 : (∀ b, s ≤ b → b < s + m → ¬ rl_bad tb o t b) → post (-4)) :
    ∀ d b, b + d = s + m → s ≤ b → (∀ b', s ≤ b' → b' < b → ¬ rl_bad tb o t b') → wY_obstacle_40 post (nI o) (nI s) (nI m) (nI t) (nI q) (rl_F tb) (rl_F yw) (rl_F yf) (rl_F ym) (rl_F yk) yo (d + 1) (nI b) := by
  intro d
  induction d with
  | zero =>
    intro b hb hsb h
    rw [wY_obstacle_40]
    dsimp only
    rw [nI_add]
    exact br_t (nI_le (by omega) (by omega)) (K0 (fun b' h1 h2 => h b' h1 (by omega)))
  | succ d ih =>
    intro b hb hsb h
    rw [wY_obstacle_40]
    dsimp only
    rw [nI_add]
    refine br_f (nI_ge (by omega) (by omega)) (rl_against (m := 1) hT ho (by omega) ht _ (br_c (fun z => nm_r (nI_1 _) (ih (b + 1) (by omega) (by omega) (fun b' h1 h2 => ?_))) (fun z => K1 b hsb (by omega) (fun y => z (rl_mkI.mpr y)) h)))
    by_cases y : b' = b
    · rw [y]; exact fun w => w (rl_mkI.mp z)
    · exact h b' h1 (by omega)
end
theorem i_vc_obstacle {k : Nat} {u : SX} {v : SY} (I : i_Rel k u v) (hk : k + 5 ≤ 2560) (v1 : Int32) (v2 : Int32) (v3 : Int32) (v4 : Int32) : wpX_obstacle (fun r => wpY_obstacle (fun r' => r' = r ∧ i_Rel (k + 5) u v) v v1 v2 v3 v4) u v1 v2 v3 v4 := by
  refine rl_el (Z := fun u v => wpX_obstacle (fun r => wpY_obstacle (fun r' => r' = r ∧ i_Rel (k + 5) u v) v v1 v2 v3 v4) u v1 v2 v3 v4) ?_ I
  intro n c eo ef el et ww wf wl wt ws q tb yw yf ym yk yo hP hQ hc
  have hn := rl_n hP.1 hP.2.1
  unfold wpX_obstacle wpY_obstacle
  dsimp only
  rcases rl_owner v1 with ⟨o, ho, rfl⟩ | ⟨fX, fY⟩
  · rcases rl_rng v2 v3 with ⟨s, m, hm, hs, rfl, rfl⟩ | ⟨fX, fY⟩
    · refine rl_ownX ho (br_f (by decide) (rl_rngX hm hs (br_f (by decide) ?_)))
      have hT : ∀ o b, o < 5 → b < 40 → tb (40 * o + b) ≤ 2 := fun o b h1 h2 => rl_tv hP h1 h2
      have hx : ∀ t, 1 ≤ t → t ≤ 2 → ∀ post : Int32 → Prop, (∀ r : Int32, (∀ post' : Int32 → Prop, post' r → ∃ n40, wY_obstacle_40 post' (nI o) (nI s) (nI m) (nI t) (nI q) (rl_F tb) (rl_F yw) (rl_F yf) (rl_F ym) (rl_F yk) yo n40 (nI s)) → post r) → ∃ n42, wX_obstacle_42 post (nI o) (nI s) (nI m) (nI t) (nI n) (nI c) (rl_F eo) (rl_F ef) (rl_F el) (rl_F et) (rl_F ww) (rl_F wf) (rl_F wl) (rl_F wt) (rl_F ws) n42 40 0 := by
        intro t h1 h2 post hpost
        refine ⟨n + 1, rl_obsX hP.1 (by omega) ho hm hs h2 (fun v hv hi => ?_) n 0 40 (by omega) (by omega) ⟨fun k hk _ => absurd hk (by omega), Or.inl rfl⟩⟩
        have ob := rl_obs hP hm hs h1 h2 hi
        refine ⟨fun z => hpost _ (fun post' hp' => ⟨m + 1, rl_obsY hT ho hs h2 (fun b b1 b2 b3 b4 => ?_) (fun _ => hp') m s rfl (Nat.le_refl s) (fun b' h1 h2 => absurd h1 (by omega))⟩), fun z => hpost _ (fun post' hp' => ⟨m + 1, rl_obsY hT ho hs h2 (fun b b1 b2 b3 b4 => ?_) (fun h => ?_) m s rfl (Nat.le_refl s) (fun b' h1 h2 => absurd h1 (by omega))⟩)⟩
        · have := ob.2 b b1 b2 b3
          omega
        · have e1 := ob.2 b b1 b2 b3
          have e2 := ob.1 z
          have e : b = v := by
            by_cases y : v < b
            · exact absurd e2.2.2 (b4 v e2.1 y)
            · omega
          rw [e]; exact hp'
        · have e2 := ob.1 z
          exact absurd e2.2.2 (h v e2.1 e2.2.1)
      by_cases h1 : v4 = 1
      · subst h1
        refine br_t rfl (hx 1 (by omega) (by omega) _ (fun r hr => ?_))
        exact rl_ownY ho (br_t rfl (rl_rngY hm hs (br_t rfl (br_t rfl (hr _ ⟨rfl, rl_mkRel hP hQ (by omega)⟩)))))
      · by_cases h2 : v4 = 2
        · subst h2
          refine br_f h1 (br_t rfl (hx 2 (by omega) (by omega) _ (fun r hr => ?_)))
          exact rl_ownY ho (br_t rfl (rl_rngY hm hs (br_t rfl (br_f h1 (br_t rfl (hr _ ⟨rfl, rl_mkRel hP hQ (by omega)⟩))))))
        · exact br_f h1 (br_f h2 (rl_ownY ho (br_t rfl (rl_rngY hm hs (br_t rfl (br_f h1 (br_f h2 ⟨rfl, rl_mkRel hP hQ (by omega)⟩)))))))
    · exact rl_ownX ho (br_f (by decide) (fX _ (br_t rfl (rl_ownY ho (br_t rfl (fY _ _ (br_f (by decide) ⟨rfl, rl_mkRel hP hQ (by omega)⟩)))))))
  · exact fX _ (br_t rfl (fY _ _ (br_f (by decide) ⟨rfl, rl_mkRel hP hQ (by omega)⟩)))
end
section
def rl_bn (tb : Nat → Nat) (o b : Nat) : Prop := tb (40 * o + b) ≠ 0 ∧ (b = 0 ∨ tb (40 * o + b - 1) ≠ tb (40 * o + b))
theorem rl_bn_iff {tb eo ef el et : Nat → Nat} {n o b : Nat} (hP : rl_P n eo ef el et tb) (ho : o < 5) (hb : b < 40) : rl_bn tb o b ↔ ∃ k, k < n ∧ eo k = o ∧ ef k = b := by
  obtain ⟨hA, hB, hT, hD, hE⟩ := hP
  constructor
  · rintro ⟨h1, h2⟩
    obtain ⟨k, k1, k2, k3, k4⟩ := hE o b ho hb h1
    refine ⟨k, k1, k2, ?_⟩
    by_cases z : ef k = b
    · exact z
    · have e1 := hD k k1 b k3 k4
      have e2 := hD k k1 (b - 1) (by omega) (by omega)
      rw [k2] at e1 e2
      rw [show 40 * o + (b - 1) = 40 * o + b - 1 by omega] at e2
      omega
  · rintro ⟨k, k1, k2, k3⟩
    have a := hA k k1
    have e1 := hD k k1 b (by omega) (by omega)
    rw [k2] at e1
    refine ⟨by omega, ?_⟩
    by_cases z : b = 0
    · exact Or.inl z
    · refine Or.inr (fun h => ?_)
      rw [show 40 * o + b - 1 = 40 * o + (b - 1) by omega] at h
      obtain ⟨j, j1, j2, j3, j4⟩ := hE o (b - 1) ho (by omega) (by omega)
      have e2 := hD j j1 (b - 1) j3 j4
      rw [j2] at e2
      rcases Nat.lt_trichotomy j k with y | y | y
      · have l1 := rl_lt hA hB y k1
        by_cases w : j + 1 = k
        · subst w
          exact hT j k1 (by omega) (by omega) (by omega)
        · have l2 := rl_lt hA hB (show j < j + 1 by omega) (by omega)
          have l3 := rl_lt hA hB (show j + 1 < k by omega) k1
          have l4 := hA (j + 1) (by omega)
          omega
      · subst y; omega
      · have l1 := rl_lt hA hB y j1
        omega
theorem rl_segk {n o b0 b1 k : Nat} {eo : Nat → Nat} (g0 : rl_bg n eo o b0) (g1 : rl_bg n eo (o + 1) b1) (hk : k < n) : eo k = o ↔ b0 ≤ k ∧ k < b1 := by
  constructor
  · intro e
    refine ⟨?_, ?_⟩
    · by_cases y : b0 ≤ k
      · exact y
      · have := g0.2.1 k (by omega); omega
    · by_cases y : k < b1
      · exact y
      · have := g1.2.2 k (by omega) hk; omega
  · rintro ⟨h1, h2⟩
    have := g0.2.2 k h1 hk
    have := g1.2.1 k h2
    omega
theorem rl_segb {n o b0 b1 : Nat} {eo : Nat → Nat} (g0 : rl_bg n eo o b0) (g1 : rl_bg n eo (o + 1) b1) : b0 ≤ b1 := by
  by_cases y : b0 ≤ b1
  · exact y
  · have := g0.2.1 b1 (by omega)
    have := g1.2.2 b1 (by omega) (by have := g0.1; omega)
    omega
theorem rl_seglt {tb eo ef el et : Nat → Nat} {n o b0 b1 j k : Nat} (hP : rl_P n eo ef el et tb) (g0 : rl_bg n eo o b0) (g1 : rl_bg n eo (o + 1) b1) (h0 : b0 ≤ j) (h : j < k) (h1 : k < b1) : el j < ef k := by
  have hb := g1.1
  have e1 := (rl_segk g0 g1 (show j < n by omega)).mpr ⟨h0, by omega⟩
  have e2 := (rl_segk g0 g1 (show k < n by omega)).mpr ⟨by omega, h1⟩
  have := rl_lt hP.1 hP.2.1 h (by omega)
  omega
def rl_pt (b0 b1 : Nat) (ef : Nat → Nat) (j b : Nat) : Prop := b0 ≤ j ∧ j ≤ b1 ∧ (∀ k, b0 ≤ k → k < j → ef k < b) ∧ (∀ k, j ≤ k → k < b1 → b ≤ ef k)
theorem rl_pt_bn {tb eo ef el et : Nat → Nat} {n o b0 b1 j b : Nat} (hP : rl_P n eo ef el et tb) (g0 : rl_bg n eo o b0) (g1 : rl_bg n eo (o + 1) b1) (ho : o < 5) (hb : b < 40) (h : rl_pt b0 b1 ef j b) : rl_bn tb o b ↔ j < b1 ∧ ef j = b := by
  have hb1 := g1.1
  rw [rl_bn_iff hP ho hb]
  constructor
  · rintro ⟨k, k1, k2, k3⟩
    have e := (rl_segk g0 g1 k1).mp k2
    rcases Nat.lt_trichotomy k j with z | z | z
    · have := h.2.2.1 k e.1 z; omega
    · subst z; exact ⟨e.2, k3⟩
    · have := h.2.2.2 j (Nat.le_refl j) (by omega)
      have := rl_seglt hP g0 g1 h.1 z e.2
      have := hP.1 j (by omega)
      omega
  · rintro ⟨h1, h2⟩
    exact ⟨j, by omega, (rl_segk g0 g1 (by omega)).mpr ⟨h.1, h1⟩, h2⟩
theorem rl_pt_t {tb eo ef el et : Nat → Nat} {n o b0 b1 j b : Nat} (hP : rl_P n eo ef el et tb) (g0 : rl_bg n eo o b0) (g1 : rl_bg n eo (o + 1) b1) (h : rl_pt b0 b1 ef j b) (h1 : j < b1) (h2 : ef j = b) : rl_pt b0 b1 ef (j + 1) (b + 1) := by
  have hb1 := g1.1
  refine ⟨by have := h.1; omega, by omega, fun k k1 k2 => ?_, fun k k1 k2 => ?_⟩
  · by_cases z : k = j
    · rw [z]; omega
    · have := h.2.2.1 k k1 (by omega); omega
  · have := rl_seglt hP g0 g1 h.1 (show j < k by omega) k2
    have := hP.1 j (by omega)
    omega
theorem rl_pt_f {tb eo ef el et : Nat → Nat} {n o b0 b1 j b : Nat} (hP : rl_P n eo ef el et tb) (g0 : rl_bg n eo o b0) (g1 : rl_bg n eo (o + 1) b1) (h : rl_pt b0 b1 ef j b) (h1 : ¬ (j < b1 ∧ ef j = b)) : rl_pt b0 b1 ef j (b + 1) := by
  have hb1 := g1.1
  refine ⟨h.1, h.2.1, fun k k1 k2 => ?_, fun k k1 k2 => ?_⟩
  · have := h.2.2.1 k k1 k2; omega
  · have := h.2.2.2 k k1 k2
    by_cases z : k = j
    · subst z; omega
    · have := h.2.2.2 j (Nat.le_refl j) (by omega)
      have := rl_seglt hP g0 g1 h.1 (show j < k by omega) k2
      have := hP.1 j (by omega)
      omega
section
variable {n c : Nat} {eo ef el et ww wf wl wt ws : Nat → Nat} {q : Nat} {tb yw yf ym yk : Nat → Nat} {yo : Nat → Int32}
theorem rl_begs {post : Int32 → Prop} {o b : Nat} (hT : ∀ o b, o < 5 → b < 40 → tb (40 * o + b) ≤ 2) (ho : o < 5) (hb : b < 40) (h1 : rl_bn tb o b → post 1) (h0 : ¬ rl_bn tb o b → post 0) : wpY_begins post (nI q, rl_F tb, rl_F yw, rl_F yf, rl_F ym, rl_F yk, yo) (nI o) (nI b) := by
  have hv : vp_in (nI (40 * o + b)) 200 := vp_in_nI (by omega) (by decide)
  have ht := hT o b ho hb
  unfold wpY_begins
  dsimp only
  rw [rl_ix, rl_at tb (show 40 * o + b < 2 ^ 31 by omega)]
  refine ⟨hv, pk_eq (tb (40 * o + b)) 0 (fun z => h0 (fun y => y.1 z)) (fun z => pk_eq b 0 (fun y => h1 ⟨z, Or.inl y⟩) (fun y => ?_))⟩
  have hp := hT o (b - 1) ho (by omega)
  rw [show 40 * o + (b - 1) = 40 * o + b - 1 by omega] at hp
  rw [rl_m1 (show 1 ≤ 40 * o + b by omega), rl_at tb (show 40 * o + b - 1 < 2 ^ 31 by omega)]
  exact ⟨vp_in_nI (by omega) (by decide), hv, pk_eq (tb (40 * o + b - 1)) (tb (40 * o + b)) (fun w => h0 (fun x => x.2.elim y (fun v => v w))) (fun w => h1 ⟨z, Or.inr w⟩)⟩
theorem rl_pcsY {post : Int32 → Prop} {o b0 b1 : Nat} (hP : rl_P n eo ef el et tb) (g0 : rl_bg n eo o b0) (g1 : rl_bg n eo (o + 1) b1) (ho : o < 5) (hp : post (nI (b1 - b0))) :
    ∀ d b j, b + d = 40 → rl_pt b0 b1 ef j b → wY_pieces_14 post (nI o) (nI q) (rl_F tb) (rl_F yw) (rl_F yf) (rl_F ym) (rl_F yk) yo (d + 1) (nI (j - b0)) (nI b) := by
  have hb1 := g1.1
  intro d
  induction d with
  | zero =>
    intro b j hb h
    have e : j = b1 := by
      by_cases z : j < b1
      · have := h.2.2.2 j (Nat.le_refl j) z
        have := hP.1 j (by omega)
        omega
      · have := h.2.1; omega
    rw [e]
    exact br_t (nI_le (a := 40) (by omega) (by omega)) hp
  | succ d ih =>
    intro b j hb h
    have iff := rl_pt_bn hP g0 g1 ho (show b < 40 by omega) h
    refine br_f (nI_ge (b := 40) (by omega) (by omega)) (rl_begs (fun o b h1 h2 => rl_tv hP h1 h2) ho (by omega) (fun z => br_f (by decide) (nm_r (nI_1 _) (nm_r (nI_1 _) ?_))) (fun z => br_t rfl (nm_r (nI_1 _) (ih (b + 1) j (by omega) (rl_pt_f hP g0 g1 h (fun w => z (iff.mpr w)))))))
    have y := iff.mp z
    have k := ih (b + 1) (j + 1) (by omega) (rl_pt_t hP g0 g1 h y.1 y.2)
    rw [show j + 1 - b0 = j - b0 + 1 by have := h.1; omega] at k
    exact k
theorem rl_sofY {post : Int32 → Prop} {o b0 b1 : Nat} {x : Int32} (hP : rl_P n eo ef el et tb) (g0 : rl_bg n eo o b0) (g1 : rl_bg n eo (o + 1) b1) (ho : o < 5)
    (K1 : ∀ i, b0 + i < b1 → x = nI i → post (nI (ef (b0 + i)))) (K0 : (∀ i, b0 + i < b1 → ¬ nI i = x) → post (-2)) :
    ∀ d b j, b + d = 40 → rl_pt b0 b1 ef j b → (∀ i, b0 + i < j → ¬ nI i = x) → wY_startOf_5 post (nI o) x (nI q) (rl_F tb) (rl_F yw) (rl_F yf) (rl_F ym) (rl_F yk) yo (d + 1) (nI (j - b0)) (nI b) := by
  have hb1 := g1.1
  intro d
  induction d with
  | zero =>
    intro b j hb h hx
    have e : j = b1 := by
      by_cases z : j < b1
      · have := h.2.2.2 j (Nat.le_refl j) z
        have := hP.1 j (by omega)
        omega
      · have := h.2.1; omega
    exact br_t (nI_le (a := 40) (by omega) (by omega)) (K0 (fun i hi => hx i (by omega)))
  | succ d ih =>
    intro b j hb h hx
    have hj0 := h.1
    have iff := rl_pt_bn hP g0 g1 ho (show b < 40 by omega) h
    refine br_f (nI_ge (b := 40) (by omega) (by omega)) (rl_begs (fun o b h1 h2 => rl_tv hP h1 h2) ho (by omega) (fun z => br_f (by decide) (br_c (fun w => ?_) (fun w => nm_r (nI_1 _) (nm_r (nI_1 _) ?_)))) (fun z => br_t rfl (nm_r (nI_1 _) (ih (b + 1) j (by omega) (rl_pt_f hP g0 g1 h (fun w => z (iff.mpr w))) hx))))
    · have y := iff.mp z
      have k := K1 (j - b0) (by omega) w.symm
      rw [show b0 + (j - b0) = j by omega, y.2] at k
      exact k
    · have y := iff.mp z
      have k := ih (b + 1) (j + 1) (by omega) (rl_pt_t hP g0 g1 h y.1 y.2) (fun i hi => by
        by_cases v : b0 + i = j
        · rw [show i = j - b0 by omega]; exact w
        · exact hx i (by omega))
      rw [show j + 1 - b0 = j - b0 + 1 by omega] at k
      exact k
theorem rl_pt0 (hP : rl_P n eo ef el et tb) {o b0 b1 : Nat} (g0 : rl_bg n eo o b0) (g1 : rl_bg n eo (o + 1) b1) : rl_pt b0 b1 ef b0 0 :=
  ⟨Nat.le_refl _, rl_segb g0 g1, fun k h1 h2 => absurd h1 (by omega), fun k _ _ => Nat.zero_le _⟩
theorem rl_sof {post : Int32 → Prop} {o b0 b1 : Nat} {x : Int32} (hP : rl_P n eo ef el et tb) (g0 : rl_bg n eo o b0) (g1 : rl_bg n eo (o + 1) b1) (ho : o < 5)
    (K1 : ∀ i, b0 + i < b1 → x = nI i → post (nI (ef (b0 + i)))) (K0 : (∀ i, b0 + i < b1 → ¬ nI i = x) → post (-2)) : wpY_startOf post (nI q, rl_F tb, rl_F yw, rl_F yf, rl_F ym, rl_F yk, yo) (nI o) x := by
  have k := rl_sofY (q := q) (yw := yw) (yf := yf) (ym := ym) (yk := yk) (yo := yo) hP g0 g1 ho K1 K0 40 0 b0 rfl (rl_pt0 hP g0 g1) (fun i hi => absurd hi (by omega))
  rw [Nat.sub_self] at k
  exact ⟨_, k⟩
theorem rl_fnd {o : Nat} (hP : rl_P n eo ef el et tb) (ho : o < 5) (x : Int32) : ∃ b0 b1, rl_bg n eo o b0 ∧ rl_bg n eo (o + 1) b1 ∧
    ((∃ i, b0 + i < b1 ∧ x = nI i ∧ ∀ post : Int32 → Prop, post (nI (b0 + i)) → wpX_find post (nI n, nI c, rl_F eo, rl_F ef, rl_F el, rl_F et, rl_F ww, rl_F wf, rl_F wl, rl_F wt, rl_F ws) (nI o) x) ∨ ((∀ i, b0 + i < b1 → ¬ nI i = x) ∧ ∀ post : Int32 → Prop, post (-2) → wpX_find post (nI n, nI c, rl_F eo, rl_F ef, rl_F el, rl_F et, rl_F ww, rl_F wf, rl_F wl, rl_F wt, rl_F ws) (nI o) x)) := by
  have hn := rl_n hP.1 hP.2.1
  obtain ⟨b0, g0, w0⟩ := rl_begin (c := c) (ww := ww) (wf := wf) (wl := wl) (wt := wt) (ws := ws) (o := o) hP.1 hP.2.1 (by omega)
  obtain ⟨b1, g1, w1⟩ := rl_begin (c := c) (ww := ww) (wf := wf) (wl := wl) (wt := wt) (ws := ws) (o := o + 1) hP.1 hP.2.1 (by omega)
  have hbb := rl_segb g0 g1
  have hb1 := g1.1
  have hsub : nI b1 - nI b0 = nI (b1 - b0) := pk_sub hbb
  refine ⟨b0, b1, g0, g1, ?_⟩
  rcases pk_ix x (n := b1 - b0) (by omega) with h | h | ⟨i, hi, rfl⟩
  · refine Or.inr ⟨fun i hi e => ?_, fun post hp => ?_⟩
    · rw [← e] at h; exact nI_pos (by omega) h
    · unfold wpX_find
      dsimp only
      exact rl_ownX ho (br_f (by decide) (w0 _ _ rfl (w1 _ _ (nI_1 o) (nm_r hsub (br_t h hp)))))
  · have h0 : ¬ x < 0 := fun z => nI_pos (n := b1 - b0) (by omega) (Int32.lt_of_le_of_lt h z)
    have h1 : ¬ x < nI (b1 - b0) := Int32.not_lt.mpr h
    refine Or.inr ⟨fun i hi e => ?_, fun post hp => ?_⟩
    · rw [← e] at h; exact nI_ge (by omega) (by omega) h
    · unfold wpX_find
      dsimp only
      exact rl_ownX ho (br_f (by decide) (w0 _ _ rfl (w1 _ _ (nI_1 o) (nm_r hsub (br_f h0 (br_f h1 hp))))))
  · refine Or.inl ⟨i, by omega, rfl, fun post hp => ?_⟩
    unfold wpX_find
    dsimp only
    refine rl_ownX ho (br_f (by decide) (w0 _ _ rfl (w1 _ _ (nI_1 o) (nm_r hsub (br_f (nI_pos (by omega)) (br_t (nI_lt hi (by omega)) ?_))))))
    rw [nI_add]
    exact hp
theorem rl_endY {post : Int32 → Prop} {o k : Nat} (hP : rl_P n eo ef el et tb) (ho : o < 5) (hk : k < n) (hko : eo k = o) (hp : post (nI (el k))) :
    ∀ d b, b + d = el k → ef k ≤ b → wY_pieceEnd_24 post (nI o) (nI q) (rl_F tb) (rl_F yw) (rl_F yf) (rl_F ym) (rl_F yk) yo (d + 1) (nI b) := by
  have hT : ∀ o b, o < 5 → b < 40 → tb (40 * o + b) ≤ 2 := fun o b h1 h2 => rl_tv hP h1 h2
  have a := hP.1 k hk
  intro d
  induction d with
  | zero =>
    intro b hb hf
    have e : b = el k := by omega
    subst e
    by_cases z : 39 ≤ el k
    · exact br_t (nI_le (a := 39) z (by omega)) hp
    · have t0 := hT o (el k) ho (by omega)
      have t1 := hT o (el k + 1) ho (by omega)
      rw [wY_pieceEnd_24]
      dsimp only
      rw [rl_ix, nI_1, rl_at tb (show 40 * o + el k < 2 ^ 31 by omega), rl_at tb (show 40 * o + el k + 1 < 2 ^ 31 by omega)]
      refine br_f (nI_ge (b := 39) (by omega) (by omega)) ⟨vp_in_nI (by omega) (by decide), vp_in_nI (by omega) (by decide), pk_eq (tb (40 * o + el k + 1)) (tb (40 * o + el k)) (fun y => ?_) (fun y => hp) rfl rfl (by have e := t1; rw [show 40 * o + (el k + 1) = 40 * o + el k + 1 by omega] at e; omega)⟩
      exfalso
      obtain ⟨hA, hB, hT, hD, hE⟩ := hP
      have e1 := hD k hk (el k) (by omega) (Nat.le_refl _)
      rw [hko] at e1
      rw [show 40 * o + el k + 1 = 40 * o + (el k + 1) by omega] at y
      obtain ⟨j, j1, j2, j3, j4⟩ := hE o (el k + 1) ho (by omega) (by omega)
      have e2 := hD j j1 _ j3 j4
      rw [j2] at e2
      have aj := hA j j1
      rcases Nat.lt_trichotomy j k with w | w | w
      · have := rl_lt hA hB w hk; omega
      · subst w; omega
      · have l1 := rl_lt hA hB w j1
        by_cases v : k + 1 = j
        · subst v
          exact hT k j1 (by omega) (by omega) (by omega)
        · have l2 := rl_lt hA hB (show k < k + 1 by omega) (by omega)
          have l3 := rl_lt hA hB (show k + 1 < j by omega) j1
          have l4 := hA (k + 1) (by omega)
          omega
  | succ d ih =>
    intro b hb hf
    have e1 := hP.2.2.2.1 k hk b hf (by omega)
    have e2 := hP.2.2.2.1 k hk (b + 1) (by omega) (by omega)
    rw [hko] at e1 e2
    rw [show 40 * o + (b + 1) = 40 * o + b + 1 by omega] at e2
    rw [wY_pieceEnd_24]
    dsimp only
    rw [rl_ix, nI_1, rl_at tb (show 40 * o + b < 2 ^ 31 by omega), rl_at tb (show 40 * o + b + 1 < 2 ^ 31 by omega)]
    exact br_f (nI_ge (b := 39) (by omega) (by omega)) ⟨vp_in_nI (by omega) (by decide), vp_in_nI (by omega) (by decide), br_t (by rw [e1, e2]) (nm_r (nI_1 _) (ih (b + 1) (by omega) (by omega)))⟩
end
theorem i_vc_pieces {k : Nat} {u : SX} {v : SY} (I : i_Rel k u v) (hk : k + 5 ≤ 2560) (v1 : Int32) : wpX_pieces (fun r => wpY_pieces (fun r' => r' = r ∧ i_Rel (k + 5) u v) v v1) u v1 := by
  refine rl_el (Z := fun u v => wpX_pieces (fun r => wpY_pieces (fun r' => r' = r ∧ i_Rel (k + 5) u v) v v1) u v1) ?_ I
  intro n c eo ef el et ww wf wl wt ws q tb yw yf ym yk yo hP hQ hc
  unfold wpX_pieces wpY_pieces
  dsimp only
  rcases rl_owner v1 with ⟨o, ho, rfl⟩ | ⟨fX, fY⟩
  · obtain ⟨b0, g0, w0⟩ := rl_begin (c := c) (ww := ww) (wf := wf) (wl := wl) (wt := wt) (ws := ws) (o := o) hP.1 hP.2.1 (by omega)
    obtain ⟨b1, g1, w1⟩ := rl_begin (c := c) (ww := ww) (wf := wf) (wl := wl) (wt := wt) (ws := ws) (o := o + 1) hP.1 hP.2.1 (by omega)
    have hsub : nI b1 - nI b0 = nI (b1 - b0) := pk_sub (rl_segb g0 g1)
    refine rl_ownX ho (br_f (by decide) (w1 _ _ (nI_1 o) (w0 _ _ rfl ?_)))
    rw [hsub]
    have k := rl_pcsY (post := fun r' => r' = nI (b1 - b0) ∧ i_Rel (k + 5) (nI n, nI c, rl_F eo, rl_F ef, rl_F el, rl_F et, rl_F ww, rl_F wf, rl_F wl, rl_F wt, rl_F ws) (nI q, rl_F tb, rl_F yw, rl_F yf, rl_F ym, rl_F yk, yo)) (q := q) (yw := yw) (yf := yf) (ym := ym) (yk := yk) (yo := yo) hP g0 g1 ho ⟨rfl, rl_mkRel hP hQ (by omega)⟩ 40 0 b0 rfl (rl_pt0 hP g0 g1)
    rw [Nat.sub_self] at k
    exact rl_ownY ho (br_t rfl ⟨_, k⟩)
  · exact fX _ (br_t rfl (fY _ _ (br_f (by decide) ⟨rfl, rl_mkRel hP hQ (by omega)⟩)))
theorem rl_fndbad {n c : Nat} {eo ef el et ww wf wl wt ws : Nat → Nat} {x y : Int32} (fX : ∀ post : Int32 → Prop, post 0 → wpX_isOwner post x) (post : Int32 → Prop) (hp : post (-1)) : wpX_find post (nI n, nI c, rl_F eo, rl_F ef, rl_F el, rl_F et, rl_F ww, rl_F wf, rl_F wl, rl_F wt, rl_F ws) x y := by
  unfold wpX_find
  dsimp only
  exact fX _ (br_t rfl hp)
theorem i_vc_pieceStart {k : Nat} {u : SX} {v : SY} (I : i_Rel k u v) (hk : k + 5 ≤ 2560) (v1 : Int32) (v2 : Int32) : wpX_pieceStart (fun r => wpY_pieceStart (fun r' => r' = r ∧ i_Rel (k + 5) u v) v v1 v2) u v1 v2 := by
  refine rl_el (Z := fun u v => wpX_pieceStart (fun r => wpY_pieceStart (fun r' => r' = r ∧ i_Rel (k + 5) u v) v v1 v2) u v1 v2) ?_ I
  intro n c eo ef el et ww wf wl wt ws q tb yw yf ym yk yo hP hQ hc
  have hn := rl_n hP.1 hP.2.1
  unfold wpX_pieceStart wpY_pieceStart
  dsimp only
  rcases rl_owner v1 with ⟨o, ho, rfl⟩ | ⟨fX, fY⟩
  · obtain ⟨b0, b1, g0, g1, ⟨i, hi, rfl, w⟩ | ⟨hx, w⟩⟩ := rl_fnd (c := c) (ww := ww) (wf := wf) (wl := wl) (wt := wt) (ws := ws) hP ho v2
    · have hb1 := g1.1
      refine w _ ?_
      rw [rl_at ef (show b0 + i < 2 ^ 31 by omega)]
      refine br_t (nI_pos' (by omega)) ⟨vp_in_nI (by omega) (by decide), rl_ownY ho (br_t rfl (rl_sof hP g0 g1 ho (fun j hj e => ?_) (fun h => absurd rfl (h i hi))))⟩
      rw [nI_eq (by omega) (by omega)] at e
      subst e
      exact ⟨rfl, rl_mkRel hP hQ (by omega)⟩
    · exact w _ (br_f (by decide) (rl_ownY ho (br_t rfl (rl_sof hP g0 g1 ho (fun j hj e => absurd e.symm (hx j hj)) (fun _ => ⟨rfl, rl_mkRel hP hQ (by omega)⟩)))))
  · exact rl_fndbad fX _ (br_f (by decide) (fY _ _ (br_f (by decide) ⟨rfl, rl_mkRel hP hQ (by omega)⟩)))
theorem i_vc_pieceEnd {k : Nat} {u : SX} {v : SY} (I : i_Rel k u v) (hk : k + 5 ≤ 2560) (v1 : Int32) (v2 : Int32) : wpX_pieceEnd (fun r => wpY_pieceEnd (fun r' => r' = r ∧ i_Rel (k + 5) u v) v v1 v2) u v1 v2 := by
  refine rl_el (Z := fun u v => wpX_pieceEnd (fun r => wpY_pieceEnd (fun r' => r' = r ∧ i_Rel (k + 5) u v) v v1 v2) u v1 v2) ?_ I
  intro n c eo ef el et ww wf wl wt ws q tb yw yf ym yk yo hP hQ hc
  have hn := rl_n hP.1 hP.2.1
  unfold wpX_pieceEnd wpY_pieceEnd
  dsimp only
  rcases rl_owner v1 with ⟨o, ho, rfl⟩ | ⟨fX, fY⟩
  · obtain ⟨b0, b1, g0, g1, ⟨i, hi, rfl, w⟩ | ⟨hx, w⟩⟩ := rl_fnd (c := c) (ww := ww) (wf := wf) (wl := wl) (wt := wt) (ws := ws) hP ho v2
    · have hb1 := g1.1
      have a := hP.1 (b0 + i) (by omega)
      have hko := (rl_segk g0 g1 (show b0 + i < n by omega)).mpr ⟨by omega, hi⟩
      refine w _ ?_
      rw [rl_at el (show b0 + i < 2 ^ 31 by omega)]
      refine br_t (nI_pos' (by omega)) ⟨vp_in_nI (by omega) (by decide), rl_ownY ho (br_t rfl (rl_sof hP g0 g1 ho (fun j hj e => ?_) (fun h => absurd rfl (h i hi))))⟩
      rw [nI_eq (by omega) (by omega)] at e
      subst e
      exact br_t (nI_pos' (by omega)) ⟨_, rl_endY hP ho (by omega) hko ⟨rfl, rl_mkRel hP hQ (by omega)⟩ (el (b0 + i) - ef (b0 + i)) (ef (b0 + i)) (by omega) (Nat.le_refl _)⟩
    · exact w _ (br_f (by decide) (rl_ownY ho (br_t rfl (rl_sof hP g0 g1 ho (fun j hj e => absurd e.symm (hx j hj)) (fun _ => br_f (by decide) ⟨rfl, rl_mkRel hP hQ (by omega)⟩)))))
  · exact rl_fndbad fX _ (br_f (by decide) (fY _ _ (br_f (by decide) ⟨rfl, rl_mkRel hP hQ (by omega)⟩)))
theorem i_vc_pieceType {k : Nat} {u : SX} {v : SY} (I : i_Rel k u v) (hk : k + 5 ≤ 2560) (v1 : Int32) (v2 : Int32) : wpX_pieceType (fun r => wpY_pieceType (fun r' => r' = r ∧ i_Rel (k + 5) u v) v v1 v2) u v1 v2 := by
  refine rl_el (Z := fun u v => wpX_pieceType (fun r => wpY_pieceType (fun r' => r' = r ∧ i_Rel (k + 5) u v) v v1 v2) u v1 v2) ?_ I
  intro n c eo ef el et ww wf wl wt ws q tb yw yf ym yk yo hP hQ hc
  have hn := rl_n hP.1 hP.2.1
  unfold wpX_pieceType wpY_pieceType
  dsimp only
  rcases rl_owner v1 with ⟨o, ho, rfl⟩ | ⟨fX, fY⟩
  · obtain ⟨b0, b1, g0, g1, ⟨i, hi, rfl, w⟩ | ⟨hx, w⟩⟩ := rl_fnd (c := c) (ww := ww) (wf := wf) (wl := wl) (wt := wt) (ws := ws) hP ho v2
    · have hb1 := g1.1
      have a := hP.1 (b0 + i) (by omega)
      have hko := (rl_segk g0 g1 (show b0 + i < n by omega)).mpr ⟨by omega, hi⟩
      refine w _ ?_
      rw [rl_at et (show b0 + i < 2 ^ 31 by omega)]
      refine br_t (nI_pos' (by omega)) ⟨vp_in_nI (by omega) (by decide), rl_ownY ho (br_t rfl (rl_sof hP g0 g1 ho (fun j hj e => ?_) (fun h => absurd rfl (h i hi))))⟩
      rw [nI_eq (by omega) (by omega)] at e
      subst e
      have e1 := hP.2.2.2.1 (b0 + i) (by omega) (ef (b0 + i)) (Nat.le_refl _) (by omega)
      rw [hko] at e1
      rw [rl_ix, rl_at tb (show 40 * o + ef (b0 + i) < 2 ^ 31 by omega), e1]
      exact br_t (nI_pos' (by omega)) ⟨vp_in_nI (by omega) (by decide), rfl, rl_mkRel hP hQ (by omega)⟩
    · exact w _ (br_f (by decide) (rl_ownY ho (br_t rfl (rl_sof hP g0 g1 ho (fun j hj e => absurd e.symm (hx j hj)) (fun _ => br_f (by decide) ⟨rfl, rl_mkRel hP hQ (by omega)⟩)))))
  · exact rl_fndbad fX _ (br_f (by decide) (fY _ _ (br_f (by decide) ⟨rfl, rl_mkRel hP hQ (by omega)⟩)))
end
section
section
variable {n c : Nat} {eo ef el et ww wf wl wt ws : Nat → Nat} {q : Nat} {tb yw yf ym yk : Nat → Nat} {yo : Nat → Int32}
theorem rl_cntX {post : Int32 → Prop} {o t b0 b1 : Nat} (hP : rl_P n eo ef el et tb) (g0 : rl_bg n eo o b0) (g1 : rl_bg n eo (o + 1) b1) (ho : o < 5) (ht : t ≤ 2)
    (hp0 : t = 0 → post (nI (40 - rl_ct (fun b => tb (40 * o + b) ≠ 0) 40))) (hp1 : t ≠ 0 → post (nI (rl_ct (fun b => tb (40 * o + b) ≠ 0 ∧ tb (40 * o + b) = t) 40))) :
    ∀ d j e, j + d = b1 → b0 ≤ j → e ≤ 40 → (∀ k, j ≤ k → k < b1 → e ≤ ef k) → (∀ k, b0 ≤ k → k < j → el k < e) →
    wX_count_42 post (nI t) (nI b1) (nI n) (nI c) (rl_F eo) (rl_F ef) (rl_F el) (rl_F et) (rl_F ww) (rl_F wf) (rl_F wl) (rl_F wt) (rl_F ws) (d + 1) (nI (rl_ct (fun b => tb (40 * o + b) ≠ 0 ∧ tb (40 * o + b) = t) e)) (nI (rl_ct (fun b => tb (40 * o + b) ≠ 0) e)) (nI j) := by
  have hn := rl_n hP.1 hP.2.1
  have hb1 := g1.1
  have gap : ∀ j e, b0 ≤ j → j ≤ b1 → (∀ k, b0 ≤ k → k < j → el k < e) → ∀ b, e ≤ b → b < 40 → (j < b1 → b < ef j) → tb (40 * o + b) = 0 := by
    intro j e hj0 hj1 he b h1 h2 h3
    by_cases z : tb (40 * o + b) = 0
    · exact z
    · exfalso
      obtain ⟨k, k1, k2, k3, k4⟩ := hP.2.2.2.2 o b ho h2 z
      have s := (rl_segk g0 g1 k1).mp k2
      by_cases y : k < j
      · have := he k s.1 y; omega
      · have := h3 (by omega)
        by_cases w : k = j
        · subst w; omega
        · have := rl_seglt hP g0 g1 hj0 (show j < k by omega) s.2
          have := hP.1 j (by omega)
          omega
  intro d
  induction d with
  | zero =>
    intro j e hj hj0 he h1 h2
    have g := gap j e hj0 (by omega) h2
    have c1 : rl_ct (fun b => tb (40 * o + b) ≠ 0 ∧ tb (40 * o + b) = t) 40 = rl_ct (fun b => tb (40 * o + b) ≠ 0 ∧ tb (40 * o + b) = t) e := by
      have k := rl_cou (P := fun b => tb (40 * o + b) ≠ 0 ∧ tb (40 * o + b) = t) (a := e) (40 - e) (fun p p1 p2 h => h.1 (g p p1 (by omega) (fun z => absurd z (by omega))))
      rw [show e + (40 - e) = 40 by omega] at k
      exact k
    have c2 : rl_ct (fun b => tb (40 * o + b) ≠ 0) 40 = rl_ct (fun b => tb (40 * o + b) ≠ 0) e := by
      have k := rl_cou (P := fun b => tb (40 * o + b) ≠ 0) (a := e) (40 - e) (fun p p1 p2 h => h (g p p1 (by omega) (fun z => absurd z (by omega))))
      rw [show e + (40 - e) = 40 by omega] at k
      exact k
    rw [← c1, ← c2]
    have e3 : (40 : Int32) - nI (rl_ct (fun b => tb (40 * o + b) ≠ 0) 40) = nI (40 - rl_ct (fun b => tb (40 * o + b) ≠ 0) 40) := pk_sub (a := 40) (rl_cle _ 40)
    rw [wX_count_42]
    dsimp only
    rw [e3]
    exact br_t (nI_le (by omega) (by omega)) (pk_eq t 0 hp0 hp1)
  | succ d ih =>
    intro j e hj hj0 he h1 h2
    have h31 : j < 2 ^ 31 := by omega
    have a := hP.1 j (by omega)
    have hv : vp_in (nI j) 204 := vp_in_nI (by omega) (by decide)
    have hej := h1 j (Nat.le_refl j) (by omega)
    have hjo := (rl_segk g0 g1 (show j < n by omega)).mpr ⟨hj0, by omega⟩
    have g := gap j e hj0 (by omega) h2
    have hD : ∀ b, ef j ≤ b → b ≤ el j → tb (40 * o + b) = et j := fun b x1 x2 => by
      have := hP.2.2.2.1 j (by omega) b x1 x2
      rw [hjo] at this
      exact this
    have c2 : rl_ct (fun b => tb (40 * o + b) ≠ 0) (el j + 1) = rl_ct (fun b => tb (40 * o + b) ≠ 0) e + (el j - ef j + 1) := by
      have k := rl_cou (P := fun b => tb (40 * o + b) ≠ 0) (a := e) (ef j - e) (fun p p1 p2 h => h (g p p1 (by omega) (fun z => by omega)))
      have k2 := rl_cin (P := fun b => tb (40 * o + b) ≠ 0) (a := ef j) (el j - ef j + 1) (fun p p1 p2 h => by rw [hD p p1 (by omega)] at h; omega)
      rw [show e + (ef j - e) = ef j by omega] at k
      rw [show ef j + (el j - ef j + 1) = el j + 1 by omega, k] at k2
      exact k2
    have k1 := rl_cou (P := fun b => tb (40 * o + b) ≠ 0 ∧ tb (40 * o + b) = t) (a := e) (ef j - e) (fun p p1 p2 h => h.1 (g p p1 (by omega) (fun z => by omega)))
    rw [show e + (ef j - e) = ef j by omega] at k1
    have nx := ih (j + 1) (el j + 1) (by omega) (by omega) (by omega) (fun k x1 x2 => rl_seglt hP g0 g1 hj0 (by omega) x2) (fun k x1 x2 => by
      by_cases w : k = j
      · subst w; omega
      · have := rl_seglt hP g0 g1 x1 (show k < j by omega) (by omega)
        omega)
    have sz : nI (el j) - nI (ef j) + 1 = nI (el j - ef j + 1) := by rw [pk_sub (by omega), nI_1]
    have z0 : ∀ a : Nat, nI a + 0 = nI a := fun a => nI_add a 0
    rw [wX_count_42]
    dsimp only
    rw [rl_at el h31, rl_at ef h31, rl_at et h31]
    rw [c2] at nx
    refine br_f (nI_ge (by omega) (by omega)) ⟨hv, hv, nm_r sz (nm_r (nI_add _ _) ⟨hv, pk_eq (et j) t (fun z => nm_r (nI_add _ _) (nm_r (nI_1 _) ?_)) (fun z => nm_r (z0 _) (nm_r (nI_1 _) ?_))⟩)⟩
    · have k2 := rl_cin (P := fun b => tb (40 * o + b) ≠ 0 ∧ tb (40 * o + b) = t) (a := ef j) (el j - ef j + 1) (fun p p1 p2 => by
        have := hD p p1 (by omega)
        exact ⟨by omega, by omega⟩)
      rw [show ef j + (el j - ef j + 1) = el j + 1 by omega, k1] at k2
      rw [k2] at nx
      exact nx
    · have k2 := rl_cou (P := fun b => tb (40 * o + b) ≠ 0 ∧ tb (40 * o + b) = t) (a := ef j) (el j - ef j + 1) (fun p p1 p2 h => by
        have := hD p p1 (by omega)
        have := h.2
        omega)
      rw [show ef j + (el j - ef j + 1) = el j + 1 by omega, k1] at k2
      rw [k2] at nx
      exact nx
theorem rl_count {o t : Nat} (hP : rl_P n eo ef el et tb) (ho : o < 5) (ht : t ≤ 2) (post : Int32 → Prop) (hp : post (nI (rl_ct (fun b => tb (40 * o + b) = t) 40))) : wpX_count post (nI n, nI c, rl_F eo, rl_F ef, rl_F el, rl_F et, rl_F ww, rl_F wf, rl_F wl, rl_F wt, rl_F ws) (nI o) (nI t) := by
  obtain ⟨b0, g0, w0⟩ := rl_begin (c := c) (ww := ww) (wf := wf) (wl := wl) (wt := wt) (ws := ws) (o := o) hP.1 hP.2.1 (by omega)
  obtain ⟨b1, g1, w1⟩ := rl_begin (c := c) (ww := ww) (wf := wf) (wl := wl) (wt := wt) (ws := ws) (o := o + 1) hP.1 hP.2.1 (by omega)
  have hbb := rl_segb g0 g1
  have k := rl_cntX (post := post) (c := c) (ww := ww) (wf := wf) (wl := wl) (wt := wt) (ws := ws) hP g0 g1 ho ht (fun z => by
      have x := rl_cco (fun b => tb (40 * o + b) = t) 40
      have y : rl_ct (fun p => ¬ tb (40 * o + p) = t) 40 = rl_ct (fun b => tb (40 * o + b) ≠ 0) 40 := rl_cc (fun p _ => by rw [z])
      rw [show 40 - rl_ct (fun b => tb (40 * o + b) ≠ 0) 40 = rl_ct (fun b => tb (40 * o + b) = t) 40 by omega]
      exact hp) (fun z => by
      rw [show rl_ct (fun b => tb (40 * o + b) ≠ 0 ∧ tb (40 * o + b) = t) 40 = rl_ct (fun b => tb (40 * o + b) = t) 40 from rl_cc (fun p _ => ⟨fun h => h.2, fun h => ⟨by omega, h⟩⟩)]
      exact hp) (b1 - b0) b0 0 (by omega) (Nat.le_refl _) (by omega) (fun k _ _ => Nat.zero_le _) (fun k h1 h2 => absurd h1 (by omega))
  unfold wpX_count
  dsimp only
  exact rl_ownX ho (br_f (by decide) (br_f (nI_pos (by omega)) (br_t (nI_le (b := 2) ht (by decide)) (w1 _ _ (nI_1 o) (w0 _ _ rfl ⟨_, k⟩)))))
theorem rl_cntY {post : Int32 → Prop} {o t : Nat} (hT : ∀ o b, o < 5 → b < 40 → tb (40 * o + b) ≤ 2) (ho : o < 5) (ht : t ≤ 2) (hp : post (nI (rl_ct (fun b => tb (40 * o + b) = t) 40))) :
    ∀ d b, b + d = 40 → wY_count_27 post (nI o) (nI t) (nI q) (rl_F tb) (rl_F yw) (rl_F yf) (rl_F ym) (rl_F yk) yo (d + 1) (nI (rl_ct (fun b => tb (40 * o + b) = t) b)) (nI b) := by
  intro d
  induction d with
  | zero =>
    intro b hb
    have e : b = 40 := by omega
    subst e
    exact br_t (nI_le (a := 40) (by omega) (by omega)) hp
  | succ d ih =>
    intro b hb
    have k := ih (b + 1) (by omega)
    have k' : rl_ct (fun b => tb (40 * o + b) = t) (b + 1) = rl_ct (fun b => tb (40 * o + b) = t) b + rl_b (tb (40 * o + b) = t) := rfl
    have h2 := hT o b ho (by omega)
    rw [wY_count_27]
    dsimp only
    rw [rl_ix, rl_at tb (show 40 * o + b < 2 ^ 31 by omega)]
    refine br_f (nI_ge (b := 40) (by omega) (by omega)) ⟨vp_in_nI (by omega) (by decide), pk_eq (tb (40 * o + b)) t (fun z => nm_r (nI_1 _) (nm_r (nI_1 _) ?_)) (fun z => nm_r (nI_1 _) ?_)⟩
    · rw [k', rl_b1 z] at k; exact k
    · rw [k', rl_b0 z] at k; exact k
theorem rl_clsY {post : Int32 → SY → Prop} {o : Nat} (hT : ∀ o b, o < 5 → b < 40 → tb (40 * o + b) ≤ 2) (ho : o < 5) (K : wY_close_14 post (nI o) (nI q) (rl_F tb) (rl_F yw) (rl_F yf) (rl_F ym) (rl_F yk) yo 1 (nI (rl_ct (fun b => tb (40 * o + b) ≠ 0) 40)) (nI 40)) :
    ∀ d b, b + d = 40 → wY_close_14 post (nI o) (nI q) (rl_F tb) (rl_F yw) (rl_F yf) (rl_F ym) (rl_F yk) yo (d + 1) (nI (rl_ct (fun b => tb (40 * o + b) ≠ 0) b)) (nI b) := by
  intro d
  induction d with
  | zero =>
    intro b hb
    have e : b = 40 := by omega
    subst e
    exact K
  | succ d ih =>
    intro b hb
    have k := ih (b + 1) (by omega)
    have k' : rl_ct (fun b => tb (40 * o + b) ≠ 0) (b + 1) = rl_ct (fun b => tb (40 * o + b) ≠ 0) b + rl_b (tb (40 * o + b) ≠ 0) := rfl
    have h2 := hT o b ho (by omega)
    rw [wY_close_14]
    dsimp only
    rw [rl_ix, rl_at tb (show 40 * o + b < 2 ^ 31 by omega)]
    refine br_f (nI_ge (b := 40) (by omega) (by omega)) ⟨vp_in_nI (by omega) (by decide), pk_eq (tb (40 * o + b)) 0 (fun z => nm_r (nI_1 _) ?_) (fun z => nm_r (nI_1 _) (nm_r (nI_1 _) ?_))⟩
    · rw [k', rl_b0 (fun h => h z)] at k; exact k
    · rw [k', rl_b1 z] at k; exact k
end
theorem i_vc_count {k : Nat} {u : SX} {v : SY} (I : i_Rel k u v) (hk : k + 5 ≤ 2560) (v1 : Int32) (v2 : Int32) : wpX_count (fun r => wpY_count (fun r' => r' = r ∧ i_Rel (k + 5) u v) v v1 v2) u v1 v2 := by
  refine rl_el (Z := fun u v => wpX_count (fun r => wpY_count (fun r' => r' = r ∧ i_Rel (k + 5) u v) v v1 v2) u v1 v2) ?_ I
  intro n c eo ef el et ww wf wl wt ws q tb yw yf ym yk yo hP hQ hc
  have hT : ∀ o b, o < 5 → b < 40 → tb (40 * o + b) ≤ 2 := fun o b h1 h2 => rl_tv hP h1 h2
  rcases rl_owner v1 with ⟨o, ho, rfl⟩ | ⟨fX, fY⟩
  · rcases rl_typ v2 with ⟨t, ht, rfl⟩ | h | ⟨h, h'⟩
    · refine rl_count hP ho ht _ ?_
      unfold wpY_count
      dsimp only
      exact rl_ownY ho (br_t rfl (br_f (nI_pos (by omega)) (br_t (nI_le (b := 2) ht (by decide)) ⟨41, rl_cntY hT ho ht ⟨rfl, rl_mkRel hP hQ (by omega)⟩ 40 0 rfl⟩)))
    · unfold wpX_count wpY_count
      dsimp only
      exact rl_ownX ho (br_f (by decide) (br_t h (rl_ownY ho (br_t rfl (br_t h ⟨rfl, rl_mkRel hP hQ (by omega)⟩)))))
    · unfold wpX_count wpY_count
      dsimp only
      exact rl_ownX ho (br_f (by decide) (br_f h (br_f h' (rl_ownY ho (br_t rfl (br_f h (br_f h' ⟨rfl, rl_mkRel hP hQ (by omega)⟩)))))))
  · unfold wpX_count wpY_count
    dsimp only
    exact fX _ (br_t rfl (fY _ _ (br_f (by decide) ⟨rfl, rl_mkRel hP hQ (by omega)⟩)))
theorem rl_uu (f : Nat → Nat) {k v : Nat} (h : f k = v) : rl_u f k v = f := by
  funext j
  unfold rl_u
  by_cases e : j = k
  · rw [if_pos e, e, h]
  · rw [if_neg e]
theorem i_vc_close {k : Nat} {u : SX} {v : SY} (I : i_Rel k u v) (hk : k + 5 ≤ 2560) (v1 : Int32) : wpX_close (fun r u' => wpY_close (fun r' v' => r' = r ∧ i_Rel (k + 5) u' v') v v1) u v1 := by
  refine rl_el (Z := fun u v => wpX_close (fun r u' => wpY_close (fun r' v' => r' = r ∧ i_Rel (k + 5) u' v') v v1) u v1) ?_ I
  intro n c eo ef el et ww wf wl wt ws q tb yw yf ym yk yo hP hQ hc
  have hT : ∀ o b, o < 5 → b < 40 → tb (40 * o + b) ≤ 2 := fun o b h1 h2 => rl_tv hP h1 h2
  have hq := rl_Qq hQ
  unfold wpX_close
  dsimp only
  rcases rl_owner v1 with ⟨o, ho, rfl⟩ | ⟨fX, fY⟩
  · have h31 : o < 2 ^ 31 := by omega
    have hv : vp_in (nI o) 5 := vp_in_nI ho (by decide)
    have hx := rl_cco (fun b => tb (40 * o + b) = 0) 40
    have hct : (40 : Int32) - nI (rl_ct (fun b => tb (40 * o + b) = 0) 40) = nI (rl_ct (fun b => tb (40 * o + b) ≠ 0) 40) := by
      have e : (40 : Int32) - nI (rl_ct (fun b => tb (40 * o + b) = 0) 40) = nI (40 - rl_ct (fun b => tb (40 * o + b) = 0) 40) := pk_sub (a := 40) (rl_cle _ 40)
      have y : rl_ct (fun p => ¬ tb (40 * o + p) = 0) 40 = rl_ct (fun b => tb (40 * o + b) ≠ 0) 40 := rfl
      rw [e]
      exact congrArg nI (by omega)
    rw [rl_nar0, rl_wr ww 0 h31]
    refine rl_ownX ho (br_f (by decide) (rl_count (t := 0) hP ho (by omega) _ (nm_r hct ⟨hv, nm_e ?_⟩)))
    by_cases hw : ww o = 0
    · rw [rl_uu ww hw]
      obtain ⟨n', eo', ef', el', et', r, ⟨y1, y2, y3, y4, y5, y6, y7, y8, y9, y10, y11⟩, ⟨z1, z2, z3, z4, z5, z6, z7⟩, e1, e2, e3, e4⟩ := rl_go (yo := yo) (k := k + 5) (o := o) (s := 0) (m := 40) (t := 0) (by omega) hP hQ (by omega) ho (by omega) (by omega) (by omega)
      refine e2 _ (e3 _ ?_)
      unfold wpY_close
      dsimp only
      refine rl_ownY ho (br_t rfl ⟨41, rl_clsY hT ho ?_ 40 0 rfl⟩)
      refine br_t (nI_le (a := 40) (by omega) (by omega)) (rl_place0 hQ ho hw (br_t (by decide) ?_))
      unfold wY_close_58
      exact rl_grant (s := 0) (m := 40) (t := 0) ho (by omega) (e4 _ ⟨rfl, e1⟩)
    · obtain ⟨j, hj, ej⟩ := hQ.2.2.2.2 o ho hw
      have hQ' := rl_Qleave hQ hj
      rw [ej] at hQ'
      obtain ⟨n', eo', ef', el', et', r, ⟨y1, y2, y3, y4, y5, y6, y7, y8, y9, y10, y11⟩, ⟨z1, z2, z3, z4, z5, z6, z7⟩, e1, e2, e3, e4⟩ := rl_go (yo := yo) (k := k + 5) (o := o) (s := 0) (m := 40) (t := 0) (by omega) hP hQ' (by omega) ho (by omega) (by omega) (by omega)
      refine e2 _ (e3 _ ?_)
      unfold wpY_close
      dsimp only
      refine rl_ownY ho (br_t rfl ⟨41, rl_clsY hT ho ?_ 40 0 rfl⟩)
      refine br_t (nI_le (a := 40) (by omega) (by omega)) (rl_place1 hQ ho hw (fun i hi ei => br_f (nI_pos (by omega)) ?_))
      have eij : i = j := rl_Qinj hQ hi hj (by rw [ei, ej])
      subst eij
      refine rl_leave hq hi ?_
      unfold wY_close_58
      exact rl_grant (s := 0) (m := 40) (t := 0) ho (by omega) (e4 _ ⟨rfl, e1⟩)
  · unfold wpY_close
    dsimp only
    exact fX _ (br_t rfl (fY _ _ (br_f (by decide) ⟨rfl, rl_mkRel hP hQ (by omega)⟩)))
end
section
def rl_bits (w : Int64) (P : Nat → Prop) : Prop := ∀ b, b < 40 → (w.toBitVec.getLsbD b = true ↔ P b)
def rl_cov (ef el : Nat → Nat) (i b : Nat) : Prop := ∃ j, j < i ∧ ef j ≤ b ∧ b ≤ el j
theorem rl_sh64 : ∀ l, l < 64 → ((1 : Int64) <<< ((nI l).toInt64 &&& 63)).toBitVec = BitVec.twoPow 64 l := by decide +kernel
theorem rl_bit_or {w : Int64} {P Q : Nat → Prop} {a : Nat} (h : rl_bits w P) (ha : a < 40) (hQ : ∀ b, b < 40 → (Q b ↔ P b ∨ b = a)) : rl_bits (w ||| ((1 : Int64) <<< ((nI a).toInt64 &&& 63))) Q := by
  intro b hb
  rw [Int64.toBitVec_or, rl_sh64 a (by omega), BitVec.getLsbD_or, BitVec.getLsbD_twoPow, hQ b hb, ← h b hb]
  by_cases z : b = a
  · subst z
    simp [show b < 64 by omega]
  · have z' : ¬ a = b := fun e => z e.symm
    simp [z, z']
theorem rl_bit_c {w : Int64} {P Q : Nat → Prop} (h : rl_bits w P) (hQ : ∀ b, b < 40 → (Q b ↔ P b)) : rl_bits w Q :=
  fun b hb => (h b hb).trans (hQ b hb).symm
section
variable {n c : Nat} {eo ef el et ww wf wl wt ws : Nat → Nat} {q : Nat} {tb yw yf ym yk : Nat → Nat} {yo : Nat → Int32}
theorem rl_fr20 {post : Int32 → Prop} {J : Int64 → Int32 → Prop} {k : Nat} (hk : k < 204) (h1 : ef k ≤ el k) (h2 : el k < 40) (hJ : ∀ w, rl_bits w (rl_cov ef el (k + 1)) → J w (nI (k + 1))) :
    ∀ d a w, a + d = el k + 1 → ef k ≤ a → rl_bits w (fun b => rl_cov ef el k b ∨ (ef k ≤ b ∧ b < a)) → wX_free_20 post J (nI k) (nI n) (nI c) (rl_F eo) (rl_F ef) (rl_F el) (rl_F et) (rl_F ww) (rl_F wf) (rl_F wl) (rl_F wt) (rl_F ws) (d + 1) w (nI a) := by
  intro d
  induction d with
  | zero =>
    intro a w ha hf hb
    have hv : vp_in (nI k) 204 := vp_in_nI hk (by decide)
    rw [wX_free_20]
    dsimp only
    rw [rl_at el (show k < 2 ^ 31 by omega)]
    refine ⟨hv, br_t (nI_lt (by omega) (by omega)) (nm_r (nI_1 _) (hJ w (rl_bit_c hb (fun b hb' => ?_))))⟩
    constructor
    · rintro ⟨j, j1, j2, j3⟩
      by_cases z : j = k
      · subst z; exact Or.inr ⟨j2, by omega⟩
      · exact Or.inl ⟨j, by omega, j2, j3⟩
    · rintro (⟨j, j1, j2, j3⟩ | h)
      · exact ⟨j, by omega, j2, j3⟩
      · exact ⟨k, by omega, h.1, by omega⟩
  | succ d ih =>
    intro a w ha hf hb
    have hv : vp_in (nI k) 204 := vp_in_nI hk (by decide)
    rw [wX_free_20]
    dsimp only
    rw [rl_at el (show k < 2 ^ 31 by omega)]
    refine ⟨hv, br_f (nI_nlt (by omega) (by omega)) (nm_e (nm_r (nI_1 _) (ih (a + 1) _ (by omega) (by omega) (rl_bit_or hb (by omega) (fun b hb' => ?_)))))⟩
    constructor
    · rintro (h | h)
      · exact Or.inl (Or.inl h)
      · by_cases z : b = a
        · exact Or.inr z
        · exact Or.inl (Or.inr ⟨h.1, by omega⟩)
    · rintro ((h | h) | h)
      · exact Or.inl h
      · exact Or.inr ⟨h.1, by omega⟩
      · exact Or.inr ⟨by omega, by omega⟩
theorem rl_fr4 {post : Int32 → Prop} (hA : rl_A n eo ef el et) (hn : n ≤ 204) (K : ∀ w, rl_bits w (rl_cov ef el n) → ∃ m, wX_free_55 post w (nI n) (nI c) (rl_F eo) (rl_F ef) (rl_F el) (rl_F et) (rl_F ww) (rl_F wf) (rl_F wl) (rl_F wt) (rl_F ws) m 0 0) :
    ∀ d i w, i + d = n → rl_bits w (rl_cov ef el i) → wX_free_4 post (nI n) (nI c) (rl_F eo) (rl_F ef) (rl_F el) (rl_F et) (rl_F ww) (rl_F wf) (rl_F wl) (rl_F wt) (rl_F ws) (d + 1) w (nI i) := by
  intro d
  induction d with
  | zero =>
    intro i w hi hb
    have e : i = n := by omega
    subst e
    exact br_t (nI_le (by omega) (by omega)) (K w hb)
  | succ d ih =>
    intro i w hi hb
    have a := hA i (by omega)
    have hv : vp_in (nI i) 204 := vp_in_nI (by omega) (by decide)
    refine br_f (nI_ge (by omega) (by omega)) ⟨hv, nm_r (rl_at ef (by omega)) ⟨_, rl_fr20 (by omega) a.2.1 a.2.2.1 (fun w' hw' => ih (i + 1) w' (by omega) hw') (el i + 1 - ef i) (ef i) w (by omega) (Nat.le_refl _) (rl_bit_c hb (fun b hb' => ?_))⟩⟩
    exact ⟨fun h => h.elim id (fun z => absurd z.1 (by omega)), Or.inl⟩
theorem rl_fr55 {post : Int32 → Prop} {w : Int64} {P : Nat → Prop} (hb : rl_bits w P) (hp : post (nI (rl_ct (fun b => ¬ P b) 40))) :
    ∀ d b, b + d = 40 → wX_free_55 post w (nI n) (nI c) (rl_F eo) (rl_F ef) (rl_F el) (rl_F et) (rl_F ww) (rl_F wf) (rl_F wl) (rl_F wt) (rl_F ws) (d + 1) (nI (rl_ct (fun b => ¬ P b) b)) (nI b) := by
  intro d
  induction d with
  | zero =>
    intro b hb'
    have e : b = 40 := by omega
    subst e
    exact br_t (nI_le (a := 40) (by omega) (by omega)) hp
  | succ d ih =>
    intro b hb'
    have k := ih (b + 1) (by omega)
    have k' : rl_ct (fun b => ¬ P b) (b + 1) = rl_ct (fun b => ¬ P b) b + rl_b (¬ P b) := rfl
    have iff : ((w.toUInt64 >>> ((nI b).toInt64.toUInt64 &&& Int64.toUInt64 63)).toInt64 &&& 1) = 0 ↔ w.toBitVec.getLsbD b = false := ts_bit (show b < 64 by omega) (by rw [wb_cu b (by omega)]; exact u_tn (by omega))
    have z0 : ∀ a : Nat, nI a + 0 = nI a := fun a => nI_add a 0
    refine br_f (nI_ge (b := 40) (by omega) (by omega)) ?_
    by_cases z : P b
    · have t : ¬ ((w.toUInt64 >>> ((nI b).toInt64.toUInt64 &&& Int64.toUInt64 63)).toInt64 &&& 1) = 0 := fun h => by
        have x := iff.mp h
        rw [(hb b (by omega)).mpr z] at x
        exact absurd x (by decide)
      rw [k', rl_b0 (fun h => h z)] at k
      exact br_f t (nm_r (z0 _) (nm_r (nI_1 _) k))
    · have t : ((w.toUInt64 >>> ((nI b).toInt64.toUInt64 &&& Int64.toUInt64 63)).toInt64 &&& 1) = 0 := iff.mpr (ts_nt (fun h => z ((hb b (by omega)).mp h)))
      rw [k', rl_b1 z] at k
      exact br_t t (nm_r (nI_1 _) (nm_r (nI_1 _) k))
theorem rl_frY {post : Int32 → Prop} (hT : ∀ o b, o < 5 → b < 40 → tb (40 * o + b) ≤ 2) (hp : post (nI (rl_ct (fun b => ∀ p, p < 5 → ¬ tb (40 * p + b) ≠ 0) 40))) :
    ∀ d b, b + d = 40 → wY_free_4 post (nI q) (rl_F tb) (rl_F yw) (rl_F yf) (rl_F ym) (rl_F yk) yo (d + 1) (nI (rl_ct (fun b => ∀ p, p < 5 → ¬ tb (40 * p + b) ≠ 0) b)) (nI b) := by
  intro d
  induction d with
  | zero =>
    intro b hb
    have e : b = 40 := by omega
    subst e
    exact br_t (nI_le (a := 40) (by omega) (by omega)) hp
  | succ d ih =>
    intro b hb
    have k := ih (b + 1) (by omega)
    have k' : rl_ct (fun b => ∀ p, p < 5 → ¬ tb (40 * p + b) ≠ 0) (b + 1) = rl_ct (fun b => ∀ p, p < 5 → ¬ tb (40 * p + b) ≠ 0) b + rl_b (∀ p, p < 5 → ¬ tb (40 * p + b) ≠ 0) := rfl
    refine br_f (nI_ge (b := 40) (by omega) (by omega)) (rl_holdY hT (by omega) (br_c (fun z => nm_r (nI_1 _) (nm_r (nI_1 _) ?_)) (fun z => nm_r (nI_1 _) ?_)))
    · rw [k', rl_b1 (rl_mkI.mp z)] at k; exact k
    · rw [k', rl_b0 (fun h => z (rl_mkI.mpr h))] at k; exact k
end
theorem i_vc_free {k : Nat} {u : SX} {v : SY} (I : i_Rel k u v) (hk : k + 5 ≤ 2560) : wpX_free (fun r => wpY_free (fun r' => r' = r ∧ i_Rel (k + 5) u v) v) u := by
  refine rl_el (Z := fun u v => wpX_free (fun r => wpY_free (fun r' => r' = r ∧ i_Rel (k + 5) u v) v) u) ?_ I
  intro n c eo ef el et ww wf wl wt ws q tb yw yf ym yk yo hP hQ hc
  have hn := rl_n hP.1 hP.2.1
  have hT : ∀ o b, o < 5 → b < 40 → tb (40 * o + b) ≤ 2 := fun o b h1 h2 => rl_tv hP h1 h2
  have same : rl_ct (fun b => ¬ rl_cov ef el n b) 40 = rl_ct (fun b => ∀ p, p < 5 → ¬ tb (40 * p + b) ≠ 0) 40 := by
    refine rl_cc (fun b hb => ⟨fun h p hp z => ?_, fun h z => ?_⟩)
    · obtain ⟨j, j1, j2, j3, j4⟩ := hP.2.2.2.2 p b hp hb z
      exact h ⟨j, j1, j3, j4⟩
    · obtain ⟨j, j1, j3, j4⟩ := z
      have a := hP.1 j j1
      refine h (eo j) a.1 ?_
      rw [hP.2.2.2.1 j j1 b j3 j4]
      omega
  have yy : wpY_free (fun r' => r' = nI (rl_ct (fun b => ¬ rl_cov ef el n b) 40) ∧ i_Rel (k + 5) (nI n, nI c, rl_F eo, rl_F ef, rl_F el, rl_F et, rl_F ww, rl_F wf, rl_F wl, rl_F wt, rl_F ws) (nI q, rl_F tb, rl_F yw, rl_F yf, rl_F ym, rl_F yk, yo)) (nI q, rl_F tb, rl_F yw, rl_F yf, rl_F ym, rl_F yk, yo) := by
    rw [same]
    exact ⟨41, rl_frY hT ⟨rfl, rl_mkRel hP hQ (by omega)⟩ 40 0 rfl⟩
  refine ⟨n + 1, rl_fr4 hP.1 (by omega) (fun w hw => ⟨41, rl_fr55 hw yy 40 0 rfl⟩) n 0 0 (by omega) (fun b hb => ?_)⟩
  rw [show (0 : Int64).toBitVec = 0#64 from rfl, BitVec.getLsbD_zero]
  exact ⟨fun h => absurd h (by decide), fun ⟨j, j1, _⟩ => absurd j1 (by omega)⟩
end
