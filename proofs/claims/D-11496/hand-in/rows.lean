section
/-! ===== codes: naturals for ints; arrays packed into one natural ===== -/
/-- what the codes stand over: first, value, turn -/
abbrev ef_E : Type := Nat × Int32 × Int32
def eb_ad (a b : Nat) : Nat := Nat.mod (Nat.add a b) 4294967296
def eb_sb (a b : Nat) : Nat := Nat.mod (Nat.add a (Nat.sub 4294967296 (Nat.mod b 4294967296))) 4294967296
def eb_ml (a b : Nat) : Nat := Nat.mod (Nat.mul a b) 4294967296
def eb_dv (a b : Nat) : Nat := Nat.div a b
def eb_an (a b : Nat) : Nat := Nat.land a b
def eb_sr (a n : Nat) : Nat := Nat.shiftRight a n
def eb_ka (a i : Nat) : Nat := Nat.add (Nat.mod (Nat.add a i) 4294967296) (Nat.mul (Nat.mod (Nat.div a 4294967296) 16777216) 4294967296)
def eb_ks (a i : Nat) : Nat := eb_ka a (Nat.sub 4294967296 (Nat.mod i 4294967296))
def eb_kb (a : Nat) : Nat := Nat.add (Nat.mod a 256) (Nat.mul (Nat.div a 4294967296) 4294967296)
def eb_ik (a : Nat) : Nat := Nat.mod a 4294967296
def eb_lo (a b : Nat) : Nat := Nat.lor a b
def eb_mk (a b : Nat) : Nat := Nat.shiftLeft (Nat.sub (Nat.shiftLeft 1 a) 1) b
def eb_bt (c i : Nat) : Nat := Nat.mod (Nat.shiftRight c i) 2
def eb_gt (A i : Nat) : Nat := Nat.mod (Nat.shiftRight A (Nat.mul 32 i)) 4294967296
def eb_st (A i v : Nat) : Nat := Nat.xor A (Nat.shiftLeft (Nat.mod (Nat.xor (Nat.shiftRight A (Nat.mul 32 i)) v) 4294967296) (Nat.mul 32 i))
def eb_gk (A i : Nat) : Nat := Nat.mod (Nat.shiftRight A (Nat.mul 56 i)) 72057594037927936
def eb_sk (A i v : Nat) : Nat := Nat.xor A (Nat.shiftLeft (Nat.mod (Nat.xor (Nat.shiftRight A (Nat.mul 56 i)) v) 72057594037927936) (Nat.mul 56 i))
noncomputable def eb_if (c A B : Bool) : Bool := Bool.rec (motive := fun _ => Bool) B A c
noncomputable def eb_i3 (c d A B : Bool) : Bool := Bool.rec (motive := fun _ => Bool) (Bool.rec (motive := fun _ => Bool) false B d) A c
noncomputable def eb_g (c B : Bool) : Bool := Bool.rec (motive := fun _ => Bool) false B c
noncomputable def eb_in (i n : Nat) (B : Bool) : Bool := Bool.rec (motive := fun _ => Bool) false B (Nat.ble (Nat.succ i) n)
noncomputable def eb_fc (x : Nat) (k : Nat → Bool) : Bool := Nat.rec (motive := fun _ => Bool) (k 0) (fun m _ => k (Nat.succ m)) x
noncomputable def eb_fk (k : Nat → Bool) : Bool := Bool.rec (motive := fun _ => Bool) false (k 1) (k 0)
def eb_le (a b : Nat) : Bool := Nat.ble (Nat.mod (Nat.add a 2147483648) 4294967296) (Nat.mod (Nat.add b 2147483648) 4294967296)
def eb_lt (a b : Nat) : Bool := Nat.ble (Nat.succ (Nat.mod (Nat.add a 2147483648) 4294967296)) (Nat.mod (Nat.add b 2147483648) 4294967296)
def eb_eq (a b : Nat) : Bool := Nat.beq (Nat.mod a 4294967296) (Nat.mod b 4294967296)
noncomputable def eb_kv (c : Nat) : Bool := eb_g (Nat.ble (Nat.div c 4294967296) 1) (Nat.ble (Nat.mod (Nat.succ c) 4294967296) 65536)
noncomputable def eb_kle (a b : Nat) : Bool := eb_if (Nat.ble (Nat.lor a b) 65535) (Nat.ble a b) (eb_g (eb_kv a) (eb_g (eb_kv b) (Nat.ble (Nat.add (Nat.mod (Nat.succ a) 4294967296) (Nat.mul 79 (Nat.sub (Nat.div a 4294967296) (Nat.div b 4294967296)))) (Nat.mod (Nat.succ b) 4294967296))))
noncomputable def eb_klt (a b : Nat) : Bool := eb_if (Nat.ble (Nat.lor a b) 65535) (Nat.ble (Nat.succ a) b) (eb_g (eb_kv a) (eb_g (eb_kv b) (Nat.ble (Nat.succ (Nat.add (Nat.mod (Nat.succ a) 4294967296) (Nat.mul 79 (Nat.sub (Nat.div a 4294967296) (Nat.div b 4294967296))))) (Nat.mod (Nat.succ b) 4294967296))))
def eb_keq (a b : Nat) : Bool := Nat.beq a b
noncomputable def eb_kne (a b : Nat) : Bool := eb_if (eb_klt a b) true (eb_klt b a)
def eb_b0 (a : Nat) : Bool := Nat.beq a 0
def eb_sm (a : Nat) : Bool := Nat.ble a 2147483647
noncomputable def eb_b8 (a : Nat) : Bool := eb_if (Nat.ble a 127) true (Nat.beq a 4294967295)
def eb_s16 (a : Nat) : Bool := Nat.ble a 32767
noncomputable def eb_ks16 (a : Nat) : Bool := eb_g (Nat.ble (Nat.div a 4294967296) 1) (Nat.ble (Nat.mod a 4294967296) 31999)
def eb_z1 (a : Nat) : Bool := Nat.ble a 1
def eb_l6 (a : Nat) : Bool := Nat.ble a 63
def eb_k2i (a : Nat) : Bool := Nat.ble a 4294967295
noncomputable def eb_kg (a : Nat) : Bool := eb_if (Nat.ble a 4294967295) true (eb_g (eb_ks16 a) (Nat.ble (Nat.mod a 256) 175))
/-- a linear code's value -/
def ef_kv (e : ef_E) (c : Nat) : Int32 := nI c + nI (c / 4294967296 % 256) * nI e.1 + nI (c / 1099511627776 % 256) * e.2.1 + nI (c / 281474976710656 % 256) * e.2.2
def eb_ar (A : Nat) : Nat → Int32 := fun i => nI (eb_gt A i)
def eb_ak (e : ef_E) (A : Nat) : Nat → Int32 := fun i => ef_kv e (eb_gk A i)

/-! ===== the control rows ===== -/
theorem eh_ifE {c A B : Bool} (h : eb_if c A B = true) : (c = true ∧ A = true) ∨ (c = false ∧ B = true) := by
  cases c
  · exact Or.inr ⟨rfl, h⟩
  · exact Or.inl ⟨rfl, h⟩
theorem eh_g {c B : Bool} (h : eb_g c B = true) : c = true ∧ B = true := by
  cases c
  · exact absurd (show false = true from h) Bool.false_ne_true
  · exact ⟨rfl, h⟩
theorem eh_if {C PA PB : Prop} {c A B : Bool} (hc : C ↔ c = true) (h : eb_if c A B = true) (ha : A = true → PA) (hb : B = true → PB) : (C → PA) ∧ (¬ C → PB) := by
  rcases eh_ifE h with ⟨h1, h2⟩ | ⟨h1, h2⟩
  · exact ⟨fun _ => ha h2, fun z => absurd (hc.mpr h1) z⟩
  · exact ⟨fun z => absurd (hc.mp z) (by rw [h1]; exact Bool.false_ne_true), fun _ => hb h2⟩
theorem eh_i3 {C PA PB : Prop} {c d A B : Bool} (hc : c = true → C) (hd : d = true → ¬ C) (h : eb_i3 c d A B = true) (ha : A = true → PA) (hb : B = true → PB) : (C → PA) ∧ (¬ C → PB) := by
  cases c
  · cases d
    · exact absurd (show false = true from h) Bool.false_ne_true
    · exact ⟨fun z => absurd z (hd rfl), fun _ => hb h⟩
  · exact ⟨fun _ => ha h, fun z => absurd (hc rfl) z⟩
theorem eh_in {i n : Nat} {i' : Int32} {B : Bool} {P : Prop} (hi : i' = nI i) (h : eb_in i n B = true) (k : i < n ∧ n ≤ 1000 → B = true → P) (hn : n ≤ 1000 := by decide) : vp_in i' n ∧ P := by
  have h' := eh_g (c := Nat.ble (Nat.succ i) n) h
  have h1 : i < n := Nat.le_of_ble_eq_true h'.1
  exact ⟨by rw [hi]; exact vp_in_nI h1 (by omega), k ⟨h1, hn⟩ h'.2⟩
theorem eh_inf {i n : Nat} {i' : Int32} {P : Prop} (hi : i' = nI i) (f : i < n ∧ n ≤ 1000) (k : P) : vp_in i' n ∧ P := ⟨by rw [hi]; exact vp_in_nI f.1 (by omega), k⟩
theorem eh_fc0 (x : Nat) (k : Nat → Bool) : eb_fc x k = k x := by cases x <;> rfl
theorem eh_fc {x' : Int32} {c : Nat} {k : Nat → Bool} (ho : x' = nI c) (h : eb_fc c k = true) : ∃ d : Nat, x' = nI d ∧ k d = true := ⟨c, ho, by rw [← eh_fc0 c k]; exact h⟩
theorem eh_fcK {e : ef_E} {x' : Int32} {c : Nat} {k : Nat → Bool} (ho : x' = ef_kv e c) (h : eb_fc c k = true) : ∃ d : Nat, x' = ef_kv e d ∧ k d = true := ⟨c, ho, by rw [← eh_fc0 c k]; exact h⟩
theorem eh_fcL {x' : Int64} {c : Nat} {k : Nat → Bool} (ho : x' = lN c) (h : eb_fc c k = true) : ∃ d : Nat, x' = lN d ∧ k d = true := ⟨c, ho, by rw [← eh_fc0 c k]; exact h⟩
theorem eh_let {x' : Int32} {c : Nat} {k : Nat → Bool} {P : Int32 → Prop} (ho : x' = nI c) (h : eb_fc c k = true) (H : ∀ (d : Nat) (x : Int32), x = nI d → k d = true → P x) : ∀ x, x = x' → P x := fun x ex => H c x (ex.trans ho) (by rw [← eh_fc0 c k]; exact h)
theorem eh_letK {e : ef_E} {x' : Int32} {c : Nat} {k : Nat → Bool} {P : Int32 → Prop} (ho : x' = ef_kv e c) (h : eb_fc c k = true) (H : ∀ (d : Nat) (x : Int32), x = ef_kv e d → k d = true → P x) : ∀ x, x = x' → P x := fun x ex => H c x (ex.trans ho) (by rw [← eh_fc0 c k]; exact h)
theorem eh_letL {x' : Int64} {c : Nat} {k : Nat → Bool} {P : Int64 → Prop} (ho : x' = lN c) (h : eb_fc c k = true) (H : ∀ (d : Nat) (x : Int64), x = lN d → k d = true → P x) : ∀ x, x = x' → P x := fun x ex => H c x (ex.trans ho) (by rw [← eh_fc0 c k]; exact h)
theorem eh_leta {x' : Nat → Int32} {c : Nat} {k : Nat → Bool} {P : (Nat → Int32) → Prop} (ho : x' = eb_ar c) (h : eb_fc c k = true) (H : ∀ (d : Nat), k d = true → P (eb_ar d)) : ∀ x, x = x' → P x := fun x ex => by rw [ex, ho]; exact H c (by rw [← eh_fc0 c k]; exact h)
theorem eh_letaK {e : ef_E} {x' : Nat → Int32} {c : Nat} {k : Nat → Bool} {P : (Nat → Int32) → Prop} (ho : x' = eb_ak e c) (h : eb_fc c k = true) (H : ∀ (d : Nat), k d = true → P (eb_ak e d)) : ∀ x, x = x' → P x := fun x ex => by rw [ex, ho]; exact H c (by rw [← eh_fc0 c k]; exact h)

/-! ===== numbers ===== -/
theorem eh_ti (n : Nat) : (nI n).toInt = if n % 4294967296 < 2147483648 then ((n % 4294967296 : Nat) : Int) else ((n % 4294967296 : Nat) : Int) - 4294967296 := by
  have h : (nI n).toInt = (n : Int).bmod 4294967296 := Int32.toInt_ofNat'
  rw [h, Int.bmod_def]
  split <;> split <;> omega
theorem eh_md (n : Nat) : nI (n % 4294967296) = nI n := by
  apply Int32.toInt_inj.mp
  rw [eh_ti, eh_ti, Nat.mod_mod]
theorem eh_mdE {a b : Nat} (h : a % 4294967296 = b % 4294967296) : nI a = nI b := by
  rw [← eh_md a, ← eh_md b, h]
theorem eh_ad {a b : Nat} {a' b' : Int32} (ha : a' = nI a) (hb : b' = nI b) : a' + b' = nI (eb_ad a b) := by
  subst ha hb
  show nI a + nI b = nI ((a + b) % 4294967296)
  rw [eh_md, nI_add]
theorem eh_neg (b : Nat) : nI (4294967296 - b % 4294967296) = - nI b := by
  have h1 : nI (4294967296 - b % 4294967296) = nI 4294967296 - nI (b % 4294967296) := Int32.ofNat_sub _ _ (Nat.le_of_lt (Nat.mod_lt _ (by decide)))
  have h2 : nI 4294967296 = 0 := by decide
  rw [h1, h2, eh_md, Int32.zero_sub]
theorem eh_sb {a b : Nat} {a' b' : Int32} (ha : a' = nI a) (hb : b' = nI b) : a' - b' = nI (eb_sb a b) := by
  subst ha hb
  show nI a - nI b = nI ((a + (4294967296 - b % 4294967296)) % 4294967296)
  rw [eh_md, ← nI_add, eh_neg, Int32.sub_eq_add_neg]
theorem eh_mlI (a b : Nat) : nI (a * b) = nI a * nI b := Int32.ofNat_mul a b
theorem eh_ml {a b : Nat} {a' b' : Int32} (ha : a' = nI a) (hb : b' = nI b) : a' * b' = nI (eb_ml a b) := by
  subst ha hb
  show nI a * nI b = nI ((a * b) % 4294967296)
  rw [eh_md, eh_mlI]
theorem eh_d2 : (2 : Int32) = nI 2 ∧ 2 < 2147483648 := ⟨rfl, by decide⟩
theorem eh_d4 : (4 : Int32) = nI 4 ∧ 4 < 2147483648 := ⟨rfl, by decide⟩
theorem eh_dv {a b : Nat} {a' b' : Int32} (ha : a' = nI a) (hb : b' = nI b ∧ b < 2147483648) (g : eb_sm a = true) : a' / b' = nI (eb_dv a b) := by
  obtain ⟨hb, hb2⟩ := hb
  subst ha hb
  have h1 : a ≤ 2147483647 := Nat.le_of_ble_eq_true g
  exact (Int32.ofNat_div (a := a) (b := b) (by omega) (by omega)).symm
theorem eh_an {a b : Nat} {a' b' : Int32} (ha : a' = nI a) (hb : b' = nI b) : a' &&& b' = nI (eb_an a b) := by
  subst ha hb
  apply Int32.toBitVec_inj.mp
  show BitVec.ofNat 32 a &&& BitVec.ofNat 32 b = BitVec.ofNat 32 (a &&& b)
  exact BitVec.ofNat_and.symm
theorem eh_sr4 {a : Nat} {a' : Int32} (ha : a' = nI a) (g : eb_sm a = true) : a' >>> ((4 : Int32) &&& 31) = nI (eb_sr a 4) := by
  subst ha
  have h1 : a ≤ 2147483647 := Nat.le_of_ble_eq_true g
  rw [pk_shrN (by omega) ((4 : Int32) &&& 31) 4 (by decide)]
  show _ = nI (a >>> 4)
  rw [Nat.shiftRight_eq_div_pow]
theorem eh_sr2 {a : Nat} {a' : Int32} (ha : a' = nI a) (g : eb_sm a = true) : a' >>> ((2 : Int32) &&& 31) = nI (eb_sr a 2) := by
  subst ha
  have h1 : a ≤ 2147483647 := Nat.le_of_ble_eq_true g
  rw [pk_shrN (by omega) ((2 : Int32) &&& 31) 2 (by decide)]
  show _ = nI (a >>> 2)
  rw [Nat.shiftRight_eq_div_pow]
theorem eh_leN (a b : Nat) : eb_le a b = true ↔ (a + 2147483648) % 4294967296 ≤ (b + 2147483648) % 4294967296 := ⟨Nat.le_of_ble_eq_true, Nat.ble_eq_true_of_le⟩
theorem eh_ltN (a b : Nat) : eb_lt a b = true ↔ (a + 2147483648) % 4294967296 < (b + 2147483648) % 4294967296 := ⟨Nat.le_of_ble_eq_true, Nat.ble_eq_true_of_le⟩
theorem eh_le {a b : Nat} {a' b' : Int32} (ha : a' = nI a) (hb : b' = nI b) : a' ≤ b' ↔ eb_le a b = true := by
  subst ha hb
  rw [eh_leN, Int32.le_iff_toInt_le, eh_ti, eh_ti]
  split <;> split <;> omega
theorem eh_lt {a b : Nat} {a' b' : Int32} (ha : a' = nI a) (hb : b' = nI b) : a' < b' ↔ eb_lt a b = true := by
  subst ha hb
  rw [eh_ltN, Int32.lt_iff_toInt_lt, eh_ti, eh_ti]
  split <;> split <;> omega
theorem eh_eq {a b : Nat} {a' b' : Int32} (ha : a' = nI a) (hb : b' = nI b) : a' = b' ↔ eb_eq a b = true := by
  subst ha hb
  constructor
  · intro h
    rw [← Int32.toInt_inj, eh_ti, eh_ti] at h
    have h2 : a % 4294967296 = b % 4294967296 := by
      split at h <;> split at h <;> omega
    show Nat.beq (a % 4294967296) (b % 4294967296) = true
    rw [h2]
    exact Nat.beq_refl _
  · intro h
    have h2 : a % 4294967296 = b % 4294967296 := Nat.eq_of_beq_eq_true h
    exact eh_mdE h2

/-! ===== narrowing ===== -/
theorem eh_nar8 {x : Int32} (h1 : -128 ≤ x.toInt) (h2 : x.toInt < 128) : x.toInt8.toInt32 = x := by
  apply Int32.toInt_inj.mp
  rw [Int8.toInt_toInt32, Int32.toInt_toInt8]
  exact Int.bmod_eq_of_le (by omega) (by omega)
theorem eh_nar16 {x : Int32} (h1 : -32768 ≤ x.toInt) (h2 : x.toInt < 32768) : x.toInt16.toInt32 = x := by
  apply Int32.toInt_inj.mp
  rw [Int16.toInt_toInt32, Int32.toInt_toInt16]
  exact Int.bmod_eq_of_le (by omega) (by omega)
theorem eh_b8 {a : Nat} {a' : Int32} (ha : a' = nI a) (g : eb_b8 a = true) : a'.toInt8.toInt32 = nI a := by
  subst ha
  have h : a ≤ 127 ∨ a = 4294967295 := by
    rcases eh_ifE g with ⟨h, _⟩ | ⟨_, h⟩
    · exact Or.inl (Nat.le_of_ble_eq_true h)
    · exact Or.inr (Nat.eq_of_beq_eq_true h)
  apply eh_nar8
  · rw [eh_ti]
    split <;> omega
  · rw [eh_ti]
    split <;> omega
theorem eh_nb {a : Nat} {a' : Int32} (ha : a' = nI a) (g : eb_b8 a = true) : vp_nar .byte a' = nI a := eh_b8 ha g
theorem eh_s16 {a : Nat} {a' : Int32} (ha : a' = nI a) (g : eb_s16 a = true) : a'.toInt16.toInt32 = nI a := by
  subst ha
  have h : a ≤ 32767 := Nat.le_of_ble_eq_true g
  apply eh_nar16
  · rw [eh_ti]
    split <;> omega
  · rw [eh_ti]
    split <;> omega
theorem eh_ns {a : Nat} {a' : Int32} (ha : a' = nI a) (g : eb_s16 a = true) : vp_nar .short a' = nI a := eh_s16 ha g
theorem eh_nz {a : Nat} {a' : Int32} (ha : a' = nI a) (g : eb_z1 a = true) : vp_nar .boolean a' = nI a := by
  subst ha
  have h : a ≤ 1 := Nat.le_of_ble_eq_true g
  have h2 : a = 0 ∨ a = 1 := by omega
  rcases h2 with rfl | rfl
  · decide
  · decide

/-! ===== linear codes ===== -/
theorem eh_kv0 (e : ef_E) {c : Nat} (h : c < 4294967296) : ef_kv e c = nI c := by
  unfold ef_kv
  have h1 : c / 4294967296 % 256 = 0 := by omega
  have h2 : c / 1099511627776 % 256 = 0 := by omega
  have h3 : c / 281474976710656 % 256 = 0 := by omega
  rw [h1, h2, h3, nI_0, Int32.zero_mul, Int32.zero_mul, Int32.zero_mul, Int32.add_zero, Int32.add_zero, Int32.add_zero]
theorem eh_kv1 (e : ef_E) {c : Nat} (h : c / 4294967296 = 1) : ef_kv e c = nI (c + e.1) := by
  unfold ef_kv
  have h1 : c / 4294967296 % 256 = 1 := by omega
  have h2 : c / 1099511627776 % 256 = 0 := by omega
  have h3 : c / 281474976710656 % 256 = 0 := by omega
  have h4 : nI 1 = 1 := rfl
  rw [h1, h2, h3, nI_0, h4, Int32.zero_mul, Int32.zero_mul, Int32.one_mul, Int32.add_zero, Int32.add_zero, nI_add]
theorem eh_ik {e : ef_E} {a : Nat} {a' : Int32} (ha : a' = nI a) : a' = ef_kv e (eb_ik a) := by
  subst ha
  show nI a = ef_kv e (a % 4294967296)
  rw [eh_kv0 e (Nat.mod_lt _ (by decide)), eh_md]
theorem eh_k2i {e : ef_E} {a : Nat} {a' : Int32} (ha : a' = ef_kv e a) (g : eb_k2i a = true) : a' = nI a := by
  subst ha
  have h : a ≤ 4294967295 := Nat.le_of_ble_eq_true g
  exact eh_kv0 e (by omega)
theorem eh_arc (x y z : Int32) : x + y + z = x + z + y := by rw [Int32.add_assoc, Int32.add_comm y z, ← Int32.add_assoc]
theorem eh_kaI (e : ef_E) (a i : Nat) : ef_kv e (eb_ka a i) = ef_kv e a + nI i := by
  have hc : eb_ka a i = (a + i) % 4294967296 + (a / 4294967296 % 16777216) * 4294967296 := rfl
  unfold ef_kv
  rw [hc]
  have h1 : ((a + i) % 4294967296 + (a / 4294967296 % 16777216) * 4294967296) / 4294967296 % 256 = a / 4294967296 % 256 := by omega
  have h2 : ((a + i) % 4294967296 + (a / 4294967296 % 16777216) * 4294967296) / 1099511627776 % 256 = a / 1099511627776 % 256 := by omega
  have h3 : ((a + i) % 4294967296 + (a / 4294967296 % 16777216) * 4294967296) / 281474976710656 % 256 = a / 281474976710656 % 256 := by omega
  have h4 : nI ((a + i) % 4294967296 + (a / 4294967296 % 16777216) * 4294967296) = nI a + nI i := by
    rw [nI_add]
    exact eh_mdE (by omega)
  rw [h1, h2, h3, h4]
  generalize nI a = x
  generalize nI i = y
  generalize nI (a / 4294967296 % 256) * nI e.1 = z
  generalize nI (a / 1099511627776 % 256) * e.2.1 = u
  generalize nI (a / 281474976710656 % 256) * e.2.2 = v
  rw [eh_arc x y z, eh_arc (x + z) y u, eh_arc (x + z + u) y v]
theorem eh_ka {e : ef_E} {a i : Nat} {a' i' : Int32} (ha : a' = ef_kv e a) (hi : i' = nI i) : a' + i' = ef_kv e (eb_ka a i) := by
  rw [ha, hi, eh_kaI]
theorem eh_ka2 {e : ef_E} {a i : Nat} {a' i' : Int32} (hi : i' = nI i) (ha : a' = ef_kv e a) : i' + a' = ef_kv e (eb_ka a i) := by
  rw [ha, hi, eh_kaI, Int32.add_comm]
theorem eh_ks {e : ef_E} {a i : Nat} {a' i' : Int32} (ha : a' = ef_kv e a) (hi : i' = nI i) : a' - i' = ef_kv e (eb_ks a i) := by
  show _ = ef_kv e (eb_ka a (4294967296 - i % 4294967296))
  rw [ha, hi, eh_kaI, eh_neg, Int32.sub_eq_add_neg]
theorem eh_kvE {c : Nat} (h : eb_kv c = true) : c / 4294967296 ≤ 1 ∧ (c + 1) % 4294967296 ≤ 65536 := ⟨Nat.le_of_ble_eq_true (eh_g h).1, Nat.le_of_ble_eq_true (eh_g h).2⟩
/-- a valid code as an integer -/
theorem eh_kt {e : ef_E} (he : e.1 < 80) {c : Nat} (h : c / 4294967296 ≤ 1 ∧ (c + 1) % 4294967296 ≤ 65536) : (c / 4294967296 = 0 ∧ (ef_kv e c).toInt = (((c + 1) % 4294967296 : Nat) : Int) - 1) ∨ (c / 4294967296 = 1 ∧ (ef_kv e c).toInt = (((c + 1) % 4294967296 : Nat) : Int) - 1 + (e.1 : Int)) := by
  obtain ⟨h1, h2⟩ := h
  have h3 : c / 4294967296 = 0 ∨ c / 4294967296 = 1 := by omega
  rcases h3 with h3 | h3
  · refine Or.inl ⟨h3, ?_⟩
    rw [eh_kv0 e (by omega), eh_ti]
    split <;> omega
  · refine Or.inr ⟨h3, ?_⟩
    rw [eh_kv1 e h3, eh_ti]
    split <;> omega
theorem eh_small {e : ef_E} {c : Nat} (h : c ≤ 65535) : (ef_kv e c).toInt = (c : Int) := by
  rw [eh_kv0 e (by omega), eh_ti]
  split <;> omega
theorem eh_lorL {a b : Nat} (h : Nat.ble (Nat.lor a b) 65535 = true) : a ≤ 65535 ∧ b ≤ 65535 :=
  ⟨Nat.le_trans (Nat.left_le_or (n := a) (m := b)) (Nat.le_of_ble_eq_true h), Nat.le_trans (Nat.right_le_or (n := a) (m := b)) (Nat.le_of_ble_eq_true h)⟩
theorem eh_kleI {e : ef_E} (he : e.1 < 80) {a b : Nat} (h : eb_kle a b = true) : (ef_kv e a).toInt ≤ (ef_kv e b).toInt := by
  rcases eh_ifE h with ⟨h1, h2⟩ | ⟨_, h2⟩
  · obtain ⟨ha, hb⟩ := eh_lorL h1
    have h3 : a ≤ b := Nat.le_of_ble_eq_true h2
    rw [eh_small ha, eh_small hb]
    omega
  · obtain ⟨va, h3⟩ := eh_g h2
    obtain ⟨vb, h4⟩ := eh_g h3
    have h5 : (a + 1) % 4294967296 + 79 * (a / 4294967296 - b / 4294967296) ≤ (b + 1) % 4294967296 := Nat.le_of_ble_eq_true h4
    rcases eh_kt he (eh_kvE va) with ⟨sa, ta⟩ | ⟨sa, ta⟩ <;> rcases eh_kt he (eh_kvE vb) with ⟨sb, tb⟩ | ⟨sb, tb⟩ <;> rw [ta, tb] <;> rw [sa, sb] at h5 <;> omega
theorem eh_kltI {e : ef_E} (he : e.1 < 80) {a b : Nat} (h : eb_klt a b = true) : (ef_kv e a).toInt < (ef_kv e b).toInt := by
  rcases eh_ifE h with ⟨h1, h2⟩ | ⟨_, h2⟩
  · obtain ⟨ha, hb⟩ := eh_lorL h1
    have h3 : a + 1 ≤ b := Nat.le_of_ble_eq_true h2
    rw [eh_small ha, eh_small hb]
    omega
  · obtain ⟨va, h3⟩ := eh_g h2
    obtain ⟨vb, h4⟩ := eh_g h3
    have h5 : (a + 1) % 4294967296 + 79 * (a / 4294967296 - b / 4294967296) + 1 ≤ (b + 1) % 4294967296 := Nat.le_of_ble_eq_true h4
    rcases eh_kt he (eh_kvE va) with ⟨sa, ta⟩ | ⟨sa, ta⟩ <;> rcases eh_kt he (eh_kvE vb) with ⟨sb, tb⟩ | ⟨sb, tb⟩ <;> rw [ta, tb] <;> rw [sa, sb] at h5 <;> omega
theorem eh_klt {e : ef_E} (he : e.1 < 80) {a b : Nat} {a' b' : Int32} (ha : a' = ef_kv e a) (hb : b' = ef_kv e b) : eb_klt a b = true → a' < b' := by
  intro h
  rw [ha, hb, Int32.lt_iff_toInt_lt]
  exact eh_kltI he h
theorem eh_knlt {e : ef_E} (he : e.1 < 80) {a b : Nat} {a' b' : Int32} (ha : a' = ef_kv e a) (hb : b' = ef_kv e b) : eb_kle b a = true → ¬ a' < b' := by
  intro h
  rw [ha, hb, Int32.lt_iff_toInt_lt]
  have := eh_kleI he h
  omega
theorem eh_kle {e : ef_E} (he : e.1 < 80) {a b : Nat} {a' b' : Int32} (ha : a' = ef_kv e a) (hb : b' = ef_kv e b) : eb_kle a b = true → a' ≤ b' := by
  intro h
  rw [ha, hb, Int32.le_iff_toInt_le]
  exact eh_kleI he h
theorem eh_knle {e : ef_E} (he : e.1 < 80) {a b : Nat} {a' b' : Int32} (ha : a' = ef_kv e a) (hb : b' = ef_kv e b) : eb_klt b a = true → ¬ a' ≤ b' := by
  intro h
  rw [ha, hb, Int32.le_iff_toInt_le]
  have := eh_kltI he h
  omega
theorem eh_keq {e : ef_E} {a b : Nat} {a' b' : Int32} (ha : a' = ef_kv e a) (hb : b' = ef_kv e b) : eb_keq a b = true → a' = b' := by
  intro h
  rw [ha, hb, Nat.eq_of_beq_eq_true h]
theorem eh_kne {e : ef_E} (he : e.1 < 80) {a b : Nat} {a' b' : Int32} (ha : a' = ef_kv e a) (hb : b' = ef_kv e b) : eb_kne a b = true → ¬ a' = b' := by
  intro h
  rw [ha, hb, ← Int32.toInt_inj]
  rcases eh_ifE h with ⟨h1, _⟩ | ⟨_, h1⟩
  · have := eh_kltI he h1
    omega
  · have := eh_kltI he h1
    omega
theorem eh_an255 (a : Nat) : nI a &&& 255 = nI (a % 256) := by
  have h := eh_an (a := a) (b := 255) rfl (rfl : (255 : Int32) = nI 255)
  rw [h]
  show nI (a &&& 2 ^ 8 - 1) = _
  rw [Nat.and_two_pow_sub_one_eq_mod]
theorem eh_kb {e : ef_E} (he : e.1 < 80) {a : Nat} {a' : Int32} (ha : a' = ef_kv e a) (g : eb_kg a = true) : a' &&& 255 = ef_kv e (eb_kb a) := by
  subst ha
  have hb : eb_kb a = a % 256 + a / 4294967296 * 4294967296 := rfl
  rw [hb]
  rcases eh_ifE g with ⟨h, _⟩ | ⟨h0, h⟩
  · have h1 : a ≤ 4294967295 := Nat.le_of_ble_eq_true h
    rw [eh_kv0 e (by omega), eh_an255, eh_kv0 e (by omega)]
    congr 1
    omega
  · obtain ⟨h1, h2⟩ := eh_g h
    have h3 : a / 4294967296 ≤ 1 := Nat.le_of_ble_eq_true (eh_g h1).1
    have h4 : a % 256 ≤ 175 := Nat.le_of_ble_eq_true h2
    have h5 : ¬ a ≤ 4294967295 := by
      intro z
      rw [Nat.ble_eq_true_of_le z] at h0
      exact absurd h0 (by decide)
    have h6 : a / 4294967296 = 1 := by omega
    rw [eh_kv1 e h6, eh_an255, eh_kv1 e (by omega)]
    exact eh_mdE (by omega)
theorem eh_ks16 {e : ef_E} (he : e.1 < 80) {a : Nat} {a' : Int32} (ha : a' = ef_kv e a) (g : eb_ks16 a = true) : a'.toInt16.toInt32 = ef_kv e a := by
  subst ha
  have h1 : a / 4294967296 ≤ 1 := Nat.le_of_ble_eq_true (eh_g g).1
  have h2 : a % 4294967296 ≤ 31999 := Nat.le_of_ble_eq_true (eh_g g).2
  have h3 : a / 4294967296 = 0 ∨ a / 4294967296 = 1 := by omega
  rcases h3 with h3 | h3
  · rw [eh_kv0 e (by omega)]
    apply eh_nar16
    · rw [eh_ti]
      split <;> omega
    · rw [eh_ti]
      split <;> omega
  · rw [eh_kv1 e h3]
    apply eh_nar16
    · rw [eh_ti]
      split <;> omega
    · rw [eh_ti]
      split <;> omega
theorem eh_kns {e : ef_E} (he : e.1 < 80) {a : Nat} {a' : Int32} (ha : a' = ef_kv e a) (g : eb_ks16 a = true) : vp_nar .short a' = ef_kv e a := eh_ks16 he ha g
theorem eh_fk {e : ef_E} {c : Nat} {x' : Int32} {k : Nat → Bool} (ho : x' = ef_kv e c) (h : eb_fk k = true) : ∃ d : Nat, x' &&& 1 = nI d ∧ k d = true := by
  obtain ⟨h0, h1⟩ := eh_g (c := k 0) (B := k 1) h
  have hx : ∃ n : Nat, x' = nI n := ⟨x'.toBitVec.toNat, by
    apply Int32.toBitVec_inj.mp
    show x'.toBitVec = BitVec.ofNat 32 x'.toBitVec.toNat
    rw [BitVec.ofNat_toNat, BitVec.setWidth_eq]⟩
  obtain ⟨n, rfl⟩ := hx
  have h2 : nI n &&& 1 = nI (n % 2) := by
    have q := eh_an (a := n) (b := 1) rfl (rfl : (1 : Int32) = nI 1)
    rw [q]
    show nI (n &&& 2 ^ 1 - 1) = _
    rw [Nat.and_two_pow_sub_one_eq_mod]
  have h3 : n % 2 = 0 ∨ n % 2 = 1 := by omega
  rw [h2]
  rcases h3 with h3 | h3 <;> rw [h3]
  · exact ⟨0, rfl, h0⟩
  · exact ⟨1, rfl, h1⟩

/-! ===== longs ===== -/
theorem eh_l0 : (0 : Int64) = lN 0 := rfl
theorem eh_lo {a b : Nat} {a' b' : Int64} (ha : a' = lN a) (hb : b' = lN b) : a' ||| b' = lN (eb_lo a b) := by
  subst ha hb
  apply Int64.toBitVec_inj.mp
  show BitVec.ofNat 64 a ||| BitVec.ofNat 64 b = BitVec.ofNat 64 (a ||| b)
  exact BitVec.ofNat_or.symm
theorem eh_mkA : ∀ p : Nat, p < 64 → ∀ q : Nat, q < 64 → ((((1 : Int64) <<< ((nI p).toInt64 &&& 63)) - 1) <<< ((nI q).toInt64 &&& 63)) = lN (eb_mk p q) := by decide +kernel
theorem eh_mk {p q : Nat} {p' q' : Int32} (hp : p' = nI p) (hq : q' = nI q) (gp : eb_l6 p = true) (gq : eb_l6 q = true) : ((((1 : Int64) <<< (p'.toInt64 &&& 63)) - 1) <<< (q'.toInt64 &&& 63)) = lN (eb_mk p q) := by
  subst hp hq
  have h1 : p ≤ 63 := Nat.le_of_ble_eq_true gp
  have h2 : q ≤ 63 := Nat.le_of_ble_eq_true gq
  exact eh_mkA p (by omega) q (by omega)
theorem eh_shA : ∀ i : Nat, i < 64 → ((nI i).toInt64.toUInt64 &&& Int64.toUInt64 63).toBitVec % 64 = BitVec.ofNat 64 i := by decide +kernel
theorem eh_bt {c i : Nat} {c' : Int64} {i' : Int32} (hc : c' = lN c) (hi : i' = nI i) (g : eb_l6 i = true) : ((c'.toUInt64 >>> (i'.toInt64.toUInt64 &&& Int64.toUInt64 63)).toInt64 &&& 1) = lN (eb_bt c i) := by
  subst hc hi
  have h1 : i ≤ 63 := Nat.le_of_ble_eq_true g
  apply Int64.toBitVec_inj.mp
  show (BitVec.ofNat 64 c >>> (((nI i).toInt64.toUInt64 &&& Int64.toUInt64 63).toBitVec % 64)) &&& 1#64 = BitVec.ofNat 64 ((c >>> i) % 2)
  rw [eh_shA i (by omega)]
  apply BitVec.eq_of_toNat_eq
  have e1 : (BitVec.ofNat 64 c >>> BitVec.ofNat 64 i) = BitVec.ofNat 64 c >>> i := by
    apply BitVec.eq_of_toNat_eq
    rw [BitVec.ushiftRight_eq', BitVec.toNat_ofNat, Nat.mod_eq_of_lt (by omega)]
  rw [e1, BitVec.toNat_and, BitVec.toNat_ushiftRight, BitVec.toNat_ofNat, BitVec.toNat_ofNat, BitVec.toNat_ofNat]
  show (c % 2 ^ 64) >>> i &&& 1 % 2 ^ 64 = (c >>> i % 2) % 2 ^ 64
  have e2 : (1 % 2 ^ 64 : Nat) = 2 ^ 1 - 1 := by decide
  rw [e2, Nat.and_two_pow_sub_one_eq_mod, Nat.shiftRight_eq_div_pow, Nat.shiftRight_eq_div_pow]
  have t1 := Nat.toNat_testBit (c % 2 ^ 64) i
  have t2 := Nat.toNat_testBit c i
  rw [Nat.testBit_mod_two_pow, decide_eq_true (show i < 64 by omega), Bool.true_and, t2] at t1
  have e3 : (c / 2 ^ i % 2) % 2 ^ 64 = c / 2 ^ i % 2 := Nat.mod_eq_of_lt (by omega)
  rw [e3, t1]
theorem eh_bti {c i : Nat} {c' : Int64} {i' : Int32} (hc : c' = lN c) (hi : i' = nI i) (g : eb_l6 i = true) : ((c'.toUInt64 >>> (i'.toInt64.toUInt64 &&& Int64.toUInt64 63)).toInt64 &&& 1).toInt32 = nI (eb_bt c i) := by
  rw [eh_bt hc hi g, lN_i]
theorem eh_bt0 {c i : Nat} {c' : Int64} {i' : Int32} (hc : c' = lN c) (hi : i' = nI i) (g : eb_l6 i = true) : ((c'.toUInt64 >>> (i'.toInt64.toUInt64 &&& Int64.toUInt64 63)).toInt64 &&& 1) = 0 ↔ eb_b0 (eb_bt c i) = true := by
  rw [eh_bt hc hi g]
  have h : eb_bt c i = (c >>> i) % 2 := rfl
  have h2 : eb_bt c i < 2 := by rw [h]; exact Nat.mod_lt _ (by decide)
  have h3 : eb_bt c i = 0 ∨ eb_bt c i = 1 := by omega
  rcases h3 with h3 | h3 <;> rw [h3] <;> decide

/-! ===== arrays ===== -/
theorem eh_tbg (A j k : Nat) : (eb_gt A j).testBit k = (decide (k < 32) && A.testBit (32 * j + k)) := by
  show ((A >>> (32 * j)) % 2 ^ 32).testBit k = _
  rw [Nat.testBit_mod_two_pow, Nat.testBit_shiftRight]
theorem eh_tbs (A i v m : Nat) : (eb_st A i v).testBit m = (A.testBit m ^^ (decide (m ≥ 32 * i) && (decide (m - 32 * i < 32) && (A.testBit (32 * i + (m - 32 * i)) ^^ v.testBit (m - 32 * i))))) := by
  show (A ^^^ ((((A >>> (32 * i)) ^^^ v) % 2 ^ 32) <<< (32 * i))).testBit m = _
  rw [Nat.testBit_xor, Nat.testBit_shiftLeft, Nat.testBit_mod_two_pow, Nat.testBit_xor, Nat.testBit_shiftRight]
theorem eh_gs (A i v j : Nat) : eb_gt (eb_st A i v) j = if j = i then v % 4294967296 else eb_gt A j := by
  apply Nat.eq_of_testBit_eq
  intro k
  rw [eh_tbg, eh_tbs]
  by_cases hj : j = i
  · subst hj
    rw [if_pos rfl]
    show _ = (v % 2 ^ 32).testBit k
    rw [Nat.testBit_mod_two_pow, Nat.add_sub_cancel_left, decide_eq_true (show 32 * j + k ≥ 32 * j by omega)]
    cases decide (k < 32) <;> cases A.testBit (32 * j + k) <;> cases v.testBit k <;> rfl
  · rw [if_neg hj, eh_tbg]
    by_cases hk : k < 32
    · have h : (decide (32 * j + k ≥ 32 * i) && (decide (32 * j + k - 32 * i < 32) && (A.testBit (32 * i + (32 * j + k - 32 * i)) ^^ v.testBit (32 * j + k - 32 * i)))) = false := by
        rcases Nat.lt_or_ge (32 * j + k) (32 * i) with z | z
        · rw [decide_eq_false (show ¬ 32 * j + k ≥ 32 * i by omega)]; rfl
        · rw [decide_eq_false (show ¬ 32 * j + k - 32 * i < 32 by omega)]
          cases decide (32 * j + k ≥ 32 * i) <;> rfl
      rw [h, Bool.xor_false]
    · rw [decide_eq_false hk]; rfl
theorem eh_tbgK (A j k : Nat) : (eb_gk A j).testBit k = (decide (k < 56) && A.testBit (56 * j + k)) := by
  show ((A >>> (56 * j)) % 2 ^ 56).testBit k = _
  rw [Nat.testBit_mod_two_pow, Nat.testBit_shiftRight]
theorem eh_tbsK (A i v m : Nat) : (eb_sk A i v).testBit m = (A.testBit m ^^ (decide (m ≥ 56 * i) && (decide (m - 56 * i < 56) && (A.testBit (56 * i + (m - 56 * i)) ^^ v.testBit (m - 56 * i))))) := by
  show (A ^^^ ((((A >>> (56 * i)) ^^^ v) % 2 ^ 56) <<< (56 * i))).testBit m = _
  rw [Nat.testBit_xor, Nat.testBit_shiftLeft, Nat.testBit_mod_two_pow, Nat.testBit_xor, Nat.testBit_shiftRight]
theorem eh_gsK (A i v j : Nat) : eb_gk (eb_sk A i v) j = if j = i then v % 72057594037927936 else eb_gk A j := by
  apply Nat.eq_of_testBit_eq
  intro k
  rw [eh_tbgK, eh_tbsK]
  by_cases hj : j = i
  · subst hj
    rw [if_pos rfl]
    show _ = (v % 2 ^ 56).testBit k
    rw [Nat.testBit_mod_two_pow, Nat.add_sub_cancel_left, decide_eq_true (show 56 * j + k ≥ 56 * j by omega)]
    cases decide (k < 56) <;> cases A.testBit (56 * j + k) <;> cases v.testBit k <;> rfl
  · rw [if_neg hj, eh_tbgK]
    by_cases hk : k < 56
    · have h : (decide (56 * j + k ≥ 56 * i) && (decide (56 * j + k - 56 * i < 56) && (A.testBit (56 * i + (56 * j + k - 56 * i)) ^^ v.testBit (56 * j + k - 56 * i)))) = false := by
        rcases Nat.lt_or_ge (56 * j + k) (56 * i) with z | z
        · rw [decide_eq_false (show ¬ 56 * j + k ≥ 56 * i by omega)]; rfl
        · rw [decide_eq_false (show ¬ 56 * j + k - 56 * i < 56 by omega)]
          cases decide (56 * j + k ≥ 56 * i) <;> rfl
      rw [h, Bool.xor_false]
    · rw [decide_eq_false hk]; rfl
theorem eh_kvmod (e : ef_E) (v : Nat) : ef_kv e (v % 72057594037927936) = ef_kv e v := by
  unfold ef_kv
  have h1 : v % 72057594037927936 / 4294967296 % 256 = v / 4294967296 % 256 := by omega
  have h2 : v % 72057594037927936 / 1099511627776 % 256 = v / 1099511627776 % 256 := by omega
  have h3 : v % 72057594037927936 / 281474976710656 % 256 = v / 281474976710656 % 256 := by omega
  have h4 : nI (v % 72057594037927936) = nI v := eh_mdE (by omega)
  rw [h1, h2, h3, h4]
theorem eh_gt {A i n : Nat} {i' : Int32} (hi : i' = nI i) (f : i < n ∧ n ≤ 1000) : eb_ar A i'.toNatClampNeg = nI (eb_gt A i) := by
  subst hi
  rw [nI_clamp (by omega)]
  rfl
theorem eh_gk {e : ef_E} {A i n : Nat} {i' : Int32} (hi : i' = nI i) (f : i < n ∧ n ≤ 1000) : eb_ak e A i'.toNatClampNeg = ef_kv e (eb_gk A i) := by
  subst hi
  rw [nI_clamp (by omega)]
  rfl
theorem eh_gtc {A i : Nat} : eb_ar A i = nI (eb_gt A i) := rfl
theorem eh_stc {A i v : Nat} {v' : Int32} (hv : v' = nI v) : upd (eb_ar A) i v' = eb_ar (eb_st A i v) := by
  funext j
  show (if j = i then v' else nI (eb_gt A j)) = nI (eb_gt (eb_st A i v) j)
  rw [eh_gs]
  by_cases h : j = i
  · rw [if_pos h, if_pos h, eh_md, hv]
  · rw [if_neg h, if_neg h]
theorem eh_skc {e : ef_E} {A i v : Nat} {v' : Int32} (hv : v' = ef_kv e v) : upd (eb_ak e A) i v' = eb_ak e (eb_sk A i v) := by
  funext j
  show (if j = i then v' else ef_kv e (eb_gk A j)) = ef_kv e (eb_gk (eb_sk A i v) j)
  rw [eh_gsK]
  by_cases h : j = i
  · rw [if_pos h, if_pos h, eh_kvmod, hv]
  · rw [if_neg h, if_neg h]
theorem eh_st {A i v n : Nat} {i' v' : Int32} (hi : i' = nI i) (f : i < n ∧ n ≤ 1000) (hv : v' = nI v) : upd (eb_ar A) i'.toNatClampNeg v' = eb_ar (eb_st A i v) := by
  subst hi
  rw [nI_clamp (by omega)]
  exact eh_stc hv
theorem eh_sk {e : ef_E} {A i v n : Nat} {i' v' : Int32} (hi : i' = nI i) (f : i < n ∧ n ≤ 1000) (hv : v' = ef_kv e v) : upd (eb_ak e A) i'.toNatClampNeg v' = eb_ak e (eb_sk A i v) := by
  subst hi
  rw [nI_clamp (by omega)]
  exact eh_skc hv
theorem eh_gt0 (i : Nat) : eb_gt 0 i = 0 := by
  show (0 >>> (32 * i)) % 4294967296 = 0
  rw [Nat.zero_shiftRight]
theorem eh_gk0 (i : Nat) : eb_gk 0 i = 0 := by
  show (0 >>> (56 * i)) % 72057594037927936 = 0
  rw [Nat.zero_shiftRight]
theorem eh_ar0 : eb_ar 0 = fun _ => (0 : Int32) := by
  funext i
  show nI (eb_gt 0 i) = 0
  rw [eh_gt0]
  rfl
theorem eh_ak0 (e : ef_E) : eb_ak e 0 = fun _ => (0 : Int32) := by
  funext i
  show ef_kv e (eb_gk 0 i) = 0
  rw [eh_gk0, eh_kv0 e (by decide)]
  rfl
end
section
/-! literals, printed by a program -/
theorem eh_m1 : (-1 : Int32) = nI 4294967295 := by decide
theorem eh_m2 : (-2 : Int32) = nI 4294967294 := by decide
theorem eh_m3 : (-3 : Int32) = nI 4294967293 := by decide
theorem eh_m4 : (-4 : Int32) = nI 4294967292 := by decide
theorem eh_m5 : (-5 : Int32) = nI 4294967291 := by decide
theorem eh_m6 : (-6 : Int32) = nI 4294967290 := by decide
theorem eh_m7 : (-7 : Int32) = nI 4294967289 := by decide
theorem eh_n0 : (0 : Int32) = nI 0 := rfl
theorem eh_n1 : (1 : Int32) = nI 1 := rfl
theorem eh_n10 : (10 : Int32) = nI 10 := rfl
theorem eh_n109 : (109 : Int32) = nI 109 := rfl
theorem eh_n110 : (110 : Int32) = nI 110 := rfl
theorem eh_n128 : (128 : Int32) = nI 128 := rfl
theorem eh_n15 : (15 : Int32) = nI 15 := rfl
theorem eh_n16 : (16 : Int32) = nI 16 := rfl
theorem eh_n19 : (19 : Int32) = nI 19 := rfl
theorem eh_n2 : (2 : Int32) = nI 2 := rfl
theorem eh_n24 : (24 : Int32) = nI 24 := rfl
theorem eh_n256 : (256 : Int32) = nI 256 := rfl
theorem eh_n3 : (3 : Int32) = nI 3 := rfl
theorem eh_n31 : (31 : Int32) = nI 31 := rfl
theorem eh_n32 : (32 : Int32) = nI 32 := rfl
theorem eh_n4 : (4 : Int32) = nI 4 := rfl
theorem eh_n47 : (47 : Int32) = nI 47 := rfl
theorem eh_n48 : (48 : Int32) = nI 48 := rfl
theorem eh_n5 : (5 : Int32) = nI 5 := rfl
theorem eh_n6 : (6 : Int32) = nI 6 := rfl
theorem eh_n7 : (7 : Int32) = nI 7 := rfl
theorem eh_n8 : (8 : Int32) = nI 8 := rfl
theorem eh_n97 : (97 : Int32) = nI 97 := rfl
theorem eh_n98 : (98 : Int32) = nI 98 := rfl
theorem eh_n99 : (99 : Int32) = nI 99 := rfl
/-! the model, printed by a program out of the predicates -/
abbrev ef_F1 : Type := Nat → Bool
abbrev ef_F2 : Type := Nat → Nat → Bool
abbrev ef_F3 : Type := Nat → Nat → Nat → Bool
abbrev ef_F4 : Type := Nat → Nat → Nat → Nat → Bool
abbrev ef_F5 : Type := Nat → Nat → Nat → Nat → Nat → Bool
abbrev ef_F6 : Type := Nat → Nat → Nat → Nat → Nat → Nat → Bool
abbrev ef_F7 : Type := Nat → Nat → Nat → Nat → Nat → Nat → Nat → Bool
abbrev ef_F8 : Type := Nat → Nat → Nat → Nat → Nat → Nat → Nat → Nat → Bool
abbrev ef_F9 : Type := Nat → Nat → Nat → Nat → Nat → Nat → Nat → Nat → Nat → Bool
abbrev ef_F10 : Type := Nat → Nat → Nat → Nat → Nat → Nat → Nat → Nat → Nat → Nat → Bool
abbrev ef_F11 : Type := Nat → Nat → Nat → Nat → Nat → Nat → Nat → Nat → Nat → Nat → Nat → Bool
abbrev ef_F12 : Type := Nat → Nat → Nat → Nat → Nat → Nat → Nat → Nat → Nat → Nat → Nat → Nat → Bool
abbrev ef_F13 : Type := Nat → Nat → Nat → Nat → Nat → Nat → Nat → Nat → Nat → Nat → Nat → Nat → Nat → Bool
abbrev ef_F14 : Type := Nat → Nat → Nat → Nat → Nat → Nat → Nat → Nat → Nat → Nat → Nat → Nat → Nat → Nat → Bool
abbrev ef_F15 : Type := Nat → Nat → Nat → Nat → Nat → Nat → Nat → Nat → Nat → Nat → Nat → Nat → Nat → Nat → Nat → Bool
abbrev ef_F16 : Type := Nat → Nat → Nat → Nat → Nat → Nat → Nat → Nat → Nat → Nat → Nat → Nat → Nat → Nat → Nat → Nat → Bool
abbrev ef_F17 : Type := Nat → Nat → Nat → Nat → Nat → Nat → Nat → Nat → Nat → Nat → Nat → Nat → Nat → Nat → Nat → Nat → Nat → Bool
abbrev ef_F18 : Type := Nat → Nat → Nat → Nat → Nat → Nat → Nat → Nat → Nat → Nat → Nat → Nat → Nat → Nat → Nat → Nat → Nat → Nat → Bool
abbrev ef_F19 : Type := Nat → Nat → Nat → Nat → Nat → Nat → Nat → Nat → Nat → Nat → Nat → Nat → Nat → Nat → Nat → Nat → Nat → Nat → Nat → Bool
def er_PI (e : ef_E) (K : ef_F18) (post : Int32 → St2 → Prop) : Prop := ∀ (r : Nat) (r' : Int32), r' = nI r → ∀ (c0 : Nat) (c0' : Int32), c0' = nI c0 → ∀ (c1 : Nat) (c1' : Int32), c1' = nI c1 → ∀ (c2 : Nat) (c2' : Int32), c2' = nI c2 → ∀ (A1 A2 A3 A4 A5 A6 A7 A8 A9 A10 A11 A12 A13 A14 : Nat), K r c0 c1 c2 A1 A2 A3 A4 A5 A6 A7 A8 A9 A10 A11 A12 A13 A14 = true → post r' (c0', c1', c2', (eb_ar A1), (eb_ak e A2), (eb_ar A3), (eb_ar A4), (eb_ar A5), (eb_ar A6), (eb_ar A7), (eb_ar A8), (eb_ar A9), (eb_ak e A10), (eb_ar A11), (eb_ar A12), (eb_ar A13), (eb_ar A14))
def er_PK (e : ef_E) (K : ef_F18) (post : Int32 → St2 → Prop) : Prop := ∀ (r : Nat) (r' : Int32), r' = ef_kv e r → ∀ (c0 : Nat) (c0' : Int32), c0' = nI c0 → ∀ (c1 : Nat) (c1' : Int32), c1' = nI c1 → ∀ (c2 : Nat) (c2' : Int32), c2' = nI c2 → ∀ (A1 A2 A3 A4 A5 A6 A7 A8 A9 A10 A11 A12 A13 A14 : Nat), K r c0 c1 c2 A1 A2 A3 A4 A5 A6 A7 A8 A9 A10 A11 A12 A13 A14 = true → post r' (c0', c1', c2', (eb_ar A1), (eb_ak e A2), (eb_ar A3), (eb_ar A4), (eb_ar A5), (eb_ar A6), (eb_ar A7), (eb_ar A8), (eb_ar A9), (eb_ak e A10), (eb_ar A11), (eb_ar A12), (eb_ar A13), (eb_ar A14))
def er_PL (e : ef_E) (K : ef_F18) (post : Int64 → St2 → Prop) : Prop := ∀ (r : Nat) (r' : Int64), r' = lN r → ∀ (c0 : Nat) (c0' : Int32), c0' = nI c0 → ∀ (c1 : Nat) (c1' : Int32), c1' = nI c1 → ∀ (c2 : Nat) (c2' : Int32), c2' = nI c2 → ∀ (A1 A2 A3 A4 A5 A6 A7 A8 A9 A10 A11 A12 A13 A14 : Nat), K r c0 c1 c2 A1 A2 A3 A4 A5 A6 A7 A8 A9 A10 A11 A12 A13 A14 = true → post r' (c0', c1', c2', (eb_ar A1), (eb_ak e A2), (eb_ar A3), (eb_ar A4), (eb_ar A5), (eb_ar A6), (eb_ar A7), (eb_ar A8), (eb_ar A9), (eb_ak e A10), (eb_ar A11), (eb_ar A12), (eb_ar A13), (eb_ar A14))
def er_PS (e : ef_E) (K : ef_F17) (post : St2 → Prop) : Prop := ∀ (c0 : Nat) (c0' : Int32), c0' = nI c0 → ∀ (c1 : Nat) (c1' : Int32), c1' = nI c1 → ∀ (c2 : Nat) (c2' : Int32), c2' = nI c2 → ∀ (A1 A2 A3 A4 A5 A6 A7 A8 A9 A10 A11 A12 A13 A14 : Nat), K c0 c1 c2 A1 A2 A3 A4 A5 A6 A7 A8 A9 A10 A11 A12 A13 A14 = true → post (c0', c1', c2', (eb_ar A1), (eb_ak e A2), (eb_ar A3), (eb_ar A4), (eb_ar A5), (eb_ar A6), (eb_ar A7), (eb_ar A8), (eb_ar A9), (eb_ak e A10), (eb_ar A11), (eb_ar A12), (eb_ar A13), (eb_ar A14))
def er_QI (K : ef_F1) (post : Int32 → Prop) : Prop := ∀ (r : Nat) (r' : Int32), r' = nI r → K r = true → post r'
def er_QK (e : ef_E) (K : ef_F1) (post : Int32 → Prop) : Prop := ∀ (r : Nat) (r' : Int32), r' = ef_kv e r → K r = true → post r'
def er_RI (K : ef_F1) (post : Int32 → St0 → Prop) : Prop := ∀ (r : Nat) (r' : Int32), r' = nI r → K r = true → post r' ()
noncomputable def ef_pushWay (K : ef_F17) (f0_root f0_wayEnd f0_waiting a1 a2 a3 a4 a5 a6 a7 a8 a9 a10 a11 a12 a13 a14 p0 p1 : Nat) : Bool :=
  eb_in f0_wayEnd 8 (
  eb_g (eb_b8 p0) (
  eb_fc (eb_st a12 f0_wayEnd p0) (fun a12_2 =>
  eb_g (eb_b8 p1) (
  eb_fc (eb_st a13 f0_wayEnd p1) (fun a13_4 =>
  eb_fc (eb_ad f0_wayEnd 1) (fun f_5 =>
  K f0_root f_5 f0_waiting a1 a2 a3 a4 a5 a6 a7 a8 a9 a10 a11 a12_2 a13_4 a14))))))
noncomputable def ef_isLeaf (K : ef_F1) (f0_root f0_wayEnd f0_waiting a1 a2 a3 a4 a5 a6 a7 a8 a9 a10 a11 a12 a13 a14 p0 : Nat) : Bool :=
  eb_in (eb_ml 6 p0) 660 (
  eb_if (eb_le 0 (eb_gt a4 (eb_ml 6 p0)))
   (K 0)
   (K 1))
noncomputable def ef_find_78 (K : ef_F18) (JJ : ef_F18) (x1 x2 x3 f0_root f0_wayEnd f0_waiting am491 am492 am493 am494 am495 am496 am497 am498 am499 am4910 am4911 am4912 am4913 am4914 : Nat) : Bool :=
  ef_isLeaf (fun r_52 =>
   eb_if (eb_eq r_52 0)
    (eb_in (eb_ad (eb_ml 6 x2) x3) 660 (
    eb_fc (eb_gt am494 (eb_ad (eb_ml 6 x2) x3)) (fun x2_55 =>
    JJ x2_55 f0_root f0_wayEnd f0_waiting am491 am492 am493 am494 am495 am496 am497 am498 am499 am4910 am4911 am4912 am4913 am4914)))
    (JJ 4294967295 f0_root f0_wayEnd f0_waiting am491 am492 am493 am494 am495 am496 am497 am498 am499 am4910 am4911 am4912 am4913 am4914)) f0_root f0_wayEnd f0_waiting am491 am492 am493 am494 am495 am496 am497 am498 am499 am4910 am4911 am4912 am4913 am4914 x2
noncomputable def ef_find_46 (K : ef_F18) (JJ : ef_F18) (x1 x2 x3 f0_root f0_wayEnd f0_waiting a1 a2 a3 a4 a5 a6 a7 a8 a9 a10 a11 a12 a13 a14 : Nat) : Bool :=
  ef_pushWay (fun f0_root_5 f0_wayEnd_6 f0_waiting_7 am491_10 am492_13 am493_16 am494_19 am495_22 am496_25 am497_28 am498_31 am499_34 am4910_37 am4911_40 am4912_43 am4913_46 am4914_49 =>
   eb_in x2 110 (
   eb_if (eb_le (eb_gt am491_10 x2) x3)
    (ef_find_78 K JJ x1 x2 x3 f0_root_5 f0_wayEnd_6 f0_waiting_7 am491_10 am492_13 am493_16 am494_19 am495_22 am496_25 am497_28 am498_31 am499_34 am4910_37 am4911_40 am4912_43 am4913_46 am4914_49)
    (eb_in (eb_ad (eb_ml 5 x2) x3) 550 (
    eb_i3 (eb_keq (eb_gk am492_13 (eb_ad (eb_ml 5 x2) x3)) x1) (eb_kne (eb_gk am492_13 (eb_ad (eb_ml 5 x2) x3)) x1)
     (K 1 f0_root_5 f0_wayEnd_6 f0_waiting_7 am491_10 am492_13 am493_16 am494_19 am495_22 am496_25 am497_28 am498_31 am499_34 am4910_37 am4911_40 am4912_43 am4913_46 am4914_49)
     (ef_find_78 K JJ x1 x2 x3 f0_root_5 f0_wayEnd_6 f0_waiting_7 am491_10 am492_13 am493_16 am494_19 am495_22 am496_25 am497_28 am498_31 am499_34 am4910_37 am4911_40 am4912_43 am4913_46 am4914_49))))) f0_root f0_wayEnd f0_waiting a1 a2 a3 a4 a5 a6 a7 a8 a9 a10 a11 a12 a13 a14 x2 x3
noncomputable def ef_find_16_b (K : ef_F18) (JJ : ef_F18) (x1 x2 f0_root f0_wayEnd f0_waiting a1 a2 a3 a4 a5 a6 a7 a8 a9 a10 a11 a12 a13 a14 : Nat) (ih : ef_F1) (x3 : Nat) : Bool :=
  eb_in x2 110 (
  eb_if (eb_le (eb_gt a1 x2) x3)
   (ef_find_46 K JJ x1 x2 x3 f0_root f0_wayEnd f0_waiting a1 a2 a3 a4 a5 a6 a7 a8 a9 a10 a11 a12 a13 a14)
   (eb_in (eb_ad (eb_ml 5 x2) x3) 550 (
   eb_i3 (eb_kle x1 (eb_gk a2 (eb_ad (eb_ml 5 x2) x3))) (eb_klt (eb_gk a2 (eb_ad (eb_ml 5 x2) x3)) x1)
    (ef_find_46 K JJ x1 x2 x3 f0_root f0_wayEnd f0_waiting a1 a2 a3 a4 a5 a6 a7 a8 a9 a10 a11 a12 a13 a14)
    (eb_fc (eb_ad x3 1) (fun x3_60 =>
    ih x3_60)))))
noncomputable def ef_find_16 (K : ef_F18) (JJ : ef_F18) (x1 x2 f0_root f0_wayEnd f0_waiting a1 a2 a3 a4 a5 a6 a7 a8 a9 a10 a11 a12 a13 a14 : Nat) (n : Nat) : ef_F1 :=
  Nat.rec (motive := fun _ => ef_F1) (fun _ => false) (fun _ ih => ef_find_16_b K JJ x1 x2 f0_root f0_wayEnd f0_waiting a1 a2 a3 a4 a5 a6 a7 a8 a9 a10 a11 a12 a13 a14 ih) n
noncomputable def ef_find_10_b (K : ef_F18) (x1 : Nat) (ih : ef_F18) (x2 f0_root f0_wayEnd f0_waiting a1 a2 a3 a4 a5 a6 a7 a8 a9 a10 a11 a12 a13 a14 : Nat) : Bool :=
  eb_if (eb_lt x2 0)
   (K 0 f0_root f0_wayEnd f0_waiting a1 a2 a3 a4 a5 a6 a7 a8 a9 a10 a11 a12 a13 a14)
   (ef_find_16 K ih x1 x2 f0_root f0_wayEnd f0_waiting a1 a2 a3 a4 a5 a6 a7 a8 a9 a10 a11 a12 a13 a14 120 0)
noncomputable def ef_find_10 (K : ef_F18) (x1 : Nat) (n : Nat) : ef_F18 :=
  Nat.rec (motive := fun _ => ef_F18) (fun _ _ _ _ _ _ _ _ _ _ _ _ _ _ _ _ _ _ => false) (fun _ ih => ef_find_10_b K x1 ih) n
noncomputable def ef_find (K : ef_F18) (f0_root f0_wayEnd f0_waiting a1 a2 a3 a4 a5 a6 a7 a8 a9 a10 a11 a12 a13 a14 p0 : Nat) : Bool :=
  ef_find_10 K p0 120 f0_root f0_root 0 f0_waiting a1 a2 a3 a4 a5 a6 a7 a8 a9 a10 a11 a12 a13 a14
noncomputable def ef_validPlace (K : ef_F1) (f0_root f0_wayEnd f0_waiting a1 a2 a3 a4 a5 a6 a7 a8 a9 a10 a11 a12 a13 a14 : Nat) : Bool :=
  eb_if (eb_eq (eb_gt a9 0) 0)
   (K 1)
   (eb_if (eb_eq (eb_gt a9 1) 0)
    (K 0)
    (eb_if (eb_le (eb_gt a8 0) (eb_gt a8 1))
     (K 1)
     (K 0)))
noncomputable def ef_startWalk (K : ef_F17) (f0_root f0_wayEnd f0_waiting a1 a2 a3 a4 a5 a6 a7 a8 a9 a10 a11 a12 a13 a14 p0 : Nat) : Bool :=
  eb_if (eb_le 0 p0)
   (eb_g (eb_b8 p0) (
   eb_fc (eb_st a14 0 p0) (fun a14_3 =>
   K f0_root f0_wayEnd 1 a1 a2 a3 a4 a5 a6 a7 a8 a9 a10 a11 a12 a13 a14_3)))
   (K f0_root f0_wayEnd 0 a1 a2 a3 a4 a5 a6 a7 a8 a9 a10 a11 a12 a13 a14)
noncomputable def ef_walk_32_b (K : ef_F18) (x1 f0_root f0_wayEnd : Nat) (ih : ef_F16) (x2 f0_waiting a1 a2 a3 a4 a5 a6 a7 a8 a9 a10 a11 a12 a13 a14 : Nat) : Bool :=
  eb_in x1 110 (
  eb_if (eb_lt (eb_gt a1 x1) x2)
   (K x1 f0_root f0_wayEnd f0_waiting a1 a2 a3 a4 a5 a6 a7 a8 a9 a10 a11 a12 a13 a14)
   (eb_in (eb_ad (eb_ml 6 x1) x2) 660 (
   eb_in f0_waiting 110 (
   eb_g (eb_b8 (eb_gt a4 (eb_ad (eb_ml 6 x1) x2))) (
   eb_fc (eb_st a14 f0_waiting (eb_gt a4 (eb_ad (eb_ml 6 x1) x2))) (fun a14_10 =>
   eb_fc (eb_ad f0_waiting 1) (fun f_11 =>
   eb_fc (eb_ad x2 1) (fun x2_12 =>
   ih x2_12 f_11 a1 a2 a3 a4 a5 a6 a7 a8 a9 a10 a11 a12 a13 a14_10))))))))
noncomputable def ef_walk_32 (K : ef_F18) (x1 f0_root f0_wayEnd : Nat) (n : Nat) : ef_F16 :=
  Nat.rec (motive := fun _ => ef_F16) (fun _ _ _ _ _ _ _ _ _ _ _ _ _ _ _ _ => false) (fun _ ih => ef_walk_32_b K x1 f0_root f0_wayEnd ih) n
noncomputable def ef_walk (K : ef_F18) (f0_root f0_wayEnd f0_waiting a1 a2 a3 a4 a5 a6 a7 a8 a9 a10 a11 a12 a13 a14 : Nat) : Bool :=
  eb_fc (eb_sb f0_waiting 1) (fun f_1 =>
  eb_in f_1 110 (
  eb_fc (eb_gt a14 f_1) (fun x1_3 =>
  ef_isLeaf (fun r_4 =>
   eb_if (eb_eq r_4 0)
    (ef_walk_32 K x1_3 f0_root f0_wayEnd 120 0 f_1 a1 a2 a3 a4 a5 a6 a7 a8 a9 a10 a11 a12 a13 a14)
    (K x1_3 f0_root f0_wayEnd f_1 a1 a2 a3 a4 a5 a6 a7 a8 a9 a10 a11 a12 a13 a14)) f0_root f0_wayEnd f_1 a1 a2 a3 a4 a5 a6 a7 a8 a9 a10 a11 a12 a13 a14 x1_3)))
noncomputable def ef_markTree_5_b (K : ef_F17) (ih : ef_F17) (f0_root f0_wayEnd f0_waiting am21 am22 am23 am24 am25 am26 am27 am28 am29 am210 am211 am212 am213 am214 : Nat) : Bool :=
  eb_if (eb_le f0_waiting 0)
   (K f0_root f0_wayEnd f0_waiting am21 am22 am23 am24 am25 am26 am27 am28 am29 am210 am211 am212 am213 am214)
   (ef_walk (fun r_48 f0_root_49 f0_wayEnd_50 f0_waiting_51 am131_54 am132_57 am133_60 am134_63 am135_66 am136_69 am137_72 am138_75 am139_78 am1310_81 am1311_84 am1312_87 am1313_90 am1314_93 =>
    eb_in r_48 110 (
    eb_fc (eb_st am136_69 r_48 1) (fun am136_95 =>
    ih f0_root_49 f0_wayEnd_50 f0_waiting_51 am131_54 am132_57 am133_60 am134_63 am135_66 am136_95 am137_72 am138_75 am139_78 am1310_81 am1311_84 am1312_87 am1313_90 am1314_93))) f0_root f0_wayEnd f0_waiting am21 am22 am23 am24 am25 am26 am27 am28 am29 am210 am211 am212 am213 am214)
noncomputable def ef_markTree_5 (K : ef_F17) (n : Nat) : ef_F17 :=
  Nat.rec (motive := fun _ => ef_F17) (fun _ _ _ _ _ _ _ _ _ _ _ _ _ _ _ _ _ => false) (fun _ ih => ef_markTree_5_b K ih) n
noncomputable def ef_markTree (K : ef_F17) (f0_root f0_wayEnd f0_waiting a1 a2 a3 a4 a5 a6 a7 a8 a9 a10 a11 a12 a13 a14 p0 : Nat) : Bool :=
  ef_startWalk (fun f0_root_2 f0_wayEnd_3 f0_waiting_4 am21_7 am22_10 am23_13 am24_16 am25_19 am26_22 am27_25 am28_28 am29_31 am210_34 am211_37 am212_40 am213_43 am214_46 =>
   ef_markTree_5 K 120 f0_root_2 f0_wayEnd_3 f0_waiting_4 am21_7 am22_10 am23_13 am24_16 am25_19 am26_22 am27_25 am28_28 am29_31 am210_34 am211_37 am212_40 am213_43 am214_46) f0_root f0_wayEnd f0_waiting a1 a2 a3 a4 a5 a6 a7 a8 a9 a10 a11 a12 a13 a14 p0
noncomputable def ef_newPage_72 (K : ef_F18) (x2 f0_root f0_wayEnd f0_waiting am461 am462 am463 am464 am465 am466 am467 am468 am469 am4610 am4611 am4612 am4613 am4614 : Nat) : Bool :=
  eb_in x2 110 (
  eb_fc (eb_st am465 x2 1) (fun am465_98 =>
  eb_fc (eb_st am461 x2 0) (fun am461_100 =>
  eb_in (eb_ml 6 x2) 660 (
  eb_fc (eb_st am464 (eb_ml 6 x2) 4294967295) (fun am464_102 =>
  K x2 f0_root f0_wayEnd f0_waiting am461_100 am462 am463 am464_102 am465_98 am466 am467 am468 am469 am4610 am4611 am4612 am4613 am4614)))))
noncomputable def ef_newPage_51_b (K : ef_F18) (f0_root f0_wayEnd f0_waiting am461 am462 am463 am464 am465 am466 am467 am468 am469 am4610 am4611 am4612 am4613 am4614 : Nat) (ih : ef_F1) (x2 : Nat) : Bool :=
  eb_if (eb_le 109 x2)
   (ef_newPage_72 K x2 f0_root f0_wayEnd f0_waiting am461 am462 am463 am464 am465 am466 am467 am468 am469 am4610 am4611 am4612 am4613 am4614)
   (eb_in x2 110 (
   eb_if (eb_eq (eb_gt am466 x2) 0)
    (ef_newPage_72 K x2 f0_root f0_wayEnd f0_waiting am461 am462 am463 am464 am465 am466 am467 am468 am469 am4610 am4611 am4612 am4613 am4614)
    (eb_fc (eb_ad x2 1) (fun x2_105 =>
    ih x2_105))))
noncomputable def ef_newPage_51 (K : ef_F18) (f0_root f0_wayEnd f0_waiting am461 am462 am463 am464 am465 am466 am467 am468 am469 am4610 am4611 am4612 am4613 am4614 : Nat) (n : Nat) : ef_F1 :=
  Nat.rec (motive := fun _ => ef_F1) (fun _ => false) (fun _ ih => ef_newPage_51_b K f0_root f0_wayEnd f0_waiting am461 am462 am463 am464 am465 am466 am467 am468 am469 am4610 am4611 am4612 am4613 am4614 ih) n
noncomputable def ef_newPage_2_b (K : ef_F18) (f0_root f0_wayEnd f0_waiting : Nat) (ih : ef_F15) (x1 a1 a2 a3 a4 a5 a6 a7 a8 a9 a10 a11 a12 a13 a14 : Nat) : Bool :=
  eb_if (eb_le 110 x1)
   (ef_validPlace (fun r_2 =>
    ef_markTree (fun f0_root_4 f0_wayEnd_5 f0_waiting_6 am361_9 am362_12 am363_15 am364_18 am365_21 am366_24 am367_27 am368_30 am369_33 am3610_36 am3611_39 am3612_42 am3613_45 am3614_48 =>
     eb_in r_2 2 (
     eb_fc (eb_gt am367_27 r_2) (fun fx2 =>
     ef_markTree (fun f0_root_51 f0_wayEnd_52 f0_waiting_53 am461_56 am462_59 am463_62 am464_65 am465_68 am466_71 am467_74 am468_77 am469_80 am4610_83 am4611_86 am4612_89 am4613_92 am4614_95 =>
      ef_newPage_51 K f0_root_51 f0_wayEnd_52 f0_waiting_53 am461_56 am462_59 am463_62 am464_65 am465_68 am466_71 am467_74 am468_77 am469_80 am4610_83 am4611_86 am4612_89 am4613_92 am4614_95 120 0) f0_root_4 f0_wayEnd_5 f0_waiting_6 am361_9 am362_12 am363_15 am364_18 am365_21 am366_24 am367_27 am368_30 am369_33 am3610_36 am3611_39 am3612_42 am3613_45 am3614_48 fx2))) f0_root f0_wayEnd f0_waiting a1 a2 a3 a4 a5 a6 a7 a8 a9 a10 a11 a12 a13 a14 f0_root) f0_root f0_wayEnd f0_waiting a1 a2 a3 a4 a5 a6 a7 a8 a9 a10 a11 a12 a13 a14)
   (eb_in x1 110 (
   eb_g (eb_z1 (eb_gt a5 x1)) (
   eb_fc (eb_st a6 x1 (eb_gt a5 x1)) (fun a6_108 =>
   eb_fc (eb_ad x1 1) (fun x1_109 =>
   ih x1_109 a1 a2 a3 a4 a5 a6_108 a7 a8 a9 a10 a11 a12 a13 a14)))))
noncomputable def ef_newPage_2 (K : ef_F18) (f0_root f0_wayEnd f0_waiting : Nat) (n : Nat) : ef_F15 :=
  Nat.rec (motive := fun _ => ef_F15) (fun _ _ _ _ _ _ _ _ _ _ _ _ _ _ _ => false) (fun _ ih => ef_newPage_2_b K f0_root f0_wayEnd f0_waiting ih) n
noncomputable def ef_newPage (K : ef_F18) (f0_root f0_wayEnd f0_waiting a1 a2 a3 a4 a5 a6 a7 a8 a9 a10 a11 a12 a13 a14 : Nat) : Bool :=
  ef_newPage_2 K f0_root f0_wayEnd f0_waiting 120 0 a1 a2 a3 a4 a5 a6 a7 a8 a9 a10 a11 a12 a13 a14
noncomputable def ef_freshCopy_83_b (K : ef_F18) (x1 x2 f0_root f0_wayEnd f0_waiting : Nat) (ih : ef_F15) (x3 am121 am122 am123 am124 am125 am126 am127 am128 am129 am1210 am1211 am1212 am1213 am1214 : Nat) : Bool :=
  eb_if (eb_le 6 x3)
   (K x2 f0_root f0_wayEnd f0_waiting am121 am122 am123 am124 am125 am126 am127 am128 am129 am1210 am1211 am1212 am1213 am1214)
   (eb_in (eb_ad (eb_ml 6 x1) x3) 660 (
   eb_in (eb_ad (eb_ml 6 x2) x3) 660 (
   eb_g (eb_b8 (eb_gt am124 (eb_ad (eb_ml 6 x1) x3))) (
   eb_fc (eb_st am124 (eb_ad (eb_ml 6 x2) x3) (eb_gt am124 (eb_ad (eb_ml 6 x1) x3))) (fun am124_56 =>
   eb_fc (eb_ad x3 1) (fun x3_57 =>
   ih x3_57 am121 am122 am123 am124_56 am125 am126 am127 am128 am129 am1210 am1211 am1212 am1213 am1214))))))
noncomputable def ef_freshCopy_83 (K : ef_F18) (x1 x2 f0_root f0_wayEnd f0_waiting : Nat) (n : Nat) : ef_F15 :=
  Nat.rec (motive := fun _ => ef_F15) (fun _ _ _ _ _ _ _ _ _ _ _ _ _ _ _ => false) (fun _ ih => ef_freshCopy_83_b K x1 x2 f0_root f0_wayEnd f0_waiting ih) n
noncomputable def ef_freshCopy_30_b (K : ef_F18) (x1 x2 f0_root f0_wayEnd f0_waiting : Nat) (ih : ef_F15) (x3 am121 am122 am123 am124 am125 am126 am127 am128 am129 am1210 am1211 am1212 am1213 am1214 : Nat) : Bool :=
  eb_if (eb_le 5 x3)
   (ef_freshCopy_83 K x1 x2 f0_root f0_wayEnd f0_waiting 120 0 am121 am122 am123 am124 am125 am126 am127 am128 am129 am1210 am1211 am1212 am1213 am1214)
   (eb_in (eb_ad (eb_ml 5 x1) x3) 550 (
   eb_in (eb_ad (eb_ml 5 x2) x3) 550 (
   eb_g (eb_ks16 (eb_gk am122 (eb_ad (eb_ml 5 x1) x3))) (
   eb_fc (eb_sk am122 (eb_ad (eb_ml 5 x2) x3) (eb_gk am122 (eb_ad (eb_ml 5 x1) x3))) (fun am122_60 =>
   eb_g (eb_s16 (eb_gt am123 (eb_ad (eb_ml 5 x1) x3))) (
   eb_fc (eb_st am123 (eb_ad (eb_ml 5 x2) x3) (eb_gt am123 (eb_ad (eb_ml 5 x1) x3))) (fun am123_63 =>
   eb_fc (eb_ad x3 1) (fun x3_64 =>
   ih x3_64 am121 am122_60 am123_63 am124 am125 am126 am127 am128 am129 am1210 am1211 am1212 am1213 am1214))))))))
noncomputable def ef_freshCopy_30 (K : ef_F18) (x1 x2 f0_root f0_wayEnd f0_waiting : Nat) (n : Nat) : ef_F15 :=
  Nat.rec (motive := fun _ => ef_F15) (fun _ _ _ _ _ _ _ _ _ _ _ _ _ _ _ => false) (fun _ ih => ef_freshCopy_30_b K x1 x2 f0_root f0_wayEnd f0_waiting ih) n
noncomputable def ef_freshCopy (K : ef_F18) (f0_root f0_wayEnd f0_waiting a1 a2 a3 a4 a5 a6 a7 a8 a9 a10 a11 a12 a13 a14 p0 : Nat) : Bool :=
  eb_in p0 110 (
  eb_if (eb_eq (eb_gt a5 p0) 0)
   (ef_newPage (fun r_3 f0_root_4 f0_wayEnd_5 f0_waiting_6 am121_9 am122_12 am123_15 am124_18 am125_21 am126_24 am127_27 am128_30 am129_33 am1210_36 am1211_39 am1212_42 am1213_45 am1214_48 =>
    eb_in r_3 110 (
    eb_g (eb_b8 (eb_gt am121_9 p0)) (
    eb_fc (eb_st am121_9 r_3 (eb_gt am121_9 p0)) (fun am121_51 =>
    ef_freshCopy_30 K p0 r_3 f0_root_4 f0_wayEnd_5 f0_waiting_6 120 0 am121_51 am122_12 am123_15 am124_18 am125_21 am126_24 am127_27 am128_30 am129_33 am1210_36 am1211_39 am1212_42 am1213_45 am1214_48)))) f0_root f0_wayEnd f0_waiting a1 a2 a3 a4 a5 a6 a7 a8 a9 a10 a11 a12 a13 a14)
   (K p0 f0_root f0_wayEnd f0_waiting a1 a2 a3 a4 a5 a6 a7 a8 a9 a10 a11 a12 a13 a14))
noncomputable def ef_copyWay_2_b (K : ef_F17) (ih : ef_F18) (x1 f0_root f0_wayEnd f0_waiting a1 a2 a3 a4 a5 a6 a7 a8 a9 a10 a11 a12 a13 a14 : Nat) : Bool :=
  eb_if (eb_le f0_wayEnd x1)
   (K f0_root f0_wayEnd f0_waiting a1 a2 a3 a4 a5 a6 a7 a8 a9 a10 a11 a12 a13 a14)
   (eb_in x1 8 (
   eb_fc (eb_gt a12 x1) (fun fx2 =>
   ef_freshCopy (fun r_3 f0_root_4 f0_wayEnd_5 f0_waiting_6 am171_9 am172_12 am173_15 am174_18 am175_21 am176_24 am177_27 am178_30 am179_33 am1710_36 am1711_39 am1712_42 am1713_45 am1714_48 =>
    eb_g (eb_b8 r_3) (
    eb_fc (eb_st am1712_42 x1 r_3) (fun am1712_50 =>
    eb_if (eb_eq x1 0)
     (eb_fc (eb_ad x1 1) (fun x1_57 =>
     ih x1_57 r_3 f0_wayEnd_5 f0_waiting_6 am171_9 am172_12 am173_15 am174_18 am175_21 am176_24 am177_27 am178_30 am179_33 am1710_36 am1711_39 am1712_50 am1713_45 am1714_48))
     (eb_in (eb_sb x1 1) 8 (
     eb_in (eb_ad (eb_ml 6 (eb_gt am1712_50 (eb_sb x1 1))) (eb_gt am1713_45 (eb_sb x1 1))) 660 (
     eb_fc (eb_st am174_18 (eb_ad (eb_ml 6 (eb_gt am1712_50 (eb_sb x1 1))) (eb_gt am1713_45 (eb_sb x1 1))) r_3) (fun am174_55 =>
     eb_fc (eb_ad x1 1) (fun x1_56 =>
     ih x1_56 f0_root_4 f0_wayEnd_5 f0_waiting_6 am171_9 am172_12 am173_15 am174_55 am175_21 am176_24 am177_27 am178_30 am179_33 am1710_36 am1711_39 am1712_50 am1713_45 am1714_48)))))))) f0_root f0_wayEnd f0_waiting a1 a2 a3 a4 a5 a6 a7 a8 a9 a10 a11 a12 a13 a14 fx2)))
noncomputable def ef_copyWay_2 (K : ef_F17) (n : Nat) : ef_F18 :=
  Nat.rec (motive := fun _ => ef_F18) (fun _ _ _ _ _ _ _ _ _ _ _ _ _ _ _ _ _ _ => false) (fun _ ih => ef_copyWay_2_b K ih) n
noncomputable def ef_copyWay (K : ef_F17) (f0_root f0_wayEnd f0_waiting a1 a2 a3 a4 a5 a6 a7 a8 a9 a10 a11 a12 a13 a14 : Nat) : Bool :=
  ef_copyWay_2 K 120 0 f0_root f0_wayEnd f0_waiting a1 a2 a3 a4 a5 a6 a7 a8 a9 a10 a11 a12 a13 a14
noncomputable def ef_openPlace_7_b (K : ef_F17) (x1 x2 f0_root f0_wayEnd f0_waiting : Nat) (ih : ef_F15) (x3 a1 a2 a3 a4 a5 a6 a7 a8 a9 a10 a11 a12 a13 a14 : Nat) : Bool :=
  eb_if (eb_le x3 x2)
   (eb_in x1 110 (
   eb_g (eb_b8 (eb_ad (eb_gt a1 x1) 1)) (
   eb_fc (eb_st a1 x1 (eb_ad (eb_gt a1 x1) 1)) (fun a1_6 =>
   K f0_root f0_wayEnd f0_waiting a1_6 a2 a3 a4 a5 a6 a7 a8 a9 a10 a11 a12 a13 a14))))
   (eb_in (eb_sb (eb_ad (eb_ml 5 x1) x3) 1) 550 (
   eb_in (eb_ad (eb_ml 5 x1) x3) 550 (
   eb_g (eb_ks16 (eb_gk a2 (eb_sb (eb_ad (eb_ml 5 x1) x3) 1))) (
   eb_fc (eb_sk a2 (eb_ad (eb_ml 5 x1) x3) (eb_gk a2 (eb_sb (eb_ad (eb_ml 5 x1) x3) 1))) (fun a2_9 =>
   eb_g (eb_s16 (eb_gt a3 (eb_sb (eb_ad (eb_ml 5 x1) x3) 1))) (
   eb_fc (eb_st a3 (eb_ad (eb_ml 5 x1) x3) (eb_gt a3 (eb_sb (eb_ad (eb_ml 5 x1) x3) 1))) (fun a3_12 =>
   eb_fc (eb_ad x3 4294967295) (fun x3_13 =>
   ih x3_13 a1 a2_9 a3_12 a4 a5 a6 a7 a8 a9 a10 a11 a12 a13 a14))))))))
noncomputable def ef_openPlace_7 (K : ef_F17) (x1 x2 f0_root f0_wayEnd f0_waiting : Nat) (n : Nat) : ef_F15 :=
  Nat.rec (motive := fun _ => ef_F15) (fun _ _ _ _ _ _ _ _ _ _ _ _ _ _ _ => false) (fun _ ih => ef_openPlace_7_b K x1 x2 f0_root f0_wayEnd f0_waiting ih) n
noncomputable def ef_openPlace (K : ef_F17) (f0_root f0_wayEnd f0_waiting a1 a2 a3 a4 a5 a6 a7 a8 a9 a10 a11 a12 a13 a14 p0 p1 : Nat) : Bool :=
  eb_in p0 110 (
  eb_fc (eb_gt a1 p0) (fun x3_2 =>
  ef_openPlace_7 K p0 p1 f0_root f0_wayEnd f0_waiting 120 x3_2 a1 a2 a3 a4 a5 a6 a7 a8 a9 a10 a11 a12 a13 a14))
noncomputable def ef_putAt (K : ef_F17) (f0_root f0_wayEnd f0_waiting a1 a2 a3 a4 a5 a6 a7 a8 a9 a10 a11 a12 a13 a14 p0 p1 p2 p3 : Nat) : Bool :=
  eb_in (eb_ad (eb_ml 5 p0) p1) 550 (
  eb_g (eb_ks16 p2) (
  eb_fc (eb_sk a2 (eb_ad (eb_ml 5 p0) p1) p2) (fun a2_2 =>
  eb_g (eb_s16 p3) (
  eb_fc (eb_st a3 (eb_ad (eb_ml 5 p0) p1) p3) (fun a3_4 =>
  K f0_root f0_wayEnd f0_waiting a1 a2_2 a3_4 a4 a5 a6 a7 a8 a9 a10 a11 a12 a13 a14)))))
noncomputable def ef_newRoot (K : ef_F18) (f0_root f0_wayEnd f0_waiting a1 a2 a3 a4 a5 a6 a7 a8 a9 a10 a11 a12 a13 a14 p0 : Nat) : Bool :=
  ef_newPage (fun r_1 f0_root_2 f0_wayEnd_3 f0_waiting_4 am11_7 am12_10 am13_13 am14_16 am15_19 am16_22 am17_25 am18_28 am19_31 am110_34 am111_37 am112_40 am113_43 am114_46 =>
   eb_in (eb_ml 6 r_1) 660 (
   eb_g (eb_b8 p0) (
   eb_fc (eb_st am14_16 (eb_ml 6 r_1) p0) (fun am14_48 =>
   K r_1 r_1 f0_wayEnd_3 f0_waiting_4 am11_7 am12_10 am13_13 am14_48 am15_19 am16_22 am17_25 am18_28 am19_31 am110_34 am111_37 am112_40 am113_43 am114_46)))) f0_root f0_wayEnd f0_waiting a1 a2 a3 a4 a5 a6 a7 a8 a9 a10 a11 a12 a13 a14
noncomputable def ef_split_174_b (K : ef_F17) (x2 x3 x4 x5 f0_root f0_wayEnd f0_waiting : Nat) (ih : ef_F15) (x6 am81 am82 am83 am84 am85 am86 am87 am88 am89 am810 am811 am812 am813 am814 : Nat) : Bool :=
  eb_if (eb_le x6 (eb_ad x5 1))
   (ef_openPlace (fun f0_root_64 f0_wayEnd_65 f0_waiting_66 am2221_69 am2222_72 am2223_75 am2224_78 am2225_81 am2226_84 am2227_87 am2228_90 am2229_93 am22210_96 am22211_99 am22212_102 am22213_105 am22214_108 =>
    eb_in (eb_ad (eb_ml 5 x2) 2) 550 (
    eb_fc (eb_gk am2222_72 (eb_ad (eb_ml 5 x2) 2)) (fun fx2 =>
    eb_fc (eb_gt am2223_75 (eb_ad (eb_ml 5 x2) 2)) (fun fx3 =>
    ef_putAt (fun f0_root_112 f0_wayEnd_113 f0_waiting_114 am2501_117 am2502_120 am2503_123 am2504_126 am2505_129 am2506_132 am2507_135 am2508_138 am2509_141 am25010_144 am25011_147 am25012_150 am25013_153 am25014_156 =>
     eb_in (eb_ad (eb_ad (eb_ml 6 x4) x5) 1) 660 (
     eb_g (eb_b8 x3) (
     eb_fc (eb_st am2504_126 (eb_ad (eb_ad (eb_ml 6 x4) x5) 1) x3) (fun am2504_158 =>
     K f0_root_112 f0_wayEnd_113 f0_waiting_114 am2501_117 am2502_120 am2503_123 am2504_158 am2505_129 am2506_132 am2507_135 am2508_138 am2509_141 am25010_144 am25011_147 am25012_150 am25013_153 am25014_156)))) f0_root_64 f0_wayEnd_65 f0_waiting_66 am2221_69 am2222_72 am2223_75 am2224_78 am2225_81 am2226_84 am2227_87 am2228_90 am2229_93 am22210_96 am22211_99 am22212_102 am22213_105 am22214_108 x4 x5 fx2 fx3)))) f0_root f0_wayEnd f0_waiting am81 am82 am83 am84 am85 am86 am87 am88 am89 am810 am811 am812 am813 am814 x4 x5)
   (eb_in (eb_sb (eb_ad (eb_ml 6 x4) x6) 1) 660 (
   eb_in (eb_ad (eb_ml 6 x4) x6) 660 (
   eb_g (eb_b8 (eb_gt am84 (eb_sb (eb_ad (eb_ml 6 x4) x6) 1))) (
   eb_fc (eb_st am84 (eb_ad (eb_ml 6 x4) x6) (eb_gt am84 (eb_sb (eb_ad (eb_ml 6 x4) x6) 1))) (fun am84_161 =>
   eb_fc (eb_ad x6 4294967295) (fun x6_162 =>
   ih x6_162 am81 am82 am83 am84_161 am85 am86 am87 am88 am89 am810 am811 am812 am813 am814))))))
noncomputable def ef_split_174 (K : ef_F17) (x2 x3 x4 x5 f0_root f0_wayEnd f0_waiting : Nat) (n : Nat) : ef_F15 :=
  Nat.rec (motive := fun _ => ef_F15) (fun _ _ _ _ _ _ _ _ _ _ _ _ _ _ _ => false) (fun _ ih => ef_split_174_b K x2 x3 x4 x5 f0_root f0_wayEnd f0_waiting ih) n
noncomputable def ef_split_161 (K : ef_F17) (x2 x3 x4 z0 f0_root f0_wayEnd f0_waiting am81 am82 am83 am84 am85 am86 am87 am88 am89 am810 am811 am812 am813 am814 : Nat) : Bool :=
  eb_in x4 110 (
  eb_fc (eb_ad (eb_gt am81 x4) 1) (fun x6_61 =>
  ef_split_174 K x2 x3 x4 z0 f0_root f0_wayEnd f0_waiting 120 x6_61 am81 am82 am83 am84 am85 am86 am87 am88 am89 am810 am811 am812 am813 am814))
noncomputable def ef_split_143 (K : ef_F17) (x1 x2 x3 z0 f0_root f0_wayEnd f0_waiting am81 am82 am83 am84 am85 am86 am87 am88 am89 am810 am811 am812 am813 am814 : Nat) : Bool :=
  eb_if (eb_eq x1 0)
   (ef_split_161 K x2 x3 z0 0 f0_root f0_wayEnd f0_waiting am81 am82 am83 am84 am85 am86 am87 am88 am89 am810 am811 am812 am813 am814)
   (eb_in (eb_sb x1 1) 8 (
   eb_fc (eb_gt am813 (eb_sb x1 1)) (fun fx2 =>
   ef_split_161 K x2 x3 z0 fx2 f0_root f0_wayEnd f0_waiting am81 am82 am83 am84 am85 am86 am87 am88 am89 am810 am811 am812 am813 am814)))
noncomputable def ef_split_109 (K : ef_F17) (x1 x2 x3 f0_root f0_wayEnd f0_waiting am81 am82 am83 am84 am85 am86 am87 am88 am89 am810 am811 am812 am813 am814 : Nat) : Bool :=
  eb_in x3 110 (
  eb_fc (eb_st am81 x3 2) (fun am81_53 =>
  eb_in x2 110 (
  eb_fc (eb_st am81_53 x2 2) (fun am81_55 =>
  eb_if (eb_eq x1 0)
   (ef_newRoot (fun r_163 f0_root_164 f0_wayEnd_165 f0_waiting_166 am1291_169 am1292_172 am1293_175 am1294_178 am1295_181 am1296_184 am1297_187 am1298_190 am1299_193 am12910_196 am12911_199 am12912_202 am12913_205 am12914_208 =>
    ef_split_143 K x1 x2 x3 r_163 f0_root_164 f0_wayEnd_165 f0_waiting_166 am1291_169 am1292_172 am1293_175 am1294_178 am1295_181 am1296_184 am1297_187 am1298_190 am1299_193 am12910_196 am12911_199 am12912_202 am12913_205 am12914_208) f0_root f0_wayEnd f0_waiting am81_55 am82 am83 am84 am85 am86 am87 am88 am89 am810 am811 am812 am813 am814 x2)
   (eb_in (eb_sb x1 1) 8 (
   eb_fc (eb_gt am812 (eb_sb x1 1)) (fun fx4 =>
   ef_split_143 K x1 x2 x3 fx4 f0_root f0_wayEnd f0_waiting am81_55 am82 am83 am84 am85 am86 am87 am88 am89 am810 am811 am812 am813 am814)))))))
noncomputable def ef_split_71_b (K : ef_F17) (x1 x2 x3 f0_root f0_wayEnd f0_waiting : Nat) (ih : ef_F15) (x4 am81 am82 am83 am84 am85 am86 am87 am88 am89 am810 am811 am812 am813 am814 : Nat) : Bool :=
  eb_if (eb_le 3 x4)
   (ef_split_109 K x1 x2 x3 f0_root f0_wayEnd f0_waiting am81 am82 am83 am84 am85 am86 am87 am88 am89 am810 am811 am812 am813 am814)
   (eb_in (eb_ad (eb_ad (eb_ml 6 x2) 3) x4) 660 (
   eb_in (eb_ad (eb_ml 6 x3) x4) 660 (
   eb_g (eb_b8 (eb_gt am84 (eb_ad (eb_ad (eb_ml 6 x2) 3) x4))) (
   eb_fc (eb_st am84 (eb_ad (eb_ml 6 x3) x4) (eb_gt am84 (eb_ad (eb_ad (eb_ml 6 x2) 3) x4))) (fun am84_212 =>
   eb_fc (eb_ad x4 1) (fun x4_213 =>
   ih x4_213 am81 am82 am83 am84_212 am85 am86 am87 am88 am89 am810 am811 am812 am813 am814))))))
noncomputable def ef_split_71 (K : ef_F17) (x1 x2 x3 f0_root f0_wayEnd f0_waiting : Nat) (n : Nat) : ef_F15 :=
  Nat.rec (motive := fun _ => ef_F15) (fun _ _ _ _ _ _ _ _ _ _ _ _ _ _ _ => false) (fun _ ih => ef_split_71_b K x1 x2 x3 f0_root f0_wayEnd f0_waiting ih) n
noncomputable def ef_split_15_b (K : ef_F17) (x1 x2 x3 : Nat) (ih : ef_F18) (x4 f0_root f0_wayEnd f0_waiting am81 am82 am83 am84 am85 am86 am87 am88 am89 am810 am811 am812 am813 am814 : Nat) : Bool :=
  eb_if (eb_le 2 x4)
   (ef_isLeaf (fun r_50 =>
    eb_if (eb_eq r_50 0)
     (ef_split_71 K x1 x2 x3 f0_root f0_wayEnd f0_waiting 120 0 am81 am82 am83 am84 am85 am86 am87 am88 am89 am810 am811 am812 am813 am814)
     (ef_split_109 K x1 x2 x3 f0_root f0_wayEnd f0_waiting am81 am82 am83 am84 am85 am86 am87 am88 am89 am810 am811 am812 am813 am814)) f0_root f0_wayEnd f0_waiting am81 am82 am83 am84 am85 am86 am87 am88 am89 am810 am811 am812 am813 am814 x2)
   (eb_in (eb_ad (eb_ad (eb_ml 5 x2) 3) x4) 550 (
   eb_fc (eb_gk am82 (eb_ad (eb_ad (eb_ml 5 x2) 3) x4)) (fun fx2 =>
   eb_fc (eb_gt am83 (eb_ad (eb_ad (eb_ml 5 x2) 3) x4)) (fun fx3 =>
   ef_putAt (fun f0_root_217 f0_wayEnd_218 f0_waiting_219 am511_222 am512_225 am513_228 am514_231 am515_234 am516_237 am517_240 am518_243 am519_246 am5110_249 am5111_252 am5112_255 am5113_258 am5114_261 =>
    eb_fc (eb_ad x4 1) (fun x4_262 =>
    ih x4_262 f0_root_217 f0_wayEnd_218 f0_waiting_219 am511_222 am512_225 am513_228 am514_231 am515_234 am516_237 am517_240 am518_243 am519_246 am5110_249 am5111_252 am5112_255 am5113_258 am5114_261)) f0_root f0_wayEnd f0_waiting am81 am82 am83 am84 am85 am86 am87 am88 am89 am810 am811 am812 am813 am814 x3 x4 fx2 fx3))))
noncomputable def ef_split_15 (K : ef_F17) (x1 x2 x3 : Nat) (n : Nat) : ef_F18 :=
  Nat.rec (motive := fun _ => ef_F18) (fun _ _ _ _ _ _ _ _ _ _ _ _ _ _ _ _ _ _ => false) (fun _ ih => ef_split_15_b K x1 x2 x3 ih) n
noncomputable def ef_split (K : ef_F17) (f0_root f0_wayEnd f0_waiting a1 a2 a3 a4 a5 a6 a7 a8 a9 a10 a11 a12 a13 a14 p0 : Nat) : Bool :=
  eb_in p0 8 (
  eb_fc (eb_gt a12 p0) (fun x2_2 =>
  ef_newPage (fun r_3 f0_root_4 f0_wayEnd_5 f0_waiting_6 am81_9 am82_12 am83_15 am84_18 am85_21 am86_24 am87_27 am88_30 am89_33 am810_36 am811_39 am812_42 am813_45 am814_48 =>
   ef_split_15 K p0 x2_2 r_3 120 0 f0_root_4 f0_wayEnd_5 f0_waiting_6 am81_9 am82_12 am83_15 am84_18 am85_21 am86_24 am87_27 am88_30 am89_33 am810_36 am811_39 am812_42 am813_45 am814_48) f0_root f0_wayEnd f0_waiting a1 a2 a3 a4 a5 a6 a7 a8 a9 a10 a11 a12 a13 a14))
noncomputable def ef_put_117_b (K : ef_F17) (ih : ef_F18) (x4 f0_root f0_wayEnd f0_waiting am1141 am1142 am1143 am1144 am1145 am1146 am1147 am1148 am1149 am11410 am11411 am11412 am11413 am11414 : Nat) : Bool :=
  eb_if (eb_lt x4 0)
   (K f0_root f0_wayEnd f0_waiting am1141 am1142 am1143 am1144 am1145 am1146 am1147 am1148 am1149 am11410 am11411 am11412 am11413 am11414)
   (eb_in x4 8 (
   eb_in (eb_gt am11412 x4) 110 (
   eb_if (eb_eq (eb_gt am1141 (eb_gt am11412 x4)) 5)
    (ef_split (fun f0_root_197 f0_wayEnd_198 f0_waiting_199 am1411_202 am1412_205 am1413_208 am1414_211 am1415_214 am1416_217 am1417_220 am1418_223 am1419_226 am14110_229 am14111_232 am14112_235 am14113_238 am14114_241 =>
     eb_fc (eb_ad x4 4294967295) (fun x4_242 =>
     ih x4_242 f0_root_197 f0_wayEnd_198 f0_waiting_199 am1411_202 am1412_205 am1413_208 am1414_211 am1415_214 am1416_217 am1417_220 am1418_223 am1419_226 am14110_229 am14111_232 am14112_235 am14113_238 am14114_241)) f0_root f0_wayEnd f0_waiting am1141 am1142 am1143 am1144 am1145 am1146 am1147 am1148 am1149 am11410 am11411 am11412 am11413 am11414 x4)
    (K f0_root f0_wayEnd f0_waiting am1141 am1142 am1143 am1144 am1145 am1146 am1147 am1148 am1149 am11410 am11411 am11412 am11413 am11414))))
noncomputable def ef_put_117 (K : ef_F17) (n : Nat) : ef_F18 :=
  Nat.rec (motive := fun _ => ef_F18) (fun _ _ _ _ _ _ _ _ _ _ _ _ _ _ _ _ _ _ => false) (fun _ ih => ef_put_117_b K ih) n
noncomputable def ef_put_71 (K : ef_F17) (x1 x2 f0_root f0_wayEnd f0_waiting am71 am72 am73 am74 am75 am76 am77 am78 am79 am710 am711 am712 am713 am714 : Nat) : Bool :=
  eb_fc (eb_sb f0_wayEnd 1) (fun x4_95 =>
  eb_in x4_95 8 (
  eb_fc (eb_gt am712 x4_95) (fun fx2 =>
  eb_fc (eb_gt am713 x4_95) (fun fx3 =>
  ef_openPlace (fun f0_root_99 f0_wayEnd_100 f0_waiting_101 am941_104 am942_107 am943_110 am944_113 am945_116 am946_119 am947_122 am948_125 am949_128 am9410_131 am9411_134 am9412_137 am9413_140 am9414_143 =>
   eb_fc (eb_gt am9412_137 x4_95) (fun fx4 =>
   eb_fc (eb_gt am9413_140 x4_95) (fun fx5 =>
   ef_putAt (fun f0_root_147 f0_wayEnd_148 f0_waiting_149 am1141_152 am1142_155 am1143_158 am1144_161 am1145_164 am1146_167 am1147_170 am1148_173 am1149_176 am11410_179 am11411_182 am11412_185 am11413_188 am11414_191 =>
    ef_put_117 K 120 x4_95 f0_root_147 f0_wayEnd_148 f0_waiting_149 am1141_152 am1142_155 am1143_158 am1144_161 am1145_164 am1146_167 am1147_170 am1148_173 am1149_176 am11410_179 am11411_182 am11412_185 am11413_188 am11414_191) f0_root_99 f0_wayEnd_100 f0_waiting_101 am941_104 am942_107 am943_110 am944_113 am945_116 am946_119 am947_122 am948_125 am949_128 am9410_131 am9411_134 am9412_137 am9413_140 am9414_143 fx4 fx5 x1 x2))) f0_root f0_wayEnd f0_waiting am71 am72 am73 am74 am75 am76 am77 am78 am79 am710 am711 am712 am713 am714 fx2 fx3))))
noncomputable def ef_put (K : ef_F17) (f0_root f0_wayEnd f0_waiting a1 a2 a3 a4 a5 a6 a7 a8 a9 a10 a11 a12 a13 a14 p0 p1 : Nat) : Bool :=
  ef_find (fun r_1 f0_root_2 f0_wayEnd_3 f0_waiting_4 am21_7 am22_10 am23_13 am24_16 am25_19 am26_22 am27_25 am28_28 am29_31 am210_34 am211_37 am212_40 am213_43 am214_46 =>
   ef_copyWay (fun f0_root_48 f0_wayEnd_49 f0_waiting_50 am71_53 am72_56 am73_59 am74_62 am75_65 am76_68 am77_71 am78_74 am79_77 am710_80 am711_83 am712_86 am713_89 am714_92 =>
    eb_if (eb_eq r_1 0)
     (eb_if (eb_eq f0_wayEnd_49 0)
      (ef_newPage (fun r_243 f0_root_244 f0_wayEnd_245 f0_waiting_246 am561_249 am562_252 am563_255 am564_258 am565_261 am566_264 am567_267 am568_270 am569_273 am5610_276 am5611_279 am5612_282 am5613_285 am5614_288 =>
       ef_pushWay (fun f0_root_290 f0_wayEnd_291 f0_waiting_292 am681_295 am682_298 am683_301 am684_304 am685_307 am686_310 am687_313 am688_316 am689_319 am6810_322 am6811_325 am6812_328 am6813_331 am6814_334 =>
        ef_put_71 K p0 p1 f0_root_290 f0_wayEnd_291 f0_waiting_292 am681_295 am682_298 am683_301 am684_304 am685_307 am686_310 am687_313 am688_316 am689_319 am6810_322 am6811_325 am6812_328 am6813_331 am6814_334) r_243 f0_wayEnd_245 f0_waiting_246 am561_249 am562_252 am563_255 am564_258 am565_261 am566_264 am567_267 am568_270 am569_273 am5610_276 am5611_279 am5612_282 am5613_285 am5614_288 r_243 0) f0_root_48 f0_wayEnd_49 f0_waiting_50 am71_53 am72_56 am73_59 am74_62 am75_65 am76_68 am77_71 am78_74 am79_77 am710_80 am711_83 am712_86 am713_89 am714_92)
      (ef_put_71 K p0 p1 f0_root_48 f0_wayEnd_49 f0_waiting_50 am71_53 am72_56 am73_59 am74_62 am75_65 am76_68 am77_71 am78_74 am79_77 am710_80 am711_83 am712_86 am713_89 am714_92))
     (eb_in (eb_sb f0_wayEnd_49 1) 8 (
     eb_in (eb_ad (eb_ml 5 (eb_gt am712_86 (eb_sb f0_wayEnd_49 1))) (eb_gt am713_89 (eb_sb f0_wayEnd_49 1))) 550 (
     eb_g (eb_s16 p1) (
     eb_fc (eb_st am73_59 (eb_ad (eb_ml 5 (eb_gt am712_86 (eb_sb f0_wayEnd_49 1))) (eb_gt am713_89 (eb_sb f0_wayEnd_49 1))) p1) (fun am73_338 =>
     K f0_root_48 f0_wayEnd_49 f0_waiting_50 am71_53 am72_56 am73_338 am74_62 am75_65 am76_68 am77_71 am78_74 am79_77 am710_80 am711_83 am712_86 am713_89 am714_92)))))) f0_root_2 f0_wayEnd_3 f0_waiting_4 am21_7 am22_10 am23_13 am24_16 am25_19 am26_22 am27_25 am28_28 am29_31 am210_34 am211_37 am212_40 am213_43 am214_46) f0_root f0_wayEnd f0_waiting a1 a2 a3 a4 a5 a6 a7 a8 a9 a10 a11 a12 a13 a14 p0
noncomputable def ef_settle_2_b (K : ef_F17) (f0_root f0_wayEnd f0_waiting : Nat) (ih : ef_F15) (x1 a1 a2 a3 a4 a5 a6 a7 a8 a9 a10 a11 a12 a13 a14 : Nat) : Bool :=
  eb_if (eb_le 110 x1)
   (K f0_root f0_wayEnd f0_waiting a1 a2 a3 a4 a5 a6 a7 a8 a9 a10 a11 a12 a13 a14)
   (eb_in x1 110 (
   eb_fc (eb_st a5 x1 0) (fun a5_3 =>
   eb_fc (eb_ad x1 1) (fun x1_4 =>
   ih x1_4 a1 a2 a3 a4 a5_3 a6 a7 a8 a9 a10 a11 a12 a13 a14))))
noncomputable def ef_settle_2 (K : ef_F17) (f0_root f0_wayEnd f0_waiting : Nat) (n : Nat) : ef_F15 :=
  Nat.rec (motive := fun _ => ef_F15) (fun _ _ _ _ _ _ _ _ _ _ _ _ _ _ _ => false) (fun _ ih => ef_settle_2_b K f0_root f0_wayEnd f0_waiting ih) n
noncomputable def ef_settle (K : ef_F17) (f0_root f0_wayEnd f0_waiting a1 a2 a3 a4 a5 a6 a7 a8 a9 a10 a11 a12 a13 a14 : Nat) : Bool :=
  ef_settle_2 K f0_root f0_wayEnd f0_waiting 120 0 a1 a2 a3 a4 a5 a6 a7 a8 a9 a10 a11 a12 a13 a14
noncomputable def ef_init_118_b (K : ef_F17) (f0_root f0_wayEnd f0_waiting : Nat) (ih : ef_F15) (x1 am7 am16 am25 am34 am42 am50 am57 am64 am71 am80 am87 am95 am103 am111 : Nat) : Bool :=
  eb_if (eb_le 4 x1)
   (eb_fc (eb_st am57 0 4294967295) (fun am57_59 =>
   eb_fc (eb_st am57_59 1 4294967295) (fun am57_61 =>
   eb_fc (eb_st am71 0 1) (fun am71_63 =>
   ef_put (fun f0_root_65 f0_wayEnd_66 f0_waiting_67 am1651_70 am1652_73 am1653_76 am1654_79 am1655_82 am1656_85 am1657_88 am1658_91 am1659_94 am16510_97 am16511_100 am16512_103 am16513_106 am16514_109 =>
    eb_g (eb_b8 f0_root_65) (
    eb_fc (eb_st am1657_88 0 f0_root_65) (fun am1657_111 =>
    ef_settle (fun f0_root_113 f0_wayEnd_114 f0_waiting_115 am1801_118 am1802_121 am1803_124 am1804_127 am1805_130 am1806_133 am1807_136 am1808_139 am1809_142 am18010_145 am18011_148 am18012_151 am18013_154 am18014_157 =>
     K f0_root_113 f0_wayEnd_114 f0_waiting_115 am1801_118 am1802_121 am1803_124 am1804_127 am1805_130 am1806_133 am1807_136 am1808_139 am1809_142 am18010_145 am18011_148 am18012_151 am18013_154 am18014_157) f0_root_65 f0_wayEnd_66 f0_waiting_67 am1651_70 am1652_73 am1653_76 am1654_79 am1655_82 am1656_85 am1657_111 am1658_91 am1659_94 am16510_97 am16511_100 am16512_103 am16513_106 am16514_109))) 4294967295 f0_wayEnd f0_waiting am7 am16 am25 am34 am42 am50 am57_61 am64 am71_63 am80 am87 am95 am103 am111 (eb_ik 0) 1))))
   (eb_in x1 4 (
   eb_fc (eb_st am87 x1 4294967295) (fun am87_159 =>
   eb_fc (eb_ad x1 1) (fun x1_160 =>
   ih x1_160 am7 am16 am25 am34 am42 am50 am57 am64 am71 am80 am87_159 am95 am103 am111))))
noncomputable def ef_init_118 (K : ef_F17) (f0_root f0_wayEnd f0_waiting : Nat) (n : Nat) : ef_F15 :=
  Nat.rec (motive := fun _ => ef_F15) (fun _ _ _ _ _ _ _ _ _ _ _ _ _ _ _ => false) (fun _ ih => ef_init_118_b K f0_root f0_wayEnd f0_waiting ih) n
noncomputable def ef_isHandle (K : ef_F1) (f0_root f0_wayEnd f0_waiting a1 a2 a3 a4 a5 a6 a7 a8 a9 a10 a11 a12 a13 a14 p0 : Nat) : Bool :=
  eb_if (eb_lt p0 0)
   (K 0)
   (eb_if (eb_lt 3 p0)
    (K 0)
    (K 1))
noncomputable def ef_isName (K : ef_F1) (f0_root f0_wayEnd f0_waiting a1 a2 a3 a4 a5 a6 a7 a8 a9 a10 a11 a12 a13 a14 p0 : Nat) : Bool :=
  eb_i3 (eb_klt p0 (eb_ik 0)) (eb_kle (eb_ik 0) p0)
   (K 0)
   (eb_i3 (eb_klt (eb_ik 99) p0) (eb_kle p0 (eb_ik 99))
    (K 0)
    (K 1))
noncomputable def ef_get (K : ef_F18) (f0_root f0_wayEnd f0_waiting a1 a2 a3 a4 a5 a6 a7 a8 a9 a10 a11 a12 a13 a14 p0 : Nat) : Bool :=
  ef_find (fun r_1 f0_root_2 f0_wayEnd_3 f0_waiting_4 am21_7 am22_10 am23_13 am24_16 am25_19 am26_22 am27_25 am28_28 am29_31 am210_34 am211_37 am212_40 am213_43 am214_46 =>
   eb_if (eb_eq r_1 0)
    (K 4294967295 f0_root_2 f0_wayEnd_3 f0_waiting_4 am21_7 am22_10 am23_13 am24_16 am25_19 am26_22 am27_25 am28_28 am29_31 am210_34 am211_37 am212_40 am213_43 am214_46)
    (eb_in (eb_sb f0_wayEnd_3 1) 8 (
    eb_in (eb_ad (eb_ml 5 (eb_gt am212_40 (eb_sb f0_wayEnd_3 1))) (eb_gt am213_43 (eb_sb f0_wayEnd_3 1))) 550 (
    eb_fc (eb_gt am23_13 (eb_ad (eb_ml 5 (eb_gt am212_40 (eb_sb f0_wayEnd_3 1))) (eb_gt am213_43 (eb_sb f0_wayEnd_3 1)))) (fun fx3 =>
    K fx3 f0_root_2 f0_wayEnd_3 f0_waiting_4 am21_7 am22_10 am23_13 am24_16 am25_19 am26_22 am27_25 am28_28 am29_31 am210_34 am211_37 am212_40 am213_43 am214_46))))) f0_root f0_wayEnd f0_waiting a1 a2 a3 a4 a5 a6 a7 a8 a9 a10 a11 a12 a13 a14 p0
noncomputable def ef_sortOf (K : ef_F18) (f0_root f0_wayEnd f0_waiting a1 a2 a3 a4 a5 a6 a7 a8 a9 a10 a11 a12 a13 a14 p0 : Nat) : Bool :=
  eb_fc (eb_ik (eb_ml 256 p0)) (fun fx1 =>
  ef_get (fun r_1 f0_root_2 f0_wayEnd_3 f0_waiting_4 am61_7 am62_10 am63_13 am64_16 am65_19 am66_22 am67_25 am68_28 am69_31 am610_34 am611_37 am612_40 am613_43 am614_46 =>
   eb_fc (eb_an r_1 3) (fun fx2 =>
   K fx2 f0_root_2 f0_wayEnd_3 f0_waiting_4 am61_7 am62_10 am63_13 am64_16 am65_19 am66_22 am67_25 am68_28 am69_31 am610_34 am611_37 am612_40 am613_43 am614_46)) f0_root f0_wayEnd f0_waiting a1 a2 a3 a4 a5 a6 a7 a8 a9 a10 a11 a12 a13 a14 fx1)
noncomputable def ef_directoryFault (K : ef_F18) (f0_root f0_wayEnd f0_waiting a1 a2 a3 a4 a5 a6 a7 a8 a9 a10 a11 a12 a13 a14 p0 : Nat) : Bool :=
  eb_in p0 4 (
  eb_if (eb_le 0 (eb_gt a11 p0))
   (eb_fc (eb_gt a11 p0) (fun fx2 =>
   ef_sortOf (fun r_4 f0_root_5 f0_wayEnd_6 f0_waiting_7 am191_10 am192_13 am193_16 am194_19 am195_22 am196_25 am197_28 am198_31 am199_34 am1910_37 am1911_40 am1912_43 am1913_46 am1914_49 =>
    eb_if (eb_eq r_4 2)
     (K 4294967292 f0_root_5 f0_wayEnd_6 f0_waiting_7 am191_10 am192_13 am193_16 am194_19 am195_22 am196_25 am197_28 am198_31 am199_34 am1910_37 am1911_40 am1912_43 am1913_46 am1914_49)
     (K 0 f0_root_5 f0_wayEnd_6 f0_waiting_7 am191_10 am192_13 am193_16 am194_19 am195_22 am196_25 am197_28 am198_31 am199_34 am1910_37 am1911_40 am1912_43 am1913_46 am1914_49)) f0_root f0_wayEnd f0_waiting a1 a2 a3 a4 a5 a6 a7 a8 a9 a10 a11 a12 a13 a14 fx2))
   (K 4294967293 f0_root f0_wayEnd f0_waiting a1 a2 a3 a4 a5 a6 a7 a8 a9 a10 a11 a12 a13 a14))
noncomputable def ef_freeNode_2_b (K : ef_F18) (ih : ef_F18) (x1 f0_root f0_wayEnd f0_waiting a1 a2 a3 a4 a5 a6 a7 a8 a9 a10 a11 a12 a13 a14 : Nat) : Bool :=
  eb_if (eb_le 16 x1)
   (K 4294967295 f0_root f0_wayEnd f0_waiting a1 a2 a3 a4 a5 a6 a7 a8 a9 a10 a11 a12 a13 a14)
   (eb_fc (eb_ik (eb_ml 256 x1)) (fun fx1 =>
   ef_get (fun r_2 f0_root_3 f0_wayEnd_4 f0_waiting_5 am141_8 am142_11 am143_14 am144_17 am145_20 am146_23 am147_26 am148_29 am149_32 am1410_35 am1411_38 am1412_41 am1413_44 am1414_47 =>
    eb_if (eb_le 0 r_2)
     (eb_fc (eb_ad x1 1) (fun x1_49 =>
     ih x1_49 f0_root_3 f0_wayEnd_4 f0_waiting_5 am141_8 am142_11 am143_14 am144_17 am145_20 am146_23 am147_26 am148_29 am149_32 am1410_35 am1411_38 am1412_41 am1413_44 am1414_47))
     (K x1 f0_root_3 f0_wayEnd_4 f0_waiting_5 am141_8 am142_11 am143_14 am144_17 am145_20 am146_23 am147_26 am148_29 am149_32 am1410_35 am1411_38 am1412_41 am1413_44 am1414_47)) f0_root f0_wayEnd f0_waiting a1 a2 a3 a4 a5 a6 a7 a8 a9 a10 a11 a12 a13 a14 fx1))
noncomputable def ef_freeNode_2 (K : ef_F18) (n : Nat) : ef_F18 :=
  Nat.rec (motive := fun _ => ef_F18) (fun _ _ _ _ _ _ _ _ _ _ _ _ _ _ _ _ _ _ => false) (fun _ ih => ef_freeNode_2_b K ih) n
noncomputable def ef_freeNode (K : ef_F18) (f0_root f0_wayEnd f0_waiting a1 a2 a3 a4 a5 a6 a7 a8 a9 a10 a11 a12 a13 a14 : Nat) : Bool :=
  ef_freeNode_2 K 120 1 f0_root f0_wayEnd f0_waiting a1 a2 a3 a4 a5 a6 a7 a8 a9 a10 a11 a12 a13 a14
noncomputable def ef_make_106 (K : ef_F18) (x1 x3 x6 x7 z0 z1 z2 f0_root f0_wayEnd f0_waiting am721 am722 am723 am724 am725 am726 am727 am728 am729 am7210 am7211 am7212 am7213 am7214 : Nat) : Bool :=
  eb_fc (eb_ik z2) (fun fx1 =>
  eb_fc (eb_ad z1 z0) (fun fx2 =>
  ef_put (fun f0_root_152 f0_wayEnd_153 f0_waiting_154 am1071_157 am1072_160 am1073_163 am1074_166 am1075_169 am1076_172 am1077_175 am1078_178 am1079_181 am10710_184 am10711_187 am10712_190 am10713_193 am10714_196 =>
   eb_fc (eb_ka x3 (eb_ad (eb_ml 256 x6) 1)) (fun fx3 =>
   ef_put (fun f0_root_198 f0_wayEnd_199 f0_waiting_200 am1231_203 am1232_206 am1233_209 am1234_212 am1235_215 am1236_218 am1237_221 am1238_224 am1239_227 am12310_230 am12311_233 am12312_236 am12313_239 am12314_242 =>
    eb_in x1 4 (
    eb_g (eb_b8 x7) (
    eb_fc (eb_st am12311_233 x1 x7) (fun am12311_244 =>
    K 0 f0_root_198 f0_wayEnd_199 f0_waiting_200 am1231_203 am1232_206 am1233_209 am1234_212 am1235_215 am1236_218 am1237_221 am1238_224 am1239_227 am12310_230 am12311_244 am12312_236 am12313_239 am12314_242)))) f0_root_152 f0_wayEnd_153 f0_waiting_154 am1071_157 am1072_160 am1073_163 am1074_166 am1075_169 am1076_172 am1077_175 am1078_178 am1079_181 am10710_184 am10711_187 am10712_190 am10713_193 am10714_196 fx3 x7)) f0_root f0_wayEnd f0_waiting am721 am722 am723 am724 am725 am726 am727 am728 am729 am7210 am7211 am7212 am7213 am7214 fx1 fx2))
noncomputable def ef_make (K : ef_F18) (f0_root f0_wayEnd f0_waiting a1 a2 a3 a4 a5 a6 a7 a8 a9 a10 a11 a12 a13 a14 p0 p1 p2 p3 : Nat) : Bool :=
  eb_if (eb_lt p0 1)
   (K 4294967295 f0_root f0_wayEnd f0_waiting a1 a2 a3 a4 a5 a6 a7 a8 a9 a10 a11 a12 a13 a14)
   (eb_if (eb_lt 3 p0)
    (K 4294967295 f0_root f0_wayEnd f0_waiting a1 a2 a3 a4 a5 a6 a7 a8 a9 a10 a11 a12 a13 a14)
    (ef_isHandle (fun r_3 =>
     eb_if (eb_eq r_3 0)
      (K 4294967295 f0_root f0_wayEnd f0_waiting a1 a2 a3 a4 a5 a6 a7 a8 a9 a10 a11 a12 a13 a14)
      (ef_isName (fun r_5 =>
       eb_if (eb_eq r_5 0)
        (K 4294967295 f0_root f0_wayEnd f0_waiting a1 a2 a3 a4 a5 a6 a7 a8 a9 a10 a11 a12 a13 a14)
        (ef_directoryFault (fun r_7 f0_root_8 f0_wayEnd_9 f0_waiting_10 am301_13 am302_16 am303_19 am304_22 am305_25 am306_28 am307_31 am308_34 am309_37 am3010_40 am3011_43 am3012_46 am3013_49 am3014_52 =>
         eb_if (eb_eq r_7 0)
          (eb_in p1 4 (
          eb_fc (eb_gt am3011_43 p1) (fun x6_55 =>
          eb_fc (eb_ka p2 (eb_ad (eb_ml 256 x6_55) 1)) (fun fx2 =>
          ef_get (fun r_56 f0_root_57 f0_wayEnd_58 f0_waiting_59 am621_62 am622_65 am623_68 am624_71 am625_74 am626_77 am627_80 am628_83 am629_86 am6210_89 am6211_92 am6212_95 am6213_98 am6214_101 =>
           eb_if (eb_lt r_56 0)
            (ef_freeNode (fun r_103 f0_root_104 f0_wayEnd_105 f0_waiting_106 am721_109 am722_112 am723_115 am724_118 am725_121 am726_124 am727_127 am728_130 am729_133 am7210_136 am7211_139 am7212_142 am7213_145 am7214_148 =>
             eb_if (eb_le 0 r_103)
              (eb_if (eb_eq p3 0)
               (eb_fc (eb_ml 4 x6_55) (fun fx3 =>
               eb_fc (eb_ml 256 r_103) (fun fx4 =>
               ef_make_106 K p0 p2 x6_55 r_103 2 fx3 fx4 f0_root_104 f0_wayEnd_105 f0_waiting_106 am721_109 am722_112 am723_115 am724_118 am725_121 am726_124 am727_127 am728_130 am729_133 am7210_136 am7211_139 am7212_142 am7213_145 am7214_148)))
               (eb_fc (eb_ml 4 x6_55) (fun fx5 =>
               eb_fc (eb_ml 256 r_103) (fun fx6 =>
               ef_make_106 K p0 p2 x6_55 r_103 1 fx5 fx6 f0_root_104 f0_wayEnd_105 f0_waiting_106 am721_109 am722_112 am723_115 am724_118 am725_121 am726_124 am727_127 am728_130 am729_133 am7210_136 am7211_139 am7212_142 am7213_145 am7214_148))))
              (K 4294967294 f0_root_104 f0_wayEnd_105 f0_waiting_106 am721_109 am722_112 am723_115 am724_118 am725_121 am726_124 am727_127 am728_130 am729_133 am7210_136 am7211_139 am7212_142 am7213_145 am7214_148)) f0_root_57 f0_wayEnd_58 f0_waiting_59 am621_62 am622_65 am623_68 am624_71 am625_74 am626_77 am627_80 am628_83 am629_86 am6210_89 am6211_92 am6212_95 am6213_98 am6214_101)
            (K 4294967291 f0_root_57 f0_wayEnd_58 f0_waiting_59 am621_62 am622_65 am623_68 am624_71 am625_74 am626_77 am627_80 am628_83 am629_86 am6210_89 am6211_92 am6212_95 am6213_98 am6214_101)) f0_root_8 f0_wayEnd_9 f0_waiting_10 am301_13 am302_16 am303_19 am304_22 am305_25 am306_28 am307_31 am308_34 am309_37 am3010_40 am3011_43 am3012_46 am3013_49 am3014_52 fx2))))
          (K r_7 f0_root_8 f0_wayEnd_9 f0_waiting_10 am301_13 am302_16 am303_19 am304_22 am305_25 am306_28 am307_31 am308_34 am309_37 am3010_40 am3011_43 am3012_46 am3013_49 am3014_52)) f0_root f0_wayEnd f0_waiting a1 a2 a3 a4 a5 a6 a7 a8 a9 a10 a11 a12 a13 a14 p1)) f0_root f0_wayEnd f0_waiting a1 a2 a3 a4 a5 a6 a7 a8 a9 a10 a11 a12 a13 a14 p2)) f0_root f0_wayEnd f0_waiting a1 a2 a3 a4 a5 a6 a7 a8 a9 a10 a11 a12 a13 a14 p1))
noncomputable def ef_kind (K : ef_F18) (f0_root f0_wayEnd f0_waiting a1 a2 a3 a4 a5 a6 a7 a8 a9 a10 a11 a12 a13 a14 p0 : Nat) : Bool :=
  ef_isHandle (fun r_1 =>
   eb_if (eb_eq r_1 0)
    (K 4294967295 f0_root f0_wayEnd f0_waiting a1 a2 a3 a4 a5 a6 a7 a8 a9 a10 a11 a12 a13 a14)
    (eb_in p0 4 (
    eb_if (eb_le 0 (eb_gt a11 p0))
     (eb_fc (eb_gt a11 p0) (fun fx2 =>
     ef_sortOf (fun r_6 f0_root_7 f0_wayEnd_8 f0_waiting_9 am301_12 am302_15 am303_18 am304_21 am305_24 am306_27 am307_30 am308_33 am309_36 am3010_39 am3011_42 am3012_45 am3013_48 am3014_51 =>
      K r_6 f0_root_7 f0_wayEnd_8 f0_waiting_9 am301_12 am302_15 am303_18 am304_21 am305_24 am306_27 am307_30 am308_33 am309_36 am3010_39 am3011_42 am3012_45 am3013_48 am3014_51) f0_root f0_wayEnd f0_waiting a1 a2 a3 a4 a5 a6 a7 a8 a9 a10 a11 a12 a13 a14 fx2))
     (K 0 f0_root f0_wayEnd f0_waiting a1 a2 a3 a4 a5 a6 a7 a8 a9 a10 a11 a12 a13 a14)))) f0_root f0_wayEnd f0_waiting a1 a2 a3 a4 a5 a6 a7 a8 a9 a10 a11 a12 a13 a14 p0
noncomputable def ef_lastKey_65 (K : ef_F1) (JJ : ef_F2) (x1 x2 x3 x4 f0_root f0_wayEnd f0_waiting a1 a2 a3 a4 a5 a6 a7 a8 a9 a10 a11 a12 a13 a14 : Nat) : Bool :=
  ef_isLeaf (fun r_5 =>
   eb_if (eb_eq r_5 0)
    (eb_in (eb_ad (eb_ml 6 x3) x4) 660 (
    eb_fc (eb_gt a4 (eb_ad (eb_ml 6 x3) x4)) (fun x3_8 =>
    JJ x2 x3_8)))
    (JJ x2 4294967295)) f0_root f0_wayEnd f0_waiting a1 a2 a3 a4 a5 a6 a7 a8 a9 a10 a11 a12 a13 a14 x3
noncomputable def ef_lastKey_46 (K : ef_F1) (JJ : ef_F2) (x1 x2 x3 x4 f0_root f0_wayEnd f0_waiting a1 a2 a3 a4 a5 a6 a7 a8 a9 a10 a11 a12 a13 a14 : Nat) : Bool :=
  eb_if (eb_le x4 0)
   (ef_lastKey_65 K JJ x1 x2 x3 x4 f0_root f0_wayEnd f0_waiting a1 a2 a3 a4 a5 a6 a7 a8 a9 a10 a11 a12 a13 a14)
   (eb_in (eb_sb (eb_ad (eb_ml 5 x3) x4) 1) 550 (
   eb_fc (eb_gk a2 (eb_sb (eb_ad (eb_ml 5 x3) x4) 1)) (fun x2_10 =>
   ef_lastKey_65 K JJ x1 x2_10 x3 x4 f0_root f0_wayEnd f0_waiting a1 a2 a3 a4 a5 a6 a7 a8 a9 a10 a11 a12 a13 a14)))
noncomputable def ef_lastKey_14_b (K : ef_F1) (JJ : ef_F2) (x1 x2 x3 f0_root f0_wayEnd f0_waiting a1 a2 a3 a4 a5 a6 a7 a8 a9 a10 a11 a12 a13 a14 : Nat) (ih : ef_F1) (x4 : Nat) : Bool :=
  eb_in x3 110 (
  eb_if (eb_le (eb_gt a1 x3) x4)
   (ef_lastKey_46 K JJ x1 x2 x3 x4 f0_root f0_wayEnd f0_waiting a1 a2 a3 a4 a5 a6 a7 a8 a9 a10 a11 a12 a13 a14)
   (eb_in (eb_ad (eb_ml 5 x3) x4) 550 (
   eb_i3 (eb_klt (eb_ik x1) (eb_gk a2 (eb_ad (eb_ml 5 x3) x4))) (eb_kle (eb_gk a2 (eb_ad (eb_ml 5 x3) x4)) (eb_ik x1))
    (ef_lastKey_46 K JJ x1 x2 x3 x4 f0_root f0_wayEnd f0_waiting a1 a2 a3 a4 a5 a6 a7 a8 a9 a10 a11 a12 a13 a14)
    (eb_fc (eb_ad x4 1) (fun x4_13 =>
    ih x4_13)))))
noncomputable def ef_lastKey_14 (K : ef_F1) (JJ : ef_F2) (x1 x2 x3 f0_root f0_wayEnd f0_waiting a1 a2 a3 a4 a5 a6 a7 a8 a9 a10 a11 a12 a13 a14 : Nat) (n : Nat) : ef_F1 :=
  Nat.rec (motive := fun _ => ef_F1) (fun _ => false) (fun _ ih => ef_lastKey_14_b K JJ x1 x2 x3 f0_root f0_wayEnd f0_waiting a1 a2 a3 a4 a5 a6 a7 a8 a9 a10 a11 a12 a13 a14 ih) n
noncomputable def ef_lastKey_7_b (K : ef_F1) (x1 f0_root f0_wayEnd f0_waiting a1 a2 a3 a4 a5 a6 a7 a8 a9 a10 a11 a12 a13 a14 : Nat) (ih : ef_F2) (x2 x3 : Nat) : Bool :=
  eb_if (eb_lt x3 0)
   (K x2)
   (ef_lastKey_14 K ih x1 x2 x3 f0_root f0_wayEnd f0_waiting a1 a2 a3 a4 a5 a6 a7 a8 a9 a10 a11 a12 a13 a14 120 0)
noncomputable def ef_lastKey_7 (K : ef_F1) (x1 f0_root f0_wayEnd f0_waiting a1 a2 a3 a4 a5 a6 a7 a8 a9 a10 a11 a12 a13 a14 : Nat) (n : Nat) : ef_F2 :=
  Nat.rec (motive := fun _ => ef_F2) (fun _ _ => false) (fun _ ih => ef_lastKey_7_b K x1 f0_root f0_wayEnd f0_waiting a1 a2 a3 a4 a5 a6 a7 a8 a9 a10 a11 a12 a13 a14 ih) n
noncomputable def ef_lastKey (K : ef_F1) (f0_root f0_wayEnd f0_waiting a1 a2 a3 a4 a5 a6 a7 a8 a9 a10 a11 a12 a13 a14 p0 : Nat) : Bool :=
  ef_lastKey_7 K p0 f0_root f0_wayEnd f0_waiting a1 a2 a3 a4 a5 a6 a7 a8 a9 a10 a11 a12 a13 a14 120 (eb_ik 4294967295) f0_root
noncomputable def ef_stretchAt (K : ef_F1) (f0_root f0_wayEnd f0_waiting a1 a2 a3 a4 a5 a6 a7 a8 a9 a10 a11 a12 a13 a14 p0 p1 : Nat) : Bool :=
  eb_fc (eb_ad (eb_ad (eb_ml 256 p0) 128) p1) (fun fx1 =>
  ef_lastKey (fun r_1 =>
   eb_i3 (eb_klt r_1 (eb_ik (eb_ad (eb_ml 256 p0) 128))) (eb_kle (eb_ik (eb_ad (eb_ml 256 p0) 128)) r_1)
    (K (eb_ik 4294967295))
    (K r_1)) f0_root f0_wayEnd f0_waiting a1 a2 a3 a4 a5 a6 a7 a8 a9 a10 a11 a12 a13 a14 fx1)
noncomputable def ef_placeOf (K : ef_F18) (f0_root f0_wayEnd f0_waiting a1 a2 a3 a4 a5 a6 a7 a8 a9 a10 a11 a12 a13 a14 p0 p1 : Nat) : Bool :=
  ef_stretchAt (fun r_1 =>
   eb_i3 (eb_kle (eb_ik 0) r_1) (eb_klt r_1 (eb_ik 0))
    (ef_get (fun r_3 f0_root_4 f0_wayEnd_5 f0_waiting_6 am151_9 am152_12 am153_15 am154_18 am155_21 am156_24 am157_27 am158_30 am159_33 am1510_36 am1511_39 am1512_42 am1513_45 am1514_48 =>
     eb_g (eb_k2i r_1) (
     eb_fc (eb_sb (eb_ad (eb_ad (eb_ml 256 p0) 128) p1) r_1) (fun x5_49 =>
     eb_if (eb_le (eb_an r_3 15) x5_49)
      (K 4294967295 f0_root_4 f0_wayEnd_5 f0_waiting_6 am151_9 am152_12 am153_15 am154_18 am155_21 am156_24 am157_27 am158_30 am159_33 am1510_36 am1511_39 am1512_42 am1513_45 am1514_48)
      (eb_g (eb_sm r_3) (
      eb_fc (eb_ad (eb_sr r_3 4) x5_49) (fun fx3 =>
      K fx3 f0_root_4 f0_wayEnd_5 f0_waiting_6 am151_9 am152_12 am153_15 am154_18 am155_21 am156_24 am157_27 am158_30 am159_33 am1510_36 am1511_39 am1512_42 am1513_45 am1514_48)))))) f0_root f0_wayEnd f0_waiting a1 a2 a3 a4 a5 a6 a7 a8 a9 a10 a11 a12 a13 a14 r_1)
    (K 4294967295 f0_root f0_wayEnd f0_waiting a1 a2 a3 a4 a5 a6 a7 a8 a9 a10 a11 a12 a13 a14)) f0_root f0_wayEnd f0_waiting a1 a2 a3 a4 a5 a6 a7 a8 a9 a10 a11 a12 a13 a14 p0 p1
noncomputable def ef_nextKey_69 (K : ef_F1) (JJ : ef_F2) (x1 x2 x3 x4 f0_root f0_wayEnd f0_waiting a1 a2 a3 a4 a5 a6 a7 a8 a9 a10 a11 a12 a13 a14 : Nat) : Bool :=
  ef_isLeaf (fun r_6 =>
   eb_if (eb_eq r_6 0)
    (eb_in (eb_ad (eb_ml 6 x3) x4) 660 (
    eb_fc (eb_gt a4 (eb_ad (eb_ml 6 x3) x4)) (fun x3_9 =>
    JJ x2 x3_9)))
    (JJ x2 4294967295)) f0_root f0_wayEnd f0_waiting a1 a2 a3 a4 a5 a6 a7 a8 a9 a10 a11 a12 a13 a14 x3
noncomputable def ef_nextKey_46 (K : ef_F1) (JJ : ef_F2) (x1 x2 x3 x4 f0_root f0_wayEnd f0_waiting a1 a2 a3 a4 a5 a6 a7 a8 a9 a10 a11 a12 a13 a14 : Nat) : Bool :=
  eb_in x3 110 (
  eb_if (eb_le (eb_gt a1 x3) x4)
   (ef_nextKey_69 K JJ x1 x2 x3 x4 f0_root f0_wayEnd f0_waiting a1 a2 a3 a4 a5 a6 a7 a8 a9 a10 a11 a12 a13 a14)
   (eb_in (eb_ad (eb_ml 5 x3) x4) 550 (
   eb_fc (eb_gk a2 (eb_ad (eb_ml 5 x3) x4)) (fun x2_11 =>
   ef_nextKey_69 K JJ x1 x2_11 x3 x4 f0_root f0_wayEnd f0_waiting a1 a2 a3 a4 a5 a6 a7 a8 a9 a10 a11 a12 a13 a14))))
noncomputable def ef_nextKey_14_b (K : ef_F1) (JJ : ef_F2) (x1 x2 x3 f0_root f0_wayEnd f0_waiting a1 a2 a3 a4 a5 a6 a7 a8 a9 a10 a11 a12 a13 a14 : Nat) (ih : ef_F1) (x4 : Nat) : Bool :=
  eb_in x3 110 (
  eb_if (eb_le (eb_gt a1 x3) x4)
   (ef_nextKey_46 K JJ x1 x2 x3 x4 f0_root f0_wayEnd f0_waiting a1 a2 a3 a4 a5 a6 a7 a8 a9 a10 a11 a12 a13 a14)
   (eb_in (eb_ad (eb_ml 5 x3) x4) 550 (
   eb_i3 (eb_klt x1 (eb_gk a2 (eb_ad (eb_ml 5 x3) x4))) (eb_kle (eb_gk a2 (eb_ad (eb_ml 5 x3) x4)) x1)
    (ef_nextKey_46 K JJ x1 x2 x3 x4 f0_root f0_wayEnd f0_waiting a1 a2 a3 a4 a5 a6 a7 a8 a9 a10 a11 a12 a13 a14)
    (eb_fc (eb_ad x4 1) (fun x4_14 =>
    ih x4_14)))))
noncomputable def ef_nextKey_14 (K : ef_F1) (JJ : ef_F2) (x1 x2 x3 f0_root f0_wayEnd f0_waiting a1 a2 a3 a4 a5 a6 a7 a8 a9 a10 a11 a12 a13 a14 : Nat) (n : Nat) : ef_F1 :=
  Nat.rec (motive := fun _ => ef_F1) (fun _ => false) (fun _ ih => ef_nextKey_14_b K JJ x1 x2 x3 f0_root f0_wayEnd f0_waiting a1 a2 a3 a4 a5 a6 a7 a8 a9 a10 a11 a12 a13 a14 ih) n
noncomputable def ef_nextKey_7_b (K : ef_F1) (x1 f0_root f0_wayEnd f0_waiting a1 a2 a3 a4 a5 a6 a7 a8 a9 a10 a11 a12 a13 a14 : Nat) (ih : ef_F2) (x2 x3 : Nat) : Bool :=
  eb_if (eb_lt x3 0)
   (K x2)
   (ef_nextKey_14 K ih x1 x2 x3 f0_root f0_wayEnd f0_waiting a1 a2 a3 a4 a5 a6 a7 a8 a9 a10 a11 a12 a13 a14 120 0)
noncomputable def ef_nextKey_7 (K : ef_F1) (x1 f0_root f0_wayEnd f0_waiting a1 a2 a3 a4 a5 a6 a7 a8 a9 a10 a11 a12 a13 a14 : Nat) (n : Nat) : ef_F2 :=
  Nat.rec (motive := fun _ => ef_F2) (fun _ _ => false) (fun _ ih => ef_nextKey_7_b K x1 f0_root f0_wayEnd f0_waiting a1 a2 a3 a4 a5 a6 a7 a8 a9 a10 a11 a12 a13 a14 ih) n
noncomputable def ef_nextKey (K : ef_F1) (f0_root f0_wayEnd f0_waiting a1 a2 a3 a4 a5 a6 a7 a8 a9 a10 a11 a12 a13 a14 p0 : Nat) : Bool :=
  ef_nextKey_7 K p0 f0_root f0_wayEnd f0_waiting a1 a2 a3 a4 a5 a6 a7 a8 a9 a10 a11 a12 a13 a14 120 (eb_ik 4294967295) f0_root
noncomputable def ef_entriesOf_12_b (K : ef_F1) (x1 f0_root f0_wayEnd f0_waiting a1 a2 a3 a4 a5 a6 a7 a8 a9 a10 a11 a12 a13 a14 : Nat) (ih : ef_F2) (x2 x3 : Nat) : Bool :=
  eb_i3 (eb_klt x3 (eb_ik 0)) (eb_kle (eb_ik 0) x3)
   (K x2)
   (eb_i3 (eb_kle (eb_ik (eb_ad (eb_ml 256 x1) 128)) x3) (eb_klt x3 (eb_ik (eb_ad (eb_ml 256 x1) 128)))
    (K x2)
    (eb_fc (eb_ad x2 1) (fun x2_4 =>
    ef_nextKey (fun r_5 =>
     ih x2_4 r_5) f0_root f0_wayEnd f0_waiting a1 a2 a3 a4 a5 a6 a7 a8 a9 a10 a11 a12 a13 a14 x3)))
noncomputable def ef_entriesOf_12 (K : ef_F1) (x1 f0_root f0_wayEnd f0_waiting a1 a2 a3 a4 a5 a6 a7 a8 a9 a10 a11 a12 a13 a14 : Nat) (n : Nat) : ef_F2 :=
  Nat.rec (motive := fun _ => ef_F2) (fun _ _ => false) (fun _ ih => ef_entriesOf_12_b K x1 f0_root f0_wayEnd f0_waiting a1 a2 a3 a4 a5 a6 a7 a8 a9 a10 a11 a12 a13 a14 ih) n
noncomputable def ef_entriesOf (K : ef_F1) (f0_root f0_wayEnd f0_waiting a1 a2 a3 a4 a5 a6 a7 a8 a9 a10 a11 a12 a13 a14 p0 : Nat) : Bool :=
  eb_fc (eb_ik (eb_ml 256 p0)) (fun fx1 =>
  ef_nextKey (fun r_1 =>
   ef_entriesOf_12 K p0 f0_root f0_wayEnd f0_waiting a1 a2 a3 a4 a5 a6 a7 a8 a9 a10 a11 a12 a13 a14 120 0 r_1) f0_root f0_wayEnd f0_waiting a1 a2 a3 a4 a5 a6 a7 a8 a9 a10 a11 a12 a13 a14 fx1)
noncomputable def ef_size_50_b (K : ef_F18) (x1 : Nat) (ih : ef_F19) (x2 x3 f0_root f0_wayEnd f0_waiting am281 am282 am283 am284 am285 am286 am287 am288 am289 am2810 am2811 am2812 am2813 am2814 : Nat) : Bool :=
  eb_if (eb_le 8 x3)
   (K x2 f0_root f0_wayEnd f0_waiting am281 am282 am283 am284 am285 am286 am287 am288 am289 am2810 am2811 am2812 am2813 am2814)
   (eb_in x1 4 (
   eb_fc (eb_gt am2811 x1) (fun fx2 =>
   ef_placeOf (fun r_55 f0_root_56 f0_wayEnd_57 f0_waiting_58 am641_61 am642_64 am643_67 am644_70 am645_73 am646_76 am647_79 am648_82 am649_85 am6410_88 am6411_91 am6412_94 am6413_97 am6414_100 =>
    eb_if (eb_lt r_55 0)
     (eb_fc (eb_ad x3 1) (fun x3_102 =>
     ih x2 x3_102 f0_root_56 f0_wayEnd_57 f0_waiting_58 am641_61 am642_64 am643_67 am644_70 am645_73 am646_76 am647_79 am648_82 am649_85 am6410_88 am6411_91 am6412_94 am6413_97 am6414_100))
     (eb_fc (eb_ad x2 1) (fun x2_103 =>
     eb_fc (eb_ad x3 1) (fun x3_104 =>
     ih x2_103 x3_104 f0_root_56 f0_wayEnd_57 f0_waiting_58 am641_61 am642_64 am643_67 am644_70 am645_73 am646_76 am647_79 am648_82 am649_85 am6410_88 am6411_91 am6412_94 am6413_97 am6414_100)))) f0_root f0_wayEnd f0_waiting am281 am282 am283 am284 am285 am286 am287 am288 am289 am2810 am2811 am2812 am2813 am2814 fx2 x3)))
noncomputable def ef_size_50 (K : ef_F18) (x1 : Nat) (n : Nat) : ef_F19 :=
  Nat.rec (motive := fun _ => ef_F19) (fun _ _ _ _ _ _ _ _ _ _ _ _ _ _ _ _ _ _ _ => false) (fun _ ih => ef_size_50_b K x1 ih) n
noncomputable def ef_size (K : ef_F18) (f0_root f0_wayEnd f0_waiting a1 a2 a3 a4 a5 a6 a7 a8 a9 a10 a11 a12 a13 a14 p0 : Nat) : Bool :=
  ef_isHandle (fun r_1 =>
   eb_if (eb_eq r_1 0)
    (K 4294967295 f0_root f0_wayEnd f0_waiting a1 a2 a3 a4 a5 a6 a7 a8 a9 a10 a11 a12 a13 a14)
    (eb_in p0 4 (
    eb_if (eb_le 0 (eb_gt a11 p0))
     (eb_fc (eb_gt a11 p0) (fun fx2 =>
     ef_sortOf (fun r_6 f0_root_7 f0_wayEnd_8 f0_waiting_9 am281_12 am282_15 am283_18 am284_21 am285_24 am286_27 am287_30 am288_33 am289_36 am2810_39 am2811_42 am2812_45 am2813_48 am2814_51 =>
      eb_if (eb_eq r_6 1)
       (eb_fc (eb_gt am2811_42 p0) (fun fx3 =>
       ef_entriesOf (fun r_106 =>
        K r_106 f0_root_7 f0_wayEnd_8 f0_waiting_9 am281_12 am282_15 am283_18 am284_21 am285_24 am286_27 am287_30 am288_33 am289_36 am2810_39 am2811_42 am2812_45 am2813_48 am2814_51) f0_root_7 f0_wayEnd_8 f0_waiting_9 am281_12 am282_15 am283_18 am284_21 am285_24 am286_27 am287_30 am288_33 am289_36 am2810_39 am2811_42 am2812_45 am2813_48 am2814_51 fx3))
       (ef_size_50 K p0 120 0 0 f0_root_7 f0_wayEnd_8 f0_waiting_9 am281_12 am282_15 am283_18 am284_21 am285_24 am286_27 am287_30 am288_33 am289_36 am2810_39 am2811_42 am2812_45 am2813_48 am2814_51)) f0_root f0_wayEnd f0_waiting a1 a2 a3 a4 a5 a6 a7 a8 a9 a10 a11 a12 a13 a14 fx2))
     (K 0 f0_root f0_wayEnd f0_waiting a1 a2 a3 a4 a5 a6 a7 a8 a9 a10 a11 a12 a13 a14)))) f0_root f0_wayEnd f0_waiting a1 a2 a3 a4 a5 a6 a7 a8 a9 a10 a11 a12 a13 a14 p0
noncomputable def ef_writeRoot (K : ef_F17) (f0_root f0_wayEnd f0_waiting a1 a2 a3 a4 a5 a6 a7 a8 a9 a10 a11 a12 a13 a14 p0 : Nat) : Bool :=
  ef_validPlace (fun r_1 =>
   eb_fc (eb_sb 1 r_1) (fun x3_2 =>
   eb_in x3_2 2 (
   eb_g (eb_z1 p0) (
   eb_fc (eb_st a9 x3_2 p0) (fun a9_4 =>
   eb_g (eb_b8 f0_root) (
   eb_fc (eb_st a7 x3_2 f0_root) (fun a7_6 =>
   eb_in r_1 2 (
   eb_fc (eb_st a8 x3_2 (eb_ad (eb_gt a8 r_1) 1)) (fun a8_9 =>
   K f0_root f0_wayEnd f0_waiting a1 a2 a3 a4 a5 a6 a7_6 a8_9 a9_4 a10 a11 a12 a13 a14))))))))) f0_root f0_wayEnd f0_waiting a1 a2 a3 a4 a5 a6 a7 a8 a9 a10 a11 a12 a13 a14
noncomputable def ef_save (K : ef_F18) (f0_root f0_wayEnd f0_waiting a1 a2 a3 a4 a5 a6 a7 a8 a9 a10 a11 a12 a13 a14 : Nat) : Bool :=
  ef_writeRoot (fun f0_root_2 f0_wayEnd_3 f0_waiting_4 am21_7 am22_10 am23_13 am24_16 am25_19 am26_22 am27_25 am28_28 am29_31 am210_34 am211_37 am212_40 am213_43 am214_46 =>
   ef_settle (fun f0_root_48 f0_wayEnd_49 f0_waiting_50 am61_53 am62_56 am63_59 am64_62 am65_65 am66_68 am67_71 am68_74 am69_77 am610_80 am611_83 am612_86 am613_89 am614_92 =>
    ef_validPlace (fun r_93 =>
     eb_in r_93 2 (
     eb_fc (eb_gt am68_74 r_93) (fun fx2 =>
     K fx2 f0_root_48 f0_wayEnd_49 f0_waiting_50 am61_53 am62_56 am63_59 am64_62 am65_65 am66_68 am67_71 am68_74 am69_77 am610_80 am611_83 am612_86 am613_89 am614_92))) f0_root_48 f0_wayEnd_49 f0_waiting_50 am61_53 am62_56 am63_59 am64_62 am65_65 am66_68 am67_71 am68_74 am69_77 am610_80 am611_83 am612_86 am613_89 am614_92) f0_root_2 f0_wayEnd_3 f0_waiting_4 am21_7 am22_10 am23_13 am24_16 am25_19 am26_22 am27_25 am28_28 am29_31 am210_34 am211_37 am212_40 am213_43 am214_46) f0_root f0_wayEnd f0_waiting a1 a2 a3 a4 a5 a6 a7 a8 a9 a10 a11 a12 a13 a14 1
noncomputable def ef_fileFault (K : ef_F18) (f0_root f0_wayEnd f0_waiting a1 a2 a3 a4 a5 a6 a7 a8 a9 a10 a11 a12 a13 a14 p0 : Nat) : Bool :=
  eb_in p0 4 (
  eb_if (eb_le 0 (eb_gt a11 p0))
   (eb_fc (eb_gt a11 p0) (fun fx2 =>
   ef_sortOf (fun r_4 f0_root_5 f0_wayEnd_6 f0_waiting_7 am191_10 am192_13 am193_16 am194_19 am195_22 am196_25 am197_28 am198_31 am199_34 am1910_37 am1911_40 am1912_43 am1913_46 am1914_49 =>
    eb_if (eb_eq r_4 1)
     (K 4294967292 f0_root_5 f0_wayEnd_6 f0_waiting_7 am191_10 am192_13 am193_16 am194_19 am195_22 am196_25 am197_28 am198_31 am199_34 am1910_37 am1911_40 am1912_43 am1913_46 am1914_49)
     (K 0 f0_root_5 f0_wayEnd_6 f0_waiting_7 am191_10 am192_13 am193_16 am194_19 am195_22 am196_25 am197_28 am198_31 am199_34 am1910_37 am1911_40 am1912_43 am1913_46 am1914_49)) f0_root f0_wayEnd f0_waiting a1 a2 a3 a4 a5 a6 a7 a8 a9 a10 a11 a12 a13 a14 fx2))
   (K 4294967293 f0_root f0_wayEnd f0_waiting a1 a2 a3 a4 a5 a6 a7 a8 a9 a10 a11 a12 a13 a14))
noncomputable def ef_blocksIn_23_b (K : ef_F18) (JJ : ef_F18) (x4 f0_root f0_wayEnd f0_waiting am151 am152 am153 am154 am155 am156 am157 am158 am159 am1510 am1511 am1512 am1513 am1514 : Nat) (ih : ef_F2) (x2 x5 : Nat) : Bool :=
  eb_in x4 110 (
  eb_if (eb_le (eb_gt am151 x4) x5)
   (JJ x2 f0_root f0_wayEnd f0_waiting am151 am152 am153 am154 am155 am156 am157 am158 am159 am1510 am1511 am1512 am1513 am1514)
   (eb_in (eb_ad (eb_ml 5 x4) x5) 550 (
   eb_g (eb_kg (eb_gk am152 (eb_ad (eb_ml 5 x4) x5))) (
   eb_i3 (eb_kle (eb_ik 128) (eb_kb (eb_gk am152 (eb_ad (eb_ml 5 x4) x5)))) (eb_klt (eb_kb (eb_gk am152 (eb_ad (eb_ml 5 x4) x5))) (eb_ik 128))
    (eb_fc (eb_gt am153 (eb_ad (eb_ml 5 x4) x5)) (fun x6_99 =>
    eb_g (eb_l6 (eb_an x6_99 15)) (
    eb_g (eb_sm x6_99) (
    eb_g (eb_l6 (eb_sr x6_99 4)) (
    eb_fc (eb_lo x2 (eb_mk (eb_an x6_99 15) (eb_sr x6_99 4))) (fun x2_100 =>
    eb_fc (eb_ad x5 1) (fun x5_101 =>
    ih x2_100 x5_101)))))))
    (eb_fc (eb_ad x5 1) (fun x5_102 =>
    ih x2 x5_102))))))
noncomputable def ef_blocksIn_23 (K : ef_F18) (JJ : ef_F18) (x4 f0_root f0_wayEnd f0_waiting am151 am152 am153 am154 am155 am156 am157 am158 am159 am1510 am1511 am1512 am1513 am1514 : Nat) (n : Nat) : ef_F2 :=
  Nat.rec (motive := fun _ => ef_F2) (fun _ _ => false) (fun _ ih => ef_blocksIn_23_b K JJ x4 f0_root f0_wayEnd f0_waiting am151 am152 am153 am154 am155 am156 am157 am158 am159 am1510 am1511 am1512 am1513 am1514 ih) n
noncomputable def ef_blocksIn_7_b (K : ef_F18) (ih : ef_F18) (x2 f0_root f0_wayEnd f0_waiting am41 am42 am43 am44 am45 am46 am47 am48 am49 am410 am411 am412 am413 am414 : Nat) : Bool :=
  eb_if (eb_le f0_waiting 0)
   (K x2 f0_root f0_wayEnd f0_waiting am41 am42 am43 am44 am45 am46 am47 am48 am49 am410 am411 am412 am413 am414)
   (ef_walk (fun r_48 f0_root_49 f0_wayEnd_50 f0_waiting_51 am151_54 am152_57 am153_60 am154_63 am155_66 am156_69 am157_72 am158_75 am159_78 am1510_81 am1511_84 am1512_87 am1513_90 am1514_93 =>
    ef_blocksIn_23 K ih r_48 f0_root_49 f0_wayEnd_50 f0_waiting_51 am151_54 am152_57 am153_60 am154_63 am155_66 am156_69 am157_72 am158_75 am159_78 am1510_81 am1511_84 am1512_87 am1513_90 am1514_93 120 x2 0) f0_root f0_wayEnd f0_waiting am41 am42 am43 am44 am45 am46 am47 am48 am49 am410 am411 am412 am413 am414)
noncomputable def ef_blocksIn_7 (K : ef_F18) (n : Nat) : ef_F18 :=
  Nat.rec (motive := fun _ => ef_F18) (fun _ _ _ _ _ _ _ _ _ _ _ _ _ _ _ _ _ _ => false) (fun _ ih => ef_blocksIn_7_b K ih) n
noncomputable def ef_blocksIn (K : ef_F18) (f0_root f0_wayEnd f0_waiting a1 a2 a3 a4 a5 a6 a7 a8 a9 a10 a11 a12 a13 a14 p0 : Nat) : Bool :=
  ef_startWalk (fun f0_root_2 f0_wayEnd_3 f0_waiting_4 am41_7 am42_10 am43_13 am44_16 am45_19 am46_22 am47_25 am48_28 am49_31 am410_34 am411_37 am412_40 am413_43 am414_46 =>
   ef_blocksIn_7 K 120 0 f0_root_2 f0_wayEnd_3 f0_waiting_4 am41_7 am42_10 am43_13 am44_16 am45_19 am46_22 am47_25 am48_28 am49_31 am410_34 am411_37 am412_40 am413_43 am414_46) f0_root f0_wayEnd f0_waiting a1 a2 a3 a4 a5 a6 a7 a8 a9 a10 a11 a12 a13 a14 p0
noncomputable def ef_bitsIn_5_b (K : ef_F1) (x1 f0_root f0_wayEnd f0_waiting a1 a2 a3 a4 a5 a6 a7 a8 a9 a10 a11 a12 a13 a14 : Nat) (ih : ef_F2) (x3 x4 : Nat) : Bool :=
  eb_if (eb_le 48 x4)
   (K x3)
   (eb_g (eb_l6 x4) (
   eb_fc (eb_ad x3 (eb_bt x1 x4)) (fun x3_2 =>
   eb_fc (eb_ad x4 1) (fun x4_3 =>
   ih x3_2 x4_3))))
noncomputable def ef_bitsIn_5 (K : ef_F1) (x1 f0_root f0_wayEnd f0_waiting a1 a2 a3 a4 a5 a6 a7 a8 a9 a10 a11 a12 a13 a14 : Nat) (n : Nat) : ef_F2 :=
  Nat.rec (motive := fun _ => ef_F2) (fun _ _ => false) (fun _ ih => ef_bitsIn_5_b K x1 f0_root f0_wayEnd f0_waiting a1 a2 a3 a4 a5 a6 a7 a8 a9 a10 a11 a12 a13 a14 ih) n
noncomputable def ef_bitsIn (K : ef_F1) (f0_root f0_wayEnd f0_waiting a1 a2 a3 a4 a5 a6 a7 a8 a9 a10 a11 a12 a13 a14 p0 : Nat) : Bool :=
  ef_bitsIn_5 K p0 f0_root f0_wayEnd f0_waiting a1 a2 a3 a4 a5 a6 a7 a8 a9 a10 a11 a12 a13 a14 120 0 0
noncomputable def ef_lengthenWay_43_b (K : ef_F17) (ih : ef_F18) (x2 f0_root f0_wayEnd f0_waiting a1 a2 a3 a4 a5 a6 a7 a8 a9 a10 a11 a12 a13 a14 : Nat) : Bool :=
  ef_isLeaf (fun r_8 =>
   eb_if (eb_eq r_8 0)
    (eb_in x2 110 (
    eb_fc (eb_gt a1 x2) (fun fx2 =>
    ef_pushWay (fun f0_root_59 f0_wayEnd_60 f0_waiting_61 am591_64 am592_67 am593_70 am594_73 am595_76 am596_79 am597_82 am598_85 am599_88 am5910_91 am5911_94 am5912_97 am5913_100 am5914_103 =>
     eb_in (eb_ad (eb_ml 6 x2) (eb_gt am591_64 x2)) 660 (
     eb_fc (eb_gt am594_73 (eb_ad (eb_ml 6 x2) (eb_gt am591_64 x2))) (fun x2_106 =>
     ih x2_106 f0_root_59 f0_wayEnd_60 f0_waiting_61 am591_64 am592_67 am593_70 am594_73 am595_76 am596_79 am597_82 am598_85 am599_88 am5910_91 am5911_94 am5912_97 am5913_100 am5914_103))) f0_root f0_wayEnd f0_waiting a1 a2 a3 a4 a5 a6 a7 a8 a9 a10 a11 a12 a13 a14 x2 fx2)))
    (eb_in x2 110 (
    eb_fc (eb_sb (eb_gt a1 x2) 1) (fun fx5 =>
    ef_pushWay (fun f0_root_12 f0_wayEnd_13 f0_waiting_14 am921_17 am922_20 am923_23 am924_26 am925_29 am926_32 am927_35 am928_38 am929_41 am9210_44 am9211_47 am9212_50 am9213_53 am9214_56 =>
     K f0_root_12 f0_wayEnd_13 f0_waiting_14 am921_17 am922_20 am923_23 am924_26 am925_29 am926_32 am927_35 am928_38 am929_41 am9210_44 am9211_47 am9212_50 am9213_53 am9214_56) f0_root f0_wayEnd f0_waiting a1 a2 a3 a4 a5 a6 a7 a8 a9 a10 a11 a12 a13 a14 x2 fx5)))) f0_root f0_wayEnd f0_waiting a1 a2 a3 a4 a5 a6 a7 a8 a9 a10 a11 a12 a13 a14 x2
noncomputable def ef_lengthenWay_43 (K : ef_F17) (n : Nat) : ef_F18 :=
  Nat.rec (motive := fun _ => ef_F18) (fun _ _ _ _ _ _ _ _ _ _ _ _ _ _ _ _ _ _ => false) (fun _ ih => ef_lengthenWay_43_b K ih) n
noncomputable def ef_lengthenWay (K : ef_F17) (f0_root f0_wayEnd f0_waiting a1 a2 a3 a4 a5 a6 a7 a8 a9 a10 a11 a12 a13 a14 : Nat) : Bool :=
  eb_in (eb_sb f0_wayEnd 1) 8 (
  eb_fc (eb_gt a12 (eb_sb f0_wayEnd 1)) (fun x1_2 =>
  ef_isLeaf (fun r_3 =>
   eb_if (eb_eq r_3 0)
    (eb_in (eb_ad (eb_ml 6 x1_2) (eb_gt a13 (eb_sb f0_wayEnd 1))) 660 (
    eb_fc (eb_gt a4 (eb_ad (eb_ml 6 x1_2) (eb_gt a13 (eb_sb f0_wayEnd 1)))) (fun x2_7 =>
    ef_lengthenWay_43 K 120 x2_7 f0_root f0_wayEnd f0_waiting a1 a2 a3 a4 a5 a6 a7 a8 a9 a10 a11 a12 a13 a14)))
    (K f0_root f0_wayEnd f0_waiting a1 a2 a3 a4 a5 a6 a7 a8 a9 a10 a11 a12 a13 a14)) f0_root f0_wayEnd f0_waiting a1 a2 a3 a4 a5 a6 a7 a8 a9 a10 a11 a12 a13 a14 x1_2))
noncomputable def ef_closePlace_13_b (K : ef_F17) (x1 f0_root f0_wayEnd f0_waiting : Nat) (ih : ef_F15) (x3 a1 a2 a3 a4 a5 a6 a7 a8 a9 a10 a11 a12 a13 a14 : Nat) : Bool :=
  eb_in x1 110 (
  eb_if (eb_le (eb_gt a1 x1) x3)
   (K f0_root f0_wayEnd f0_waiting a1 a2 a3 a4 a5 a6 a7 a8 a9 a10 a11 a12 a13 a14)
   (eb_in (eb_ad (eb_ad (eb_ml 5 x1) x3) 1) 550 (
   eb_in (eb_ad (eb_ml 5 x1) x3) 550 (
   eb_g (eb_ks16 (eb_gk a2 (eb_ad (eb_ad (eb_ml 5 x1) x3) 1))) (
   eb_fc (eb_sk a2 (eb_ad (eb_ml 5 x1) x3) (eb_gk a2 (eb_ad (eb_ad (eb_ml 5 x1) x3) 1))) (fun a2_8 =>
   eb_g (eb_s16 (eb_gt a3 (eb_ad (eb_ad (eb_ml 5 x1) x3) 1))) (
   eb_fc (eb_st a3 (eb_ad (eb_ml 5 x1) x3) (eb_gt a3 (eb_ad (eb_ad (eb_ml 5 x1) x3) 1))) (fun a3_11 =>
   eb_fc (eb_ad x3 1) (fun x3_12 =>
   ih x3_12 a1 a2_8 a3_11 a4 a5 a6 a7 a8 a9 a10 a11 a12 a13 a14)))))))))
noncomputable def ef_closePlace_13 (K : ef_F17) (x1 f0_root f0_wayEnd f0_waiting : Nat) (n : Nat) : ef_F15 :=
  Nat.rec (motive := fun _ => ef_F15) (fun _ _ _ _ _ _ _ _ _ _ _ _ _ _ _ => false) (fun _ ih => ef_closePlace_13_b K x1 f0_root f0_wayEnd f0_waiting ih) n
noncomputable def ef_closePlace (K : ef_F17) (f0_root f0_wayEnd f0_waiting a1 a2 a3 a4 a5 a6 a7 a8 a9 a10 a11 a12 a13 a14 p0 p1 : Nat) : Bool :=
  eb_in p0 110 (
  eb_g (eb_b8 (eb_sb (eb_gt a1 p0) 1)) (
  eb_fc (eb_st a1 p0 (eb_sb (eb_gt a1 p0) 1)) (fun a1_3 =>
  ef_closePlace_13 K p0 f0_root f0_wayEnd f0_waiting 120 p1 a1_3 a2 a3 a4 a5 a6 a7 a8 a9 a10 a11 a12 a13 a14)))
noncomputable def ef_takeFromRight_187 (K : ef_F17) (x4 f0_root f0_wayEnd f0_waiting am1261 am1262 am1263 am1264 am1265 am1266 am1267 am1268 am1269 am12610 am12611 am12612 am12613 am12614 : Nat) : Bool :=
  ef_closePlace (fun f0_root_111 f0_wayEnd_112 f0_waiting_113 am1911_116 am1912_119 am1913_122 am1914_125 am1915_128 am1916_131 am1917_134 am1918_137 am1919_140 am19110_143 am19111_146 am19112_149 am19113_152 am19114_155 =>
   K f0_root_111 f0_wayEnd_112 f0_waiting_113 am1911_116 am1912_119 am1913_122 am1914_125 am1915_128 am1916_131 am1917_134 am1918_137 am1919_140 am19110_143 am19111_146 am19112_149 am19113_152 am19114_155) f0_root f0_wayEnd f0_waiting am1261 am1262 am1263 am1264 am1265 am1266 am1267 am1268 am1269 am12610 am12611 am12612 am12613 am12614 x4 0
noncomputable def ef_takeFromRight_141_b (K : ef_F17) (x4 f0_root f0_wayEnd f0_waiting : Nat) (ih : ef_F15) (x6 am1261 am1262 am1263 am1264 am1265 am1266 am1267 am1268 am1269 am12610 am12611 am12612 am12613 am12614 : Nat) : Bool :=
  eb_in x4 110 (
  eb_if (eb_le (eb_gt am1261 x4) x6)
   (ef_takeFromRight_187 K x4 f0_root f0_wayEnd f0_waiting am1261 am1262 am1263 am1264 am1265 am1266 am1267 am1268 am1269 am12610 am12611 am12612 am12613 am12614)
   (eb_in (eb_ad (eb_ad (eb_ml 6 x4) x6) 1) 660 (
   eb_in (eb_ad (eb_ml 6 x4) x6) 660 (
   eb_g (eb_b8 (eb_gt am1264 (eb_ad (eb_ad (eb_ml 6 x4) x6) 1))) (
   eb_fc (eb_st am1264 (eb_ad (eb_ml 6 x4) x6) (eb_gt am1264 (eb_ad (eb_ad (eb_ml 6 x4) x6) 1))) (fun am1264_160 =>
   eb_fc (eb_ad x6 1) (fun x6_161 =>
   ih x6_161 am1261 am1262 am1263 am1264_160 am1265 am1266 am1267 am1268 am1269 am12610 am12611 am12612 am12613 am12614)))))))
noncomputable def ef_takeFromRight_141 (K : ef_F17) (x4 f0_root f0_wayEnd f0_waiting : Nat) (n : Nat) : ef_F15 :=
  Nat.rec (motive := fun _ => ef_F15) (fun _ _ _ _ _ _ _ _ _ _ _ _ _ _ _ => false) (fun _ ih => ef_takeFromRight_141_b K x4 f0_root f0_wayEnd f0_waiting ih) n
noncomputable def ef_takeFromRight_94 (K : ef_F17) (x1 x2 x3 x4 f0_root f0_wayEnd f0_waiting am591 am592 am593 am594 am595 am596 am597 am598 am599 am5910 am5911 am5912 am5913 am5914 : Nat) : Bool :=
  eb_in x3 110 (
  eb_g (eb_b8 (eb_ad (eb_gt am591 x3) 1)) (
  eb_fc (eb_st am591 x3 (eb_ad (eb_gt am591 x3) 1)) (fun am591_59 =>
  eb_in (eb_ml 5 x4) 550 (
  eb_fc (eb_gk am592 (eb_ml 5 x4)) (fun fx4 =>
  eb_fc (eb_gt am593 (eb_ml 5 x4)) (fun fx5 =>
  ef_putAt (fun f0_root_63 f0_wayEnd_64 f0_waiting_65 am1261_68 am1262_71 am1263_74 am1264_77 am1265_80 am1266_83 am1267_86 am1268_89 am1269_92 am12610_95 am12611_98 am12612_101 am12613_104 am12614_107 =>
   ef_isLeaf (fun r_108 =>
    eb_if (eb_eq r_108 0)
     (ef_takeFromRight_141 K x4 f0_root_63 f0_wayEnd_64 f0_waiting_65 120 0 am1261_68 am1262_71 am1263_74 am1264_77 am1265_80 am1266_83 am1267_86 am1268_89 am1269_92 am12610_95 am12611_98 am12612_101 am12613_104 am12614_107)
     (ef_takeFromRight_187 K x4 f0_root_63 f0_wayEnd_64 f0_waiting_65 am1261_68 am1262_71 am1263_74 am1264_77 am1265_80 am1266_83 am1267_86 am1268_89 am1269_92 am12610_95 am12611_98 am12612_101 am12613_104 am12614_107)) f0_root_63 f0_wayEnd_64 f0_waiting_65 am1261_68 am1262_71 am1263_74 am1264_77 am1265_80 am1266_83 am1267_86 am1268_89 am1269_92 am12610_95 am12611_98 am12612_101 am12613_104 am12614_107 x4) f0_root f0_wayEnd f0_waiting am591_59 am592 am593 am594 am595 am596 am597 am598 am599 am5910 am5911 am5912 am5913 am5914 x1 x2 fx4 fx5))))))
noncomputable def ef_takeFromRight (K : ef_F17) (f0_root f0_wayEnd f0_waiting a1 a2 a3 a4 a5 a6 a7 a8 a9 a10 a11 a12 a13 a14 p0 p1 : Nat) : Bool :=
  eb_in (eb_ad (eb_ml 6 p0) p1) 660 (
  eb_fc (eb_gt a4 (eb_ad (eb_ml 6 p0) p1)) (fun x3_2 =>
  eb_in (eb_ad (eb_ad (eb_ml 6 p0) p1) 1) 660 (
  eb_fc (eb_gt a4 (eb_ad (eb_ad (eb_ml 6 p0) p1) 1)) (fun x4_4 =>
  eb_in x3_2 110 (
  eb_fc (eb_gt a1 x3_2) (fun x5_6 =>
  eb_in (eb_ad (eb_ml 5 p0) p1) 550 (
  eb_fc (eb_gk a2 (eb_ad (eb_ml 5 p0) p1)) (fun fx5 =>
  eb_fc (eb_gt a3 (eb_ad (eb_ml 5 p0) p1)) (fun fx6 =>
  ef_putAt (fun f0_root_10 f0_wayEnd_11 f0_waiting_12 am591_15 am592_18 am593_21 am594_24 am595_27 am596_30 am597_33 am598_36 am599_39 am5910_42 am5911_45 am5912_48 am5913_51 am5914_54 =>
   ef_isLeaf (fun r_55 =>
    eb_if (eb_eq r_55 0)
     (eb_in (eb_ml 6 x4_4) 660 (
     eb_in (eb_ad (eb_ad (eb_ml 6 x3_2) x5_6) 1) 660 (
     eb_g (eb_b8 (eb_gt am594_24 (eb_ml 6 x4_4))) (
     eb_fc (eb_st am594_24 (eb_ad (eb_ad (eb_ml 6 x3_2) x5_6) 1) (eb_gt am594_24 (eb_ml 6 x4_4))) (fun am594_164 =>
     ef_takeFromRight_94 K p0 p1 x3_2 x4_4 f0_root_10 f0_wayEnd_11 f0_waiting_12 am591_15 am592_18 am593_21 am594_164 am595_27 am596_30 am597_33 am598_36 am599_39 am5910_42 am5911_45 am5912_48 am5913_51 am5914_54)))))
     (ef_takeFromRight_94 K p0 p1 x3_2 x4_4 f0_root_10 f0_wayEnd_11 f0_waiting_12 am591_15 am592_18 am593_21 am594_24 am595_27 am596_30 am597_33 am598_36 am599_39 am5910_42 am5911_45 am5912_48 am5913_51 am5914_54)) f0_root_10 f0_wayEnd_11 f0_waiting_12 am591_15 am592_18 am593_21 am594_24 am595_27 am596_30 am597_33 am598_36 am599_39 am5910_42 am5911_45 am5912_48 am5913_51 am5914_54 x3_2) f0_root f0_wayEnd f0_waiting a1 a2 a3 a4 a5 a6 a7 a8 a9 a10 a11 a12 a13 a14 x3_2 x5_6 fx5 fx6)))))))))
noncomputable def ef_takeFromLeft_113 (K : ef_F17) (x1 x2 x3 x4 x5 f0_root f0_wayEnd f0_waiting a1 a2 a3 a4 a5 a6 a7 a8 a9 a10 a11 a12 a13 a14 : Nat) : Bool :=
  ef_openPlace (fun f0_root_10 f0_wayEnd_11 f0_waiting_12 am1161_15 am1162_18 am1163_21 am1164_24 am1165_27 am1166_30 am1167_33 am1168_36 am1169_39 am11610_42 am11611_45 am11612_48 am11613_51 am11614_54 =>
   eb_in (eb_sb (eb_ad (eb_ml 5 x1) x2) 1) 550 (
   eb_fc (eb_gk am1162_18 (eb_sb (eb_ad (eb_ml 5 x1) x2) 1)) (fun fx2 =>
   eb_fc (eb_gt am1163_21 (eb_sb (eb_ad (eb_ml 5 x1) x2) 1)) (fun fx3 =>
   ef_putAt (fun f0_root_58 f0_wayEnd_59 f0_waiting_60 am1461_63 am1462_66 am1463_69 am1464_72 am1465_75 am1466_78 am1467_81 am1468_84 am1469_87 am14610_90 am14611_93 am14612_96 am14613_99 am14614_102 =>
    eb_in (eb_sb (eb_ad (eb_ml 5 x4) x5) 1) 550 (
    eb_fc (eb_sb x2 1) (fun fx5 =>
    eb_fc (eb_gk am1462_66 (eb_sb (eb_ad (eb_ml 5 x4) x5) 1)) (fun fx6 =>
    eb_fc (eb_gt am1463_69 (eb_sb (eb_ad (eb_ml 5 x4) x5) 1)) (fun fx7 =>
    ef_putAt (fun f0_root_106 f0_wayEnd_107 f0_waiting_108 am1821_111 am1822_114 am1823_117 am1824_120 am1825_123 am1826_126 am1827_129 am1828_132 am1829_135 am18210_138 am18211_141 am18212_144 am18213_147 am18214_150 =>
     eb_in x4 110 (
     eb_g (eb_b8 (eb_sb (eb_gt am1821_111 x4) 1)) (
     eb_fc (eb_st am1821_111 x4 (eb_sb (eb_gt am1821_111 x4) 1)) (fun am1821_153 =>
     K f0_root_106 f0_wayEnd_107 f0_waiting_108 am1821_153 am1822_114 am1823_117 am1824_120 am1825_123 am1826_126 am1827_129 am1828_132 am1829_135 am18210_138 am18211_141 am18212_144 am18213_147 am18214_150)))) f0_root_58 f0_wayEnd_59 f0_waiting_60 am1461_63 am1462_66 am1463_69 am1464_72 am1465_75 am1466_78 am1467_81 am1468_84 am1469_87 am14610_90 am14611_93 am14612_96 am14613_99 am14614_102 x1 fx5 fx6 fx7))))) f0_root_10 f0_wayEnd_11 f0_waiting_12 am1161_15 am1162_18 am1163_21 am1164_24 am1165_27 am1166_30 am1167_33 am1168_36 am1169_39 am11610_42 am11611_45 am11612_48 am11613_51 am11614_54 x3 0 fx2 fx3)))) f0_root f0_wayEnd f0_waiting a1 a2 a3 a4 a5 a6 a7 a8 a9 a10 a11 a12 a13 a14 x3 0
noncomputable def ef_takeFromLeft_54_b (K : ef_F17) (x1 x2 x3 x4 x5 f0_root f0_wayEnd f0_waiting : Nat) (ih : ef_F15) (x6 a1 a2 a3 a4 a5 a6 a7 a8 a9 a10 a11 a12 a13 a14 : Nat) : Bool :=
  eb_if (eb_le x6 0)
   (eb_in (eb_ad (eb_ml 6 x4) x5) 660 (
   eb_in (eb_ml 6 x3) 660 (
   eb_g (eb_b8 (eb_gt a4 (eb_ad (eb_ml 6 x4) x5))) (
   eb_fc (eb_st a4 (eb_ml 6 x3) (eb_gt a4 (eb_ad (eb_ml 6 x4) x5))) (fun a4_159 =>
   ef_takeFromLeft_113 K x1 x2 x3 x4 x5 f0_root f0_wayEnd f0_waiting a1 a2 a3 a4_159 a5 a6 a7 a8 a9 a10 a11 a12 a13 a14)))))
   (eb_in (eb_sb (eb_ad (eb_ml 6 x3) x6) 1) 660 (
   eb_in (eb_ad (eb_ml 6 x3) x6) 660 (
   eb_g (eb_b8 (eb_gt a4 (eb_sb (eb_ad (eb_ml 6 x3) x6) 1))) (
   eb_fc (eb_st a4 (eb_ad (eb_ml 6 x3) x6) (eb_gt a4 (eb_sb (eb_ad (eb_ml 6 x3) x6) 1))) (fun a4_162 =>
   eb_fc (eb_ad x6 4294967295) (fun x6_163 =>
   ih x6_163 a1 a2 a3 a4_162 a5 a6 a7 a8 a9 a10 a11 a12 a13 a14))))))
noncomputable def ef_takeFromLeft_54 (K : ef_F17) (x1 x2 x3 x4 x5 f0_root f0_wayEnd f0_waiting : Nat) (n : Nat) : ef_F15 :=
  Nat.rec (motive := fun _ => ef_F15) (fun _ _ _ _ _ _ _ _ _ _ _ _ _ _ _ => false) (fun _ ih => ef_takeFromLeft_54_b K x1 x2 x3 x4 x5 f0_root f0_wayEnd f0_waiting ih) n
noncomputable def ef_takeFromLeft (K : ef_F17) (f0_root f0_wayEnd f0_waiting a1 a2 a3 a4 a5 a6 a7 a8 a9 a10 a11 a12 a13 a14 p0 p1 : Nat) : Bool :=
  eb_in (eb_ad (eb_ml 6 p0) p1) 660 (
  eb_fc (eb_gt a4 (eb_ad (eb_ml 6 p0) p1)) (fun x3_2 =>
  eb_in (eb_sb (eb_ad (eb_ml 6 p0) p1) 1) 660 (
  eb_fc (eb_gt a4 (eb_sb (eb_ad (eb_ml 6 p0) p1) 1)) (fun x4_4 =>
  eb_in x4_4 110 (
  eb_fc (eb_gt a1 x4_4) (fun x5_6 =>
  ef_isLeaf (fun r_7 =>
   eb_if (eb_eq r_7 0)
    (eb_in x3_2 110 (
    eb_fc (eb_ad (eb_gt a1 x3_2) 1) (fun x6_155 =>
    ef_takeFromLeft_54 K p0 p1 x3_2 x4_4 x5_6 f0_root f0_wayEnd f0_waiting 120 x6_155 a1 a2 a3 a4 a5 a6 a7 a8 a9 a10 a11 a12 a13 a14)))
    (ef_takeFromLeft_113 K p0 p1 x3_2 x4_4 x5_6 f0_root f0_wayEnd f0_waiting a1 a2 a3 a4 a5 a6 a7 a8 a9 a10 a11 a12 a13 a14)) f0_root f0_wayEnd f0_waiting a1 a2 a3 a4 a5 a6 a7 a8 a9 a10 a11 a12 a13 a14 x3_2))))))
noncomputable def ef_melt_208_b (K : ef_F17) (x1 x4 f0_root f0_wayEnd f0_waiting : Nat) (ih : ef_F15) (x6 am2001 am2002 am2003 am2004 am2005 am2006 am2007 am2008 am2009 am20010 am20011 am20012 am20013 am20014 : Nat) : Bool :=
  eb_in x1 110 (
  eb_if (eb_lt (eb_gt am2001 x1) x6)
   (eb_in x4 110 (
   eb_fc (eb_st am2005 x4 0) (fun am2005_112 =>
   K f0_root f0_wayEnd f0_waiting am2001 am2002 am2003 am2004 am2005_112 am2006 am2007 am2008 am2009 am20010 am20011 am20012 am20013 am20014)))
   (eb_in (eb_ad (eb_ad (eb_ml 6 x1) x6) 1) 660 (
   eb_in (eb_ad (eb_ml 6 x1) x6) 660 (
   eb_g (eb_b8 (eb_gt am2004 (eb_ad (eb_ad (eb_ml 6 x1) x6) 1))) (
   eb_fc (eb_st am2004 (eb_ad (eb_ml 6 x1) x6) (eb_gt am2004 (eb_ad (eb_ad (eb_ml 6 x1) x6) 1))) (fun am2004_115 =>
   eb_fc (eb_ad x6 1) (fun x6_116 =>
   ih x6_116 am2001 am2002 am2003 am2004_115 am2005 am2006 am2007 am2008 am2009 am20010 am20011 am20012 am20013 am20014)))))))
noncomputable def ef_melt_208 (K : ef_F17) (x1 x4 f0_root f0_wayEnd f0_waiting : Nat) (n : Nat) : ef_F15 :=
  Nat.rec (motive := fun _ => ef_F15) (fun _ _ _ _ _ _ _ _ _ _ _ _ _ _ _ => false) (fun _ ih => ef_melt_208_b K x1 x4 f0_root f0_wayEnd f0_waiting ih) n
noncomputable def ef_melt_178 (K : ef_F17) (x1 x2 x3 x4 x5 f0_root f0_wayEnd f0_waiting am591 am592 am593 am594 am595 am596 am597 am598 am599 am5910 am5911 am5912 am5913 am5914 : Nat) : Bool :=
  eb_in x4 110 (
  eb_in x3 110 (
  eb_g (eb_b8 (eb_ad (eb_ad x5 1) (eb_gt am591 x4))) (
  eb_fc (eb_st am591 x3 (eb_ad (eb_ad x5 1) (eb_gt am591 x4))) (fun am591_61 =>
  ef_closePlace (fun f0_root_63 f0_wayEnd_64 f0_waiting_65 am2001_68 am2002_71 am2003_74 am2004_77 am2005_80 am2006_83 am2007_86 am2008_89 am2009_92 am20010_95 am20011_98 am20012_101 am20013_104 am20014_107 =>
   eb_fc (eb_ad x2 1) (fun x6_108 =>
   ef_melt_208 K x1 x4 f0_root_63 f0_wayEnd_64 f0_waiting_65 120 x6_108 am2001_68 am2002_71 am2003_74 am2004_77 am2005_80 am2006_83 am2007_86 am2008_89 am2009_92 am20010_95 am20011_98 am20012_101 am20013_104 am20014_107)) f0_root f0_wayEnd f0_waiting am591_61 am592 am593 am594 am595 am596 am597 am598 am599 am5910 am5911 am5912 am5913 am5914 x1 x2))))
noncomputable def ef_melt_130_b (K : ef_F17) (x1 x2 x3 x4 x5 f0_root f0_wayEnd f0_waiting : Nat) (ih : ef_F15) (x6 am591 am592 am593 am594 am595 am596 am597 am598 am599 am5910 am5911 am5912 am5913 am5914 : Nat) : Bool :=
  eb_in x4 110 (
  eb_if (eb_lt (eb_gt am591 x4) x6)
   (ef_melt_178 K x1 x2 x3 x4 x5 f0_root f0_wayEnd f0_waiting am591 am592 am593 am594 am595 am596 am597 am598 am599 am5910 am5911 am5912 am5913 am5914)
   (eb_in (eb_ad (eb_ml 6 x4) x6) 660 (
   eb_in (eb_ad (eb_ad (eb_ad (eb_ml 6 x3) x5) 1) x6) 660 (
   eb_g (eb_b8 (eb_gt am594 (eb_ad (eb_ml 6 x4) x6))) (
   eb_fc (eb_st am594 (eb_ad (eb_ad (eb_ad (eb_ml 6 x3) x5) 1) x6) (eb_gt am594 (eb_ad (eb_ml 6 x4) x6))) (fun am594_121 =>
   eb_fc (eb_ad x6 1) (fun x6_122 =>
   ih x6_122 am591 am592 am593 am594_121 am595 am596 am597 am598 am599 am5910 am5911 am5912 am5913 am5914)))))))
noncomputable def ef_melt_130 (K : ef_F17) (x1 x2 x3 x4 x5 f0_root f0_wayEnd f0_waiting : Nat) (n : Nat) : ef_F15 :=
  Nat.rec (motive := fun _ => ef_F15) (fun _ _ _ _ _ _ _ _ _ _ _ _ _ _ _ => false) (fun _ ih => ef_melt_130_b K x1 x2 x3 x4 x5 f0_root f0_wayEnd f0_waiting ih) n
noncomputable def ef_melt_65_b (K : ef_F17) (x1 x2 x3 x4 x5 : Nat) (ih : ef_F18) (x6 f0_root f0_wayEnd f0_waiting am591 am592 am593 am594 am595 am596 am597 am598 am599 am5910 am5911 am5912 am5913 am5914 : Nat) : Bool :=
  eb_in x4 110 (
  eb_if (eb_le (eb_gt am591 x4) x6)
   (ef_isLeaf (fun r_57 =>
    eb_if (eb_eq r_57 0)
     (ef_melt_130 K x1 x2 x3 x4 x5 f0_root f0_wayEnd f0_waiting 120 0 am591 am592 am593 am594 am595 am596 am597 am598 am599 am5910 am5911 am5912 am5913 am5914)
     (ef_melt_178 K x1 x2 x3 x4 x5 f0_root f0_wayEnd f0_waiting am591 am592 am593 am594 am595 am596 am597 am598 am599 am5910 am5911 am5912 am5913 am5914)) f0_root f0_wayEnd f0_waiting am591 am592 am593 am594 am595 am596 am597 am598 am599 am5910 am5911 am5912 am5913 am5914 x3)
   (eb_in (eb_ad (eb_ml 5 x4) x6) 550 (
   eb_fc (eb_ad (eb_ad x5 1) x6) (fun fx3 =>
   eb_fc (eb_gk am592 (eb_ad (eb_ml 5 x4) x6)) (fun fx4 =>
   eb_fc (eb_gt am593 (eb_ad (eb_ml 5 x4) x6)) (fun fx5 =>
   ef_putAt (fun f0_root_126 f0_wayEnd_127 f0_waiting_128 am1101_131 am1102_134 am1103_137 am1104_140 am1105_143 am1106_146 am1107_149 am1108_152 am1109_155 am11010_158 am11011_161 am11012_164 am11013_167 am11014_170 =>
    eb_fc (eb_ad x6 1) (fun x6_171 =>
    ih x6_171 f0_root_126 f0_wayEnd_127 f0_waiting_128 am1101_131 am1102_134 am1103_137 am1104_140 am1105_143 am1106_146 am1107_149 am1108_152 am1109_155 am11010_158 am11011_161 am11012_164 am11013_167 am11014_170)) f0_root f0_wayEnd f0_waiting am591 am592 am593 am594 am595 am596 am597 am598 am599 am5910 am5911 am5912 am5913 am5914 x3 fx3 fx4 fx5))))))
noncomputable def ef_melt_65 (K : ef_F17) (x1 x2 x3 x4 x5 : Nat) (n : Nat) : ef_F18 :=
  Nat.rec (motive := fun _ => ef_F18) (fun _ _ _ _ _ _ _ _ _ _ _ _ _ _ _ _ _ _ => false) (fun _ ih => ef_melt_65_b K x1 x2 x3 x4 x5 ih) n
noncomputable def ef_melt (K : ef_F17) (f0_root f0_wayEnd f0_waiting a1 a2 a3 a4 a5 a6 a7 a8 a9 a10 a11 a12 a13 a14 p0 p1 : Nat) : Bool :=
  eb_in (eb_ad (eb_ml 6 p0) p1) 660 (
  eb_fc (eb_gt a4 (eb_ad (eb_ml 6 p0) p1)) (fun x3_2 =>
  eb_in (eb_ad (eb_ad (eb_ml 6 p0) p1) 1) 660 (
  eb_fc (eb_gt a4 (eb_ad (eb_ad (eb_ml 6 p0) p1) 1)) (fun x4_4 =>
  eb_in x3_2 110 (
  eb_fc (eb_gt a1 x3_2) (fun x5_6 =>
  eb_in (eb_ad (eb_ml 5 p0) p1) 550 (
  eb_fc (eb_gk a2 (eb_ad (eb_ml 5 p0) p1)) (fun fx5 =>
  eb_fc (eb_gt a3 (eb_ad (eb_ml 5 p0) p1)) (fun fx6 =>
  ef_putAt (fun f0_root_10 f0_wayEnd_11 f0_waiting_12 am591_15 am592_18 am593_21 am594_24 am595_27 am596_30 am597_33 am598_36 am599_39 am5910_42 am5911_45 am5912_48 am5913_51 am5914_54 =>
   ef_melt_65 K p0 p1 x3_2 x4_4 x5_6 120 0 f0_root_10 f0_wayEnd_11 f0_waiting_12 am591_15 am592_18 am593_21 am594_24 am595_27 am596_30 am597_33 am598_36 am599_39 am5910_42 am5911_45 am5912_48 am5913_51 am5914_54) f0_root f0_wayEnd f0_waiting a1 a2 a3 a4 a5 a6 a7 a8 a9 a10 a11 a12 a13 a14 x3_2 x5_6 fx5 fx6)))))))))
noncomputable def ef_refill_165 (K : ef_F17) (z0 z1 f0_root f0_wayEnd f0_waiting am1201 am1202 am1203 am1204 am1205 am1206 am1207 am1208 am1209 am12010 am12011 am12012 am12013 am12014 : Nat) : Bool :=
  ef_melt (fun f0_root_154 f0_wayEnd_155 f0_waiting_156 am1651_159 am1652_162 am1653_165 am1654_168 am1655_171 am1656_174 am1657_177 am1658_180 am1659_183 am16510_186 am16511_189 am16512_192 am16513_195 am16514_198 =>
   K f0_root_154 f0_wayEnd_155 f0_waiting_156 am1651_159 am1652_162 am1653_165 am1654_168 am1655_171 am1656_174 am1657_177 am1658_180 am1659_183 am16510_186 am16511_189 am16512_192 am16513_195 am16514_198) f0_root f0_wayEnd f0_waiting am1201 am1202 am1203 am1204 am1205 am1206 am1207 am1208 am1209 am12010 am12011 am12012 am12013 am12014 z1 z0
noncomputable def ef_refill_105 (K : ef_F17) (x2 x3 x4 z0 f0_root f0_wayEnd f0_waiting a1 a2 a3 a4 a5 a6 a7 a8 a9 a10 a11 a12 a13 a14 : Nat) : Bool :=
  eb_in (eb_ad (eb_ml 6 x2) z0) 660 (
  eb_fc (eb_gt a4 (eb_ad (eb_ml 6 x2) z0)) (fun fx2 =>
  ef_freshCopy (fun r_9 f0_root_10 f0_wayEnd_11 f0_waiting_12 am1201_15 am1202_18 am1203_21 am1204_24 am1205_27 am1206_30 am1207_33 am1208_36 am1209_39 am12010_42 am12011_45 am12012_48 am12013_51 am12014_54 =>
   eb_g (eb_b8 r_9) (
   eb_fc (eb_st am1204_24 (eb_ad (eb_ml 6 x2) z0) r_9) (fun am1204_56 =>
   eb_in r_9 110 (
   eb_if (eb_lt 2 (eb_gt am1201_15 r_9))
    (eb_if (eb_eq x4 0)
     (ef_takeFromRight (fun f0_root_61 f0_wayEnd_62 f0_waiting_63 am1881_66 am1882_69 am1883_72 am1884_75 am1885_78 am1886_81 am1887_84 am1888_87 am1889_90 am18810_93 am18811_96 am18812_99 am18813_102 am18814_105 =>
      K f0_root_61 f0_wayEnd_62 f0_waiting_63 am1881_66 am1882_69 am1883_72 am1884_75 am1885_78 am1886_81 am1887_84 am1888_87 am1889_90 am18810_93 am18811_96 am18812_99 am18813_102 am18814_105) f0_root_10 f0_wayEnd_11 f0_waiting_12 am1201_15 am1202_18 am1203_21 am1204_56 am1205_27 am1206_30 am1207_33 am1208_36 am1209_39 am12010_42 am12011_45 am12012_48 am12013_51 am12014_54 x2 x3)
     (ef_takeFromLeft (fun f0_root_107 f0_wayEnd_108 f0_waiting_109 am1791_112 am1792_115 am1793_118 am1794_121 am1795_124 am1796_127 am1797_130 am1798_133 am1799_136 am17910_139 am17911_142 am17912_145 am17913_148 am17914_151 =>
      K f0_root_107 f0_wayEnd_108 f0_waiting_109 am1791_112 am1792_115 am1793_118 am1794_121 am1795_124 am1796_127 am1797_130 am1798_133 am1799_136 am17910_139 am17911_142 am17912_145 am17913_148 am17914_151) f0_root_10 f0_wayEnd_11 f0_waiting_12 am1201_15 am1202_18 am1203_21 am1204_56 am1205_27 am1206_30 am1207_33 am1208_36 am1209_39 am12010_42 am12011_45 am12012_48 am12013_51 am12014_54 x2 x3))
    (eb_if (eb_eq x4 0)
     (ef_refill_165 K x3 x2 f0_root_10 f0_wayEnd_11 f0_waiting_12 am1201_15 am1202_18 am1203_21 am1204_56 am1205_27 am1206_30 am1207_33 am1208_36 am1209_39 am12010_42 am12011_45 am12012_48 am12013_51 am12014_54)
     (eb_fc (eb_sb x3 1) (fun fx5 =>
     ef_refill_165 K fx5 x2 f0_root_10 f0_wayEnd_11 f0_waiting_12 am1201_15 am1202_18 am1203_21 am1204_56 am1205_27 am1206_30 am1207_33 am1208_36 am1209_39 am12010_42 am12011_45 am12012_48 am12013_51 am12014_54))))))) f0_root f0_wayEnd f0_waiting a1 a2 a3 a4 a5 a6 a7 a8 a9 a10 a11 a12 a13 a14 fx2))
noncomputable def ef_refill_91 (K : ef_F17) (x2 x3 x4 f0_root f0_wayEnd f0_waiting a1 a2 a3 a4 a5 a6 a7 a8 a9 a10 a11 a12 a13 a14 : Nat) : Bool :=
  eb_if (eb_eq x4 0)
   (eb_fc (eb_ad x3 1) (fun fx1 =>
   ef_refill_105 K x2 x3 x4 fx1 f0_root f0_wayEnd f0_waiting a1 a2 a3 a4 a5 a6 a7 a8 a9 a10 a11 a12 a13 a14))
   (eb_fc (eb_sb x3 1) (fun fx2 =>
   ef_refill_105 K x2 x3 x4 fx2 f0_root f0_wayEnd f0_waiting a1 a2 a3 a4 a5 a6 a7 a8 a9 a10 a11 a12 a13 a14))
noncomputable def ef_refill_27 (K : ef_F17) (x2 x3 z0 f0_root f0_wayEnd f0_waiting a1 a2 a3 a4 a5 a6 a7 a8 a9 a10 a11 a12 a13 a14 : Nat) : Bool :=
  eb_if (eb_eq z0 0)
   (ef_refill_91 K x2 x3 z0 f0_root f0_wayEnd f0_waiting a1 a2 a3 a4 a5 a6 a7 a8 a9 a10 a11 a12 a13 a14)
   (eb_in (eb_sb (eb_ad (eb_ml 6 x2) x3) 1) 660 (
   eb_in (eb_gt a4 (eb_sb (eb_ad (eb_ml 6 x2) x3) 1)) 110 (
   eb_if (eb_lt 2 (eb_gt a1 (eb_gt a4 (eb_sb (eb_ad (eb_ml 6 x2) x3) 1))))
    (ef_refill_91 K x2 x3 z0 f0_root f0_wayEnd f0_waiting a1 a2 a3 a4 a5 a6 a7 a8 a9 a10 a11 a12 a13 a14)
    (eb_in x2 110 (
    eb_if (eb_le (eb_gt a1 x2) x3)
     (ef_refill_91 K x2 x3 z0 f0_root f0_wayEnd f0_waiting a1 a2 a3 a4 a5 a6 a7 a8 a9 a10 a11 a12 a13 a14)
     (eb_in (eb_ad (eb_ad (eb_ml 6 x2) x3) 1) 660 (
     eb_in (eb_gt a4 (eb_ad (eb_ad (eb_ml 6 x2) x3) 1)) 110 (
     eb_if (eb_le (eb_gt a1 (eb_gt a4 (eb_ad (eb_ad (eb_ml 6 x2) x3) 1))) 2)
      (ef_refill_91 K x2 x3 z0 f0_root f0_wayEnd f0_waiting a1 a2 a3 a4 a5 a6 a7 a8 a9 a10 a11 a12 a13 a14)
      (ef_refill_91 K x2 x3 0 f0_root f0_wayEnd f0_waiting a1 a2 a3 a4 a5 a6 a7 a8 a9 a10 a11 a12 a13 a14)))))))))
noncomputable def ef_refill (K : ef_F17) (f0_root f0_wayEnd f0_waiting a1 a2 a3 a4 a5 a6 a7 a8 a9 a10 a11 a12 a13 a14 p0 : Nat) : Bool :=
  eb_in (eb_sb p0 1) 8 (
  eb_fc (eb_gt a12 (eb_sb p0 1)) (fun x2_2 =>
  eb_fc (eb_gt a13 (eb_sb p0 1)) (fun x3_4 =>
  eb_if (eb_le x3_4 0)
   (ef_refill_27 K x2_2 x3_4 0 f0_root f0_wayEnd f0_waiting a1 a2 a3 a4 a5 a6 a7 a8 a9 a10 a11 a12 a13 a14)
   (ef_refill_27 K x2_2 x3_4 1 f0_root f0_wayEnd f0_waiting a1 a2 a3 a4 a5 a6 a7 a8 a9 a10 a11 a12 a13 a14))))
noncomputable def ef_remove_179 (K : ef_F17) (f0_root f0_wayEnd f0_waiting am1351 am1352 am1353 am1354 am1355 am1356 am1357 am1358 am1359 am13510 am13511 am13512 am13513 am13514 : Nat) : Bool :=
  eb_in f0_root 110 (
  eb_if (eb_le (eb_gt am1351 f0_root) 0)
   (ef_isLeaf (fun r_194 =>
    eb_if (eb_eq r_194 0)
     (eb_in (eb_ml 6 f0_root) 660 (
     eb_fc (eb_gt am1354 (eb_ml 6 f0_root)) (fun f_197 =>
     eb_fc (eb_st am1355 f0_root 0) (fun am1355_199 =>
     K f_197 f0_wayEnd f0_waiting am1351 am1352 am1353 am1354 am1355_199 am1356 am1357 am1358 am1359 am13510 am13511 am13512 am13513 am13514))))
     (eb_fc (eb_st am1355 f0_root 0) (fun am1355_201 =>
     K 4294967295 f0_wayEnd f0_waiting am1351 am1352 am1353 am1354 am1355_201 am1356 am1357 am1358 am1359 am13510 am13511 am13512 am13513 am13514))) f0_root f0_wayEnd f0_waiting am1351 am1352 am1353 am1354 am1355 am1356 am1357 am1358 am1359 am13510 am13511 am13512 am13513 am13514 f0_root)
   (K f0_root f0_wayEnd f0_waiting am1351 am1352 am1353 am1354 am1355 am1356 am1357 am1358 am1359 am13510 am13511 am13512 am13513 am13514))
noncomputable def ef_remove_146_b (K : ef_F17) (ih : ef_F18) (x4 f0_root f0_wayEnd f0_waiting am1351 am1352 am1353 am1354 am1355 am1356 am1357 am1358 am1359 am13510 am13511 am13512 am13513 am13514 : Nat) : Bool :=
  eb_if (eb_le x4 0)
   (ef_remove_179 K f0_root f0_wayEnd f0_waiting am1351 am1352 am1353 am1354 am1355 am1356 am1357 am1358 am1359 am13510 am13511 am13512 am13513 am13514)
   (eb_in x4 8 (
   eb_in (eb_gt am13512 x4) 110 (
   eb_if (eb_le 2 (eb_gt am1351 (eb_gt am13512 x4)))
    (ef_remove_179 K f0_root f0_wayEnd f0_waiting am1351 am1352 am1353 am1354 am1355 am1356 am1357 am1358 am1359 am13510 am13511 am13512 am13513 am13514)
    (ef_refill (fun f0_root_206 f0_wayEnd_207 f0_waiting_208 am1701_211 am1702_214 am1703_217 am1704_220 am1705_223 am1706_226 am1707_229 am1708_232 am1709_235 am17010_238 am17011_241 am17012_244 am17013_247 am17014_250 =>
     eb_fc (eb_ad x4 4294967295) (fun x4_251 =>
     ih x4_251 f0_root_206 f0_wayEnd_207 f0_waiting_208 am1701_211 am1702_214 am1703_217 am1704_220 am1705_223 am1706_226 am1707_229 am1708_232 am1709_235 am17010_238 am17011_241 am17012_244 am17013_247 am17014_250)) f0_root f0_wayEnd f0_waiting am1351 am1352 am1353 am1354 am1355 am1356 am1357 am1358 am1359 am13510 am13511 am13512 am13513 am13514 x4))))
noncomputable def ef_remove_146 (K : ef_F17) (n : Nat) : ef_F18 :=
  Nat.rec (motive := fun _ => ef_F18) (fun _ _ _ _ _ _ _ _ _ _ _ _ _ _ _ _ _ _ => false) (fun _ ih => ef_remove_146_b K ih) n
noncomputable def ef_remove_41_b (K : ef_F17) (x1 x2 x3 : Nat) (ih : ef_F18) (x4 f0_root f0_wayEnd f0_waiting am111 am112 am113 am114 am115 am116 am117 am118 am119 am1110 am1111 am1112 am1113 am1114 : Nat) : Bool :=
  eb_if (eb_le (eb_sb f0_wayEnd 1) x4)
   (ef_closePlace (fun f0_root_145 f0_wayEnd_146 f0_waiting_147 am1351_150 am1352_153 am1353_156 am1354_159 am1355_162 am1356_165 am1357_168 am1358_171 am1359_174 am13510_177 am13511_180 am13512_183 am13513_186 am13514_189 =>
    eb_fc (eb_sb f0_wayEnd_146 1) (fun x4_190 =>
    ef_remove_146 K 120 x4_190 f0_root_145 f0_wayEnd_146 f0_waiting_147 am1351_150 am1352_153 am1353_156 am1354_159 am1355_162 am1356_165 am1357_168 am1358_171 am1359_174 am13510_177 am13511_180 am13512_183 am13513_186 am13514_189)) f0_root f0_wayEnd f0_waiting am111 am112 am113 am114 am115 am116 am117 am118 am119 am1110 am1111 am1112 am1113 am1114 x2 x3)
   (eb_in x4 8 (
   eb_fc (eb_gt am1112 x4) (fun x5_253 =>
   eb_fc (eb_gt am1113 x4) (fun x6_255 =>
   eb_in x5_253 110 (
   eb_if (eb_le (eb_gt am111 x5_253) x6_255)
    (eb_fc (eb_ad x4 1) (fun x4_258 =>
    ih x4_258 f0_root f0_wayEnd f0_waiting am111 am112 am113 am114 am115 am116 am117 am118 am119 am1110 am1111 am1112 am1113 am1114))
    (eb_in (eb_ad (eb_ml 5 x5_253) x6_255) 550 (
    eb_i3 (eb_keq (eb_gk am112 (eb_ad (eb_ml 5 x5_253) x6_255)) x1) (eb_kne (eb_gk am112 (eb_ad (eb_ml 5 x5_253) x6_255)) x1)
     (eb_in (eb_ad (eb_ml 5 x2) x3) 550 (
     eb_fc (eb_gk am112 (eb_ad (eb_ml 5 x2) x3)) (fun fx5 =>
     eb_fc (eb_gt am113 (eb_ad (eb_ml 5 x2) x3)) (fun fx6 =>
     ef_putAt (fun f0_root_265 f0_wayEnd_266 f0_waiting_267 am1231_270 am1232_273 am1233_276 am1234_279 am1235_282 am1236_285 am1237_288 am1238_291 am1239_294 am12310_297 am12311_300 am12312_303 am12313_306 am12314_309 =>
      eb_fc (eb_ad x4 1) (fun x4_310 =>
      ih x4_310 f0_root_265 f0_wayEnd_266 f0_waiting_267 am1231_270 am1232_273 am1233_276 am1234_279 am1235_282 am1236_285 am1237_288 am1238_291 am1239_294 am12310_297 am12311_300 am12312_303 am12313_306 am12314_309)) f0_root f0_wayEnd f0_waiting am111 am112 am113 am114 am115 am116 am117 am118 am119 am1110 am1111 am1112 am1113 am1114 x5_253 x6_255 fx5 fx6))))
     (eb_fc (eb_ad x4 1) (fun x4_261 =>
     ih x4_261 f0_root f0_wayEnd f0_waiting am111 am112 am113 am114 am115 am116 am117 am118 am119 am1110 am1111 am1112 am1113 am1114)))))))))
noncomputable def ef_remove_41 (K : ef_F17) (x1 x2 x3 : Nat) (n : Nat) : ef_F18 :=
  Nat.rec (motive := fun _ => ef_F18) (fun _ _ _ _ _ _ _ _ _ _ _ _ _ _ _ _ _ _ => false) (fun _ ih => ef_remove_41_b K x1 x2 x3 ih) n
noncomputable def ef_remove (K : ef_F17) (f0_root f0_wayEnd f0_waiting a1 a2 a3 a4 a5 a6 a7 a8 a9 a10 a11 a12 a13 a14 p0 : Nat) : Bool :=
  ef_find (fun r_1 f0_root_2 f0_wayEnd_3 f0_waiting_4 am21_7 am22_10 am23_13 am24_16 am25_19 am26_22 am27_25 am28_28 am29_31 am210_34 am211_37 am212_40 am213_43 am214_46 =>
   ef_lengthenWay (fun f0_root_48 f0_wayEnd_49 f0_waiting_50 am71_53 am72_56 am73_59 am74_62 am75_65 am76_68 am77_71 am78_74 am79_77 am710_80 am711_83 am712_86 am713_89 am714_92 =>
    ef_copyWay (fun f0_root_94 f0_wayEnd_95 f0_waiting_96 am111_99 am112_102 am113_105 am114_108 am115_111 am116_114 am117_117 am118_120 am119_123 am1110_126 am1111_129 am1112_132 am1113_135 am1114_138 =>
     eb_in (eb_sb f0_wayEnd_95 1) 8 (
     eb_fc (eb_gt am1112_132 (eb_sb f0_wayEnd_95 1)) (fun x2_140 =>
     eb_fc (eb_gt am1113_135 (eb_sb f0_wayEnd_95 1)) (fun x3_142 =>
     ef_remove_41 K p0 x2_140 x3_142 120 0 f0_root_94 f0_wayEnd_95 f0_waiting_96 am111_99 am112_102 am113_105 am114_108 am115_111 am116_114 am117_117 am118_120 am119_123 am1110_126 am1111_129 am1112_132 am1113_135 am1114_138)))) f0_root_48 f0_wayEnd_49 f0_waiting_50 am71_53 am72_56 am73_59 am74_62 am75_65 am76_68 am77_71 am78_74 am79_77 am710_80 am711_83 am712_86 am713_89 am714_92) f0_root_2 f0_wayEnd_3 f0_waiting_4 am21_7 am22_10 am23_13 am24_16 am25_19 am26_22 am27_25 am28_28 am29_31 am210_34 am211_37 am212_40 am213_43 am214_46) f0_root f0_wayEnd f0_waiting a1 a2 a3 a4 a5 a6 a7 a8 a9 a10 a11 a12 a13 a14 p0
noncomputable def ef_putIn_106 (K : ef_F17) (x6 x7 x8 f0_root f0_wayEnd f0_waiting a1 a2 a3 a4 a5 a6 a7 a8 a9 a10 a11 a12 a13 a14 : Nat) : Bool :=
  eb_fc (eb_ad (eb_ml 16 x8) x7) (fun fx1 =>
  ef_put (fun f0_root_5 f0_wayEnd_6 f0_waiting_7 am1171_10 am1172_13 am1173_16 am1174_19 am1175_22 am1176_25 am1177_28 am1178_31 am1179_34 am11710_37 am11711_40 am11712_43 am11713_46 am11714_49 =>
   K f0_root_5 f0_wayEnd_6 f0_waiting_7 am1171_10 am1172_13 am1173_16 am1174_19 am1175_22 am1176_25 am1177_28 am1178_31 am1179_34 am11710_37 am11711_40 am11712_43 am11713_46 am11714_49) f0_root f0_wayEnd f0_waiting a1 a2 a3 a4 a5 a6 a7 a8 a9 a10 a11 a12 a13 a14 x6 fx1)
noncomputable def ef_putIn_55 (K : ef_F17) (x1 x2 x3 x4 x6 x7 x8 f0_root f0_wayEnd f0_waiting a1 a2 a3 a4 a5 a6 a7 a8 a9 a10 a11 a12 a13 a14 : Nat) : Bool :=
  eb_if (eb_lt x4 0)
   (eb_fc (eb_ik x6) (fun fx1 =>
   ef_putIn_106 K fx1 x7 x8 f0_root f0_wayEnd f0_waiting a1 a2 a3 a4 a5 a6 a7 a8 a9 a10 a11 a12 a13 a14))
   (eb_if (eb_eq x4 (eb_sb x3 1))
    (eb_fc (eb_sb x2 1) (fun fx2 =>
    ef_stretchAt (fun r_51 =>
     ef_get (fun r_52 f0_root_53 f0_wayEnd_54 f0_waiting_55 am811_58 am812_61 am813_64 am814_67 am815_70 am816_73 am817_76 am818_79 am819_82 am8110_85 am8111_88 am8112_91 am8113_94 am8114_97 =>
      eb_fc (eb_ad x7 (eb_an r_52 15)) (fun x7_98 =>
      eb_g (eb_sm r_52) (
      eb_fc (eb_sr r_52 4) (fun x8_99 =>
      ef_putIn_106 K r_51 x7_98 x8_99 f0_root_53 f0_wayEnd_54 f0_waiting_55 am811_58 am812_61 am813_64 am814_67 am815_70 am816_73 am817_76 am818_79 am819_82 am8110_85 am8111_88 am8112_91 am8113_94 am8114_97)))) f0_root f0_wayEnd f0_waiting a1 a2 a3 a4 a5 a6 a7 a8 a9 a10 a11 a12 a13 a14 r_51) f0_root f0_wayEnd f0_waiting a1 a2 a3 a4 a5 a6 a7 a8 a9 a10 a11 a12 a13 a14 x1 fx2))
    (eb_fc (eb_ik x6) (fun fx4 =>
    ef_putIn_106 K fx4 x7 x8 f0_root f0_wayEnd f0_waiting a1 a2 a3 a4 a5 a6 a7 a8 a9 a10 a11 a12 a13 a14)))
noncomputable def ef_putIn (K : ef_F17) (f0_root f0_wayEnd f0_waiting a1 a2 a3 a4 a5 a6 a7 a8 a9 a10 a11 a12 a13 a14 p0 p1 p2 p3 p4 : Nat) : Bool :=
  eb_fc (eb_ad (eb_ad (eb_ml 256 p0) 128) p1) (fun x6_1 =>
  eb_if (eb_eq p4 (eb_ad p2 1))
   (eb_fc (eb_ik (eb_ad x6_1 1)) (fun fx1 =>
   ef_get (fun r_100 f0_root_101 f0_wayEnd_102 f0_waiting_103 am321_106 am322_109 am323_112 am324_115 am325_118 am326_121 am327_124 am328_127 am329_130 am3210_133 am3211_136 am3212_139 am3213_142 am3214_145 =>
    eb_fc (eb_ad 1 (eb_an r_100 15)) (fun x7_146 =>
    eb_fc (eb_ik (eb_ad x6_1 1)) (fun fx2 =>
    ef_remove (fun f0_root_148 f0_wayEnd_149 f0_waiting_150 am521_153 am522_156 am523_159 am524_162 am525_165 am526_168 am527_171 am528_174 am529_177 am5210_180 am5211_183 am5212_186 am5213_189 am5214_192 =>
     ef_putIn_55 K p0 p1 p2 p3 x6_1 x7_146 p2 f0_root_148 f0_wayEnd_149 f0_waiting_150 am521_153 am522_156 am523_159 am524_162 am525_165 am526_168 am527_171 am528_174 am529_177 am5210_180 am5211_183 am5212_186 am5213_189 am5214_192) f0_root_101 f0_wayEnd_102 f0_waiting_103 am321_106 am322_109 am323_112 am324_115 am325_118 am326_121 am327_124 am328_127 am329_130 am3210_133 am3211_136 am3212_139 am3213_142 am3214_145 fx2))) f0_root f0_wayEnd f0_waiting a1 a2 a3 a4 a5 a6 a7 a8 a9 a10 a11 a12 a13 a14 fx1))
   (ef_putIn_55 K p0 p1 p2 p3 x6_1 1 p2 f0_root f0_wayEnd f0_waiting a1 a2 a3 a4 a5 a6 a7 a8 a9 a10 a11 a12 a13 a14))
noncomputable def ef_leaveOut_73 (K : ef_F17) (x3 x5 x6 x7 f0_root f0_wayEnd f0_waiting am701 am702 am703 am704 am705 am706 am707 am708 am709 am7010 am7011 am7012 am7013 am7014 : Nat) : Bool :=
  eb_if (eb_le x7 0)
   (K f0_root f0_wayEnd f0_waiting am701 am702 am703 am704 am705 am706 am707 am708 am709 am7010 am7011 am7012 am7013 am7014)
   (eb_fc (eb_ka (eb_ka x3 x5) 1) (fun fx1 =>
   eb_fc (eb_ad (eb_ml 16 (eb_ad (eb_ad x6 x5) 1)) x7) (fun fx2 =>
   ef_put (fun f0_root_100 f0_wayEnd_101 f0_waiting_102 am981_105 am982_108 am983_111 am984_114 am985_117 am986_120 am987_123 am988_126 am989_129 am9810_132 am9811_135 am9812_138 am9813_141 am9814_144 =>
    K f0_root_100 f0_wayEnd_101 f0_waiting_102 am981_105 am982_108 am983_111 am984_114 am985_117 am986_120 am987_123 am988_126 am989_129 am9810_132 am9811_135 am9812_138 am9813_141 am9814_144) f0_root f0_wayEnd f0_waiting am701 am702 am703 am704 am705 am706 am707 am708 am709 am7010 am7011 am7012 am7013 am7014 fx1 fx2)))
noncomputable def ef_leaveOut (K : ef_F17) (f0_root f0_wayEnd f0_waiting a1 a2 a3 a4 a5 a6 a7 a8 a9 a10 a11 a12 a13 a14 p0 p1 : Nat) : Bool :=
  ef_stretchAt (fun r_1 =>
   ef_get (fun r_2 f0_root_3 f0_wayEnd_4 f0_waiting_5 am91_8 am92_11 am93_14 am94_17 am95_20 am96_23 am97_26 am98_29 am99_32 am910_35 am911_38 am912_41 am913_44 am914_47 =>
    eb_g (eb_k2i r_1) (
    eb_fc (eb_sb (eb_ad (eb_ad (eb_ml 256 p0) 128) p1) r_1) (fun x5_48 =>
    eb_g (eb_sm r_2) (
    eb_fc (eb_sr r_2 4) (fun x6_49 =>
    eb_fc (eb_sb (eb_sb (eb_an r_2 15) x5_48) 1) (fun x7_50 =>
    eb_if (eb_le x5_48 0)
     (ef_remove (fun f0_root_53 f0_wayEnd_54 f0_waiting_55 am701_58 am702_61 am703_64 am704_67 am705_70 am706_73 am707_76 am708_79 am709_82 am7010_85 am7011_88 am7012_91 am7013_94 am7014_97 =>
      ef_leaveOut_73 K r_1 x5_48 x6_49 x7_50 f0_root_53 f0_wayEnd_54 f0_waiting_55 am701_58 am702_61 am703_64 am704_67 am705_70 am706_73 am707_76 am708_79 am709_82 am7010_85 am7011_88 am7012_91 am7013_94 am7014_97) f0_root_3 f0_wayEnd_4 f0_waiting_5 am91_8 am92_11 am93_14 am94_17 am95_20 am96_23 am97_26 am98_29 am99_32 am910_35 am911_38 am912_41 am913_44 am914_47 r_1)
     (eb_fc (eb_ad (eb_ml 16 x6_49) x5_48) (fun fx3 =>
     ef_put (fun f0_root_146 f0_wayEnd_147 f0_waiting_148 am621_151 am622_154 am623_157 am624_160 am625_163 am626_166 am627_169 am628_172 am629_175 am6210_178 am6211_181 am6212_184 am6213_187 am6214_190 =>
      ef_leaveOut_73 K r_1 x5_48 x6_49 x7_50 f0_root_146 f0_wayEnd_147 f0_waiting_148 am621_151 am622_154 am623_157 am624_160 am625_163 am626_166 am627_169 am628_172 am629_175 am6210_178 am6211_181 am6212_184 am6213_187 am6214_190) f0_root_3 f0_wayEnd_4 f0_waiting_5 am91_8 am92_11 am93_14 am94_17 am95_20 am96_23 am97_26 am98_29 am99_32 am910_35 am911_38 am912_41 am913_44 am914_47 r_1 fx3)))))))) f0_root f0_wayEnd f0_waiting a1 a2 a3 a4 a5 a6 a7 a8 a9 a10 a11 a12 a13 a14 r_1) f0_root f0_wayEnd f0_waiting a1 a2 a3 a4 a5 a6 a7 a8 a9 a10 a11 a12 a13 a14 p0 p1
noncomputable def ef_moveBlock_135_b (K : ef_F18) (x1 x2 x3 x6 x7 x8 f0_root f0_wayEnd f0_waiting : Nat) (ih : ef_F15) (x9 a1 a2 a3 a4 a5 a6 a7 a8 a9 a10 a11 a12 a13 a14 : Nat) : Bool :=
  eb_if (eb_le 4 x9)
   (ef_putIn (fun f0_root_9 f0_wayEnd_10 f0_waiting_11 am1871_14 am1872_17 am1873_20 am1874_23 am1875_26 am1876_29 am1877_32 am1878_35 am1879_38 am18710_41 am18711_44 am18712_47 am18713_50 am18714_53 =>
    K x8 f0_root_9 f0_wayEnd_10 f0_waiting_11 am1871_14 am1872_17 am1873_20 am1874_23 am1875_26 am1876_29 am1877_32 am1878_35 am1879_38 am18710_41 am18711_44 am18712_47 am18713_50 am18714_53) f0_root f0_wayEnd f0_waiting a1 a2 a3 a4 a5 a6 a7 a8 a9 a10 a11 a12 a13 a14 x1 x2 x8 x6 x7)
   (eb_if (eb_lt x3 0)
    (eb_in (eb_ad (eb_ml 4 x8) x9) 192 (
    eb_fc (eb_sk a10 (eb_ad (eb_ml 4 x8) x9) (eb_ik 0)) (fun a10_56 =>
    eb_fc (eb_ad x9 1) (fun x9_57 =>
    ih x9_57 a1 a2 a3 a4 a5 a6 a7 a8 a9 a10_56 a11 a12 a13 a14))))
    (eb_in (eb_ad (eb_ml 4 x3) x9) 192 (
    eb_in (eb_ad (eb_ml 4 x8) x9) 192 (
    eb_fc (eb_sk a10 (eb_ad (eb_ml 4 x8) x9) (eb_gk a10 (eb_ad (eb_ml 4 x3) x9))) (fun a10_60 =>
    eb_fc (eb_ad x9 1) (fun x9_61 =>
    ih x9_61 a1 a2 a3 a4 a5 a6 a7 a8 a9 a10_60 a11 a12 a13 a14))))))
noncomputable def ef_moveBlock_135 (K : ef_F18) (x1 x2 x3 x6 x7 x8 f0_root f0_wayEnd f0_waiting : Nat) (n : Nat) : ef_F15 :=
  Nat.rec (motive := fun _ => ef_F15) (fun _ _ _ _ _ _ _ _ _ _ _ _ _ _ _ => false) (fun _ ih => ef_moveBlock_135_b K x1 x2 x3 x6 x7 x8 f0_root f0_wayEnd f0_waiting ih) n
noncomputable def ef_moveBlock_114_b (K : ef_F18) (x1 x2 x3 x4 x6 x7 f0_root f0_wayEnd f0_waiting a1 a2 a3 a4 a5 a6 a7 a8 a9 a10 a11 a12 a13 a14 : Nat) (ih : ef_F1) (x8 : Nat) : Bool :=
  eb_g (eb_l6 x8) (
  eb_if (eb_b0 (eb_bt x4 x8))
   (ef_moveBlock_135 K x1 x2 x3 x6 x7 x8 f0_root f0_wayEnd f0_waiting 120 0 a1 a2 a3 a4 a5 a6 a7 a8 a9 a10 a11 a12 a13 a14)
   (eb_fc (eb_ad x8 1) (fun x8_62 =>
   ih x8_62)))
noncomputable def ef_moveBlock_114 (K : ef_F18) (x1 x2 x3 x4 x6 x7 f0_root f0_wayEnd f0_waiting a1 a2 a3 a4 a5 a6 a7 a8 a9 a10 a11 a12 a13 a14 : Nat) (n : Nat) : ef_F1 :=
  Nat.rec (motive := fun _ => ef_F1) (fun _ => false) (fun _ ih => ef_moveBlock_114_b K x1 x2 x3 x4 x6 x7 f0_root f0_wayEnd f0_waiting a1 a2 a3 a4 a5 a6 a7 a8 a9 a10 a11 a12 a13 a14 ih) n
noncomputable def ef_moveBlock_86 (K : ef_F18) (x1 x2 x3 x4 x6 x7 x8 f0_root f0_wayEnd f0_waiting a1 a2 a3 a4 a5 a6 a7 a8 a9 a10 a11 a12 a13 a14 : Nat) : Bool :=
  eb_if (eb_le x7 0)
   (ef_moveBlock_114 K x1 x2 x3 x4 x6 x7 f0_root f0_wayEnd f0_waiting a1 a2 a3 a4 a5 a6 a7 a8 a9 a10 a11 a12 a13 a14 120 x8)
   (eb_g (eb_l6 (eb_sb x7 1)) (
   eb_if (eb_b0 (eb_bt x4 (eb_sb x7 1)))
    (eb_fc (eb_sb x7 1) (fun x8_64 =>
    ef_moveBlock_135 K x1 x2 x3 x6 x7 x8_64 f0_root f0_wayEnd f0_waiting 120 0 a1 a2 a3 a4 a5 a6 a7 a8 a9 a10 a11 a12 a13 a14))
    (ef_moveBlock_114 K x1 x2 x3 x4 x6 x7 f0_root f0_wayEnd f0_waiting a1 a2 a3 a4 a5 a6 a7 a8 a9 a10 a11 a12 a13 a14 120 x8)))
noncomputable def ef_moveBlock_46 (K : ef_F18) (x1 x2 x3 x4 x6 z0 f0_root f0_wayEnd f0_waiting a1 a2 a3 a4 a5 a6 a7 a8 a9 a10 a11 a12 a13 a14 : Nat) : Bool :=
  eb_if (eb_lt x6 0)
   (ef_moveBlock_86 K x1 x2 x3 x4 x6 z0 0 f0_root f0_wayEnd f0_waiting a1 a2 a3 a4 a5 a6 a7 a8 a9 a10 a11 a12 a13 a14)
   (eb_if (eb_le 47 x6)
    (ef_moveBlock_86 K x1 x2 x3 x4 x6 z0 0 f0_root f0_wayEnd f0_waiting a1 a2 a3 a4 a5 a6 a7 a8 a9 a10 a11 a12 a13 a14)
    (eb_g (eb_l6 (eb_ad x6 1)) (
    eb_if (eb_b0 (eb_bt x4 (eb_ad x6 1)))
     (eb_fc (eb_ad x6 1) (fun x8_67 =>
     ef_moveBlock_135 K x1 x2 x3 x6 z0 x8_67 f0_root f0_wayEnd f0_waiting 120 0 a1 a2 a3 a4 a5 a6 a7 a8 a9 a10 a11 a12 a13 a14))
     (ef_moveBlock_86 K x1 x2 x3 x4 x6 z0 0 f0_root f0_wayEnd f0_waiting a1 a2 a3 a4 a5 a6 a7 a8 a9 a10 a11 a12 a13 a14))))
noncomputable def ef_moveBlock_26 (K : ef_F18) (x1 x2 x3 x4 z0 f0_root f0_wayEnd f0_waiting a1 a2 a3 a4 a5 a6 a7 a8 a9 a10 a11 a12 a13 a14 : Nat) : Bool :=
  eb_if (eb_le 7 x2)
   (ef_moveBlock_46 K x1 x2 x3 x4 z0 4294967295 f0_root f0_wayEnd f0_waiting a1 a2 a3 a4 a5 a6 a7 a8 a9 a10 a11 a12 a13 a14)
   (eb_fc (eb_ad x2 1) (fun fx1 =>
   ef_placeOf (fun r_68 f0_root_69 f0_wayEnd_70 f0_waiting_71 am391_74 am392_77 am393_80 am394_83 am395_86 am396_89 am397_92 am398_95 am399_98 am3910_101 am3911_104 am3912_107 am3913_110 am3914_113 =>
    ef_moveBlock_46 K x1 x2 x3 x4 z0 r_68 f0_root_69 f0_wayEnd_70 f0_waiting_71 am391_74 am392_77 am393_80 am394_83 am395_86 am396_89 am397_92 am398_95 am399_98 am3910_101 am3911_104 am3912_107 am3913_110 am3914_113) f0_root f0_wayEnd f0_waiting a1 a2 a3 a4 a5 a6 a7 a8 a9 a10 a11 a12 a13 a14 x1 fx1))
noncomputable def ef_moveBlock_10 (K : ef_F18) (x1 x2 x3 x4 f0_root f0_wayEnd f0_waiting a1 a2 a3 a4 a5 a6 a7 a8 a9 a10 a11 a12 a13 a14 : Nat) : Bool :=
  eb_if (eb_le x2 0)
   (ef_moveBlock_26 K x1 x2 x3 x4 4294967295 f0_root f0_wayEnd f0_waiting a1 a2 a3 a4 a5 a6 a7 a8 a9 a10 a11 a12 a13 a14)
   (eb_fc (eb_sb x2 1) (fun fx1 =>
   ef_placeOf (fun r_114 f0_root_115 f0_wayEnd_116 f0_waiting_117 am191_120 am192_123 am193_126 am194_129 am195_132 am196_135 am197_138 am198_141 am199_144 am1910_147 am1911_150 am1912_153 am1913_156 am1914_159 =>
    ef_moveBlock_26 K x1 x2 x3 x4 r_114 f0_root_115 f0_wayEnd_116 f0_waiting_117 am191_120 am192_123 am193_126 am194_129 am195_132 am196_135 am197_138 am198_141 am199_144 am1910_147 am1911_150 am1912_153 am1913_156 am1914_159) f0_root f0_wayEnd f0_waiting a1 a2 a3 a4 a5 a6 a7 a8 a9 a10 a11 a12 a13 a14 x1 fx1))
noncomputable def ef_moveBlock (K : ef_F18) (f0_root f0_wayEnd f0_waiting a1 a2 a3 a4 a5 a6 a7 a8 a9 a10 a11 a12 a13 a14 p0 p1 p2 p3 : Nat) : Bool :=
  eb_if (eb_lt p2 0)
   (ef_moveBlock_10 K p0 p1 p2 p3 f0_root f0_wayEnd f0_waiting a1 a2 a3 a4 a5 a6 a7 a8 a9 a10 a11 a12 a13 a14)
   (ef_leaveOut (fun f0_root_161 f0_wayEnd_162 f0_waiting_163 am71_166 am72_169 am73_172 am74_175 am75_178 am76_181 am77_184 am78_187 am79_190 am710_193 am711_196 am712_199 am713_202 am714_205 =>
    ef_moveBlock_10 K p0 p1 p2 p3 f0_root_161 f0_wayEnd_162 f0_waiting_163 am71_166 am72_169 am73_172 am74_175 am75_178 am76_181 am77_184 am78_187 am79_190 am710_193 am711_196 am712_199 am713_202 am714_205) f0_root f0_wayEnd f0_waiting a1 a2 a3 a4 a5 a6 a7 a8 a9 a10 a11 a12 a13 a14 p0 p1)
noncomputable def ef_write_135 (K : ef_F18) (x2 x3 x6 f0_root f0_wayEnd f0_waiting am1301 am1302 am1303 am1304 am1305 am1306 am1307 am1308 am1309 am13010 am13011 am13012 am13013 am13014 : Nat) : Bool :=
  eb_in (eb_ad (eb_ml 4 x6) (eb_an x2 3)) 192 (
  eb_fc (eb_sk am13010 (eb_ad (eb_ml 4 x6) (eb_an x2 3)) x3) (fun am13010_246 =>
  K 0 f0_root f0_wayEnd f0_waiting am1301 am1302 am1303 am1304 am1305 am1306 am1307 am1308 am1309 am13010_246 am13011 am13012 am13013 am13014))
noncomputable def ef_write_90 (K : ef_F18) (x1 x2 x3 x5 x6 x8 f0_root f0_wayEnd f0_waiting am681 am682 am683 am684 am685 am686 am687 am688 am689 am6810 am6811 am6812 am6813 am6814 : Nat) : Bool :=
  ef_blocksIn (fun r_149 f0_root_150 f0_wayEnd_151 f0_waiting_152 am971_155 am972_158 am973_161 am974_164 am975_167 am976_170 am977_173 am978_176 am979_179 am9710_182 am9711_185 am9712_188 am9713_191 am9714_194 =>
   eb_fc (eb_lo x8 r_149) (fun x10_195 =>
   ef_bitsIn (fun r_196 =>
    eb_if (eb_lt r_196 24)
     (eb_in x1 4 (
     eb_fc (eb_gt am9711_185 x1) (fun fx2 =>
     ef_moveBlock (fun r_199 f0_root_200 f0_wayEnd_201 f0_waiting_202 am1301_205 am1302_208 am1303_211 am1304_214 am1305_217 am1306_220 am1307_223 am1308_226 am1309_229 am13010_232 am13011_235 am13012_238 am13013_241 am13014_244 =>
      ef_write_135 K x2 x3 r_199 f0_root_200 f0_wayEnd_201 f0_waiting_202 am1301_205 am1302_208 am1303_211 am1304_214 am1305_217 am1306_220 am1307_223 am1308_226 am1309_229 am13010_232 am13011_235 am13012_238 am13013_241 am13014_244) f0_root_150 f0_wayEnd_151 f0_waiting_152 am971_155 am972_158 am973_161 am974_164 am975_167 am976_170 am977_173 am978_176 am979_179 am9710_182 am9711_185 am9712_188 am9713_191 am9714_194 fx2 x5 x6 x10_195)))
     (K 4294967294 f0_root_150 f0_wayEnd_151 f0_waiting_152 am971_155 am972_158 am973_161 am974_164 am975_167 am976_170 am977_173 am978_176 am979_179 am9710_182 am9711_185 am9712_188 am9713_191 am9714_194)) f0_root_150 f0_wayEnd_151 f0_waiting_152 am971_155 am972_158 am973_161 am974_164 am975_167 am976_170 am977_173 am978_176 am979_179 am9710_182 am9711_185 am9712_188 am9713_191 am9714_194 x10_195)) f0_root f0_wayEnd f0_waiting am681 am682 am683 am684 am685 am686 am687 am688 am689 am6810 am6811 am6812 am6813 am6814 f0_root
noncomputable def ef_write (K : ef_F18) (f0_root f0_wayEnd f0_waiting a1 a2 a3 a4 a5 a6 a7 a8 a9 a10 a11 a12 a13 a14 p0 p1 p2 : Nat) : Bool :=
  ef_isHandle (fun r_1 =>
   eb_if (eb_eq r_1 0)
    (K 4294967295 f0_root f0_wayEnd f0_waiting a1 a2 a3 a4 a5 a6 a7 a8 a9 a10 a11 a12 a13 a14)
    (eb_if (eb_lt p1 0)
     (K 4294967295 f0_root f0_wayEnd f0_waiting a1 a2 a3 a4 a5 a6 a7 a8 a9 a10 a11 a12 a13 a14)
     (eb_if (eb_le p1 31)
      (ef_fileFault (fun r_5 f0_root_6 f0_wayEnd_7 f0_waiting_8 am221_11 am222_14 am223_17 am224_20 am225_23 am226_26 am227_29 am228_32 am229_35 am2210_38 am2211_41 am2212_44 am2213_47 am2214_50 =>
       eb_if (eb_eq r_5 0)
        (eb_g (eb_sm p1) (
        eb_fc (eb_sr p1 2) (fun x5_52 =>
        eb_in p0 4 (
        eb_fc (eb_gt am2211_41 p0) (fun fx3 =>
        ef_placeOf (fun r_54 f0_root_55 f0_wayEnd_56 f0_waiting_57 am491_60 am492_63 am493_66 am494_69 am495_72 am496_75 am497_78 am498_81 am499_84 am4910_87 am4911_90 am4912_93 am4913_96 am4914_99 =>
         ef_validPlace (fun r_100 =>
          eb_in r_100 2 (
          eb_fc (eb_gt am497_78 r_100) (fun fx5 =>
          ef_blocksIn (fun r_102 f0_root_103 f0_wayEnd_104 f0_waiting_105 am681_108 am682_111 am683_114 am684_117 am685_120 am686_123 am687_126 am688_129 am689_132 am6810_135 am6811_138 am6812_141 am6813_144 am6814_147 =>
           eb_if (eb_lt r_54 0)
            (ef_write_90 K p0 p1 p2 x5_52 r_54 r_102 f0_root_103 f0_wayEnd_104 f0_waiting_105 am681_108 am682_111 am683_114 am684_117 am685_120 am686_123 am687_126 am688_129 am689_132 am6810_135 am6811_138 am6812_141 am6813_144 am6814_147)
            (eb_g (eb_l6 r_54) (
            eb_if (eb_b0 (eb_bt r_102 r_54))
             (ef_write_135 K p1 p2 r_54 f0_root_103 f0_wayEnd_104 f0_waiting_105 am681_108 am682_111 am683_114 am684_117 am685_120 am686_123 am687_126 am688_129 am689_132 am6810_135 am6811_138 am6812_141 am6813_144 am6814_147)
             (ef_write_90 K p0 p1 p2 x5_52 r_54 r_102 f0_root_103 f0_wayEnd_104 f0_waiting_105 am681_108 am682_111 am683_114 am684_117 am685_120 am686_123 am687_126 am688_129 am689_132 am6810_135 am6811_138 am6812_141 am6813_144 am6814_147)))) f0_root_55 f0_wayEnd_56 f0_waiting_57 am491_60 am492_63 am493_66 am494_69 am495_72 am496_75 am497_78 am498_81 am499_84 am4910_87 am4911_90 am4912_93 am4913_96 am4914_99 fx5))) f0_root_55 f0_wayEnd_56 f0_waiting_57 am491_60 am492_63 am493_66 am494_69 am495_72 am496_75 am497_78 am498_81 am499_84 am4910_87 am4911_90 am4912_93 am4913_96 am4914_99) f0_root_6 f0_wayEnd_7 f0_waiting_8 am221_11 am222_14 am223_17 am224_20 am225_23 am226_26 am227_29 am228_32 am229_35 am2210_38 am2211_41 am2212_44 am2213_47 am2214_50 fx3 x5_52)))))
        (K r_5 f0_root_6 f0_wayEnd_7 f0_waiting_8 am221_11 am222_14 am223_17 am224_20 am225_23 am226_26 am227_29 am228_32 am229_35 am2210_38 am2211_41 am2212_44 am2213_47 am2214_50)) f0_root f0_wayEnd f0_waiting a1 a2 a3 a4 a5 a6 a7 a8 a9 a10 a11 a12 a13 a14 p0)
      (K 4294967295 f0_root f0_wayEnd f0_waiting a1 a2 a3 a4 a5 a6 a7 a8 a9 a10 a11 a12 a13 a14)))) f0_root f0_wayEnd f0_waiting a1 a2 a3 a4 a5 a6 a7 a8 a9 a10 a11 a12 a13 a14 p0
noncomputable def ef_read (K : ef_F18) (f0_root f0_wayEnd f0_waiting a1 a2 a3 a4 a5 a6 a7 a8 a9 a10 a11 a12 a13 a14 p0 p1 : Nat) : Bool :=
  ef_isHandle (fun r_1 =>
   eb_if (eb_eq r_1 0)
    (K (eb_ik 0) f0_root f0_wayEnd f0_waiting a1 a2 a3 a4 a5 a6 a7 a8 a9 a10 a11 a12 a13 a14)
    (eb_if (eb_lt p1 0)
     (K (eb_ik 0) f0_root f0_wayEnd f0_waiting a1 a2 a3 a4 a5 a6 a7 a8 a9 a10 a11 a12 a13 a14)
     (eb_if (eb_lt 31 p1)
      (K (eb_ik 0) f0_root f0_wayEnd f0_waiting a1 a2 a3 a4 a5 a6 a7 a8 a9 a10 a11 a12 a13 a14)
      (eb_in p0 4 (
      eb_if (eb_lt (eb_gt a11 p0) 0)
       (K (eb_ik 0) f0_root f0_wayEnd f0_waiting a1 a2 a3 a4 a5 a6 a7 a8 a9 a10 a11 a12 a13 a14)
       (eb_fc (eb_gt a11 p0) (fun fx2 =>
       ef_sortOf (fun r_8 f0_root_9 f0_wayEnd_10 f0_waiting_11 am341_14 am342_17 am343_20 am344_23 am345_26 am346_29 am347_32 am348_35 am349_38 am3410_41 am3411_44 am3412_47 am3413_50 am3414_53 =>
        eb_if (eb_eq r_8 1)
         (K (eb_ik 0) f0_root_9 f0_wayEnd_10 f0_waiting_11 am341_14 am342_17 am343_20 am344_23 am345_26 am346_29 am347_32 am348_35 am349_38 am3410_41 am3411_44 am3412_47 am3413_50 am3414_53)
         (eb_fc (eb_gt am3411_44 p0) (fun fx3 =>
         eb_g (eb_sm p1) (
         eb_fc (eb_sr p1 2) (fun fx5 =>
         ef_placeOf (fun r_56 f0_root_57 f0_wayEnd_58 f0_waiting_59 am531_62 am532_65 am533_68 am534_71 am535_74 am536_77 am537_80 am538_83 am539_86 am5310_89 am5311_92 am5312_95 am5313_98 am5314_101 =>
          eb_if (eb_le 0 r_56)
           (eb_in (eb_ad (eb_ml 4 r_56) (eb_an p1 3)) 192 (
           eb_fc (eb_gk am5310_89 (eb_ad (eb_ml 4 r_56) (eb_an p1 3))) (fun fx7 =>
           K fx7 f0_root_57 f0_wayEnd_58 f0_waiting_59 am531_62 am532_65 am533_68 am534_71 am535_74 am536_77 am537_80 am538_83 am539_86 am5310_89 am5311_92 am5312_95 am5313_98 am5314_101)))
           (K (eb_ik 0) f0_root_57 f0_wayEnd_58 f0_waiting_59 am531_62 am532_65 am533_68 am534_71 am535_74 am536_77 am537_80 am538_83 am539_86 am5310_89 am5311_92 am5312_95 am5313_98 am5314_101)) f0_root_9 f0_wayEnd_10 f0_waiting_11 am341_14 am342_17 am343_20 am344_23 am345_26 am346_29 am347_32 am348_35 am349_38 am3410_41 am3411_44 am3412_47 am3413_50 am3414_53 fx3 fx5))))) f0_root f0_wayEnd f0_waiting a1 a2 a3 a4 a5 a6 a7 a8 a9 a10 a11 a12 a13 a14 fx2))))))) f0_root f0_wayEnd f0_waiting a1 a2 a3 a4 a5 a6 a7 a8 a9 a10 a11 a12 a13 a14 p0
noncomputable def ef_cutBlocks_5_b (K : ef_F18) (x1 : Nat) (ih : ef_F19) (x3 x4 f0_root f0_wayEnd f0_waiting a1 a2 a3 a4 a5 a6 a7 a8 a9 a10 a11 a12 a13 a14 : Nat) : Bool :=
  eb_if (eb_le 8 x4)
   (K x3 f0_root f0_wayEnd f0_waiting a1 a2 a3 a4 a5 a6 a7 a8 a9 a10 a11 a12 a13 a14)
   (ef_placeOf (fun r_2 f0_root_3 f0_wayEnd_4 f0_waiting_5 am161_8 am162_11 am163_14 am164_17 am165_20 am166_23 am167_26 am168_29 am169_32 am1610_35 am1611_38 am1612_41 am1613_44 am1614_47 =>
    eb_if (eb_le 0 r_2)
     (ef_leaveOut (fun f0_root_50 f0_wayEnd_51 f0_waiting_52 am291_55 am292_58 am293_61 am294_64 am295_67 am296_70 am297_73 am298_76 am299_79 am2910_82 am2911_85 am2912_88 am2913_91 am2914_94 =>
      eb_fc (eb_ad x3 1) (fun x3_95 =>
      eb_fc (eb_ad x4 1) (fun x4_96 =>
      ih x3_95 x4_96 f0_root_50 f0_wayEnd_51 f0_waiting_52 am291_55 am292_58 am293_61 am294_64 am295_67 am296_70 am297_73 am298_76 am299_79 am2910_82 am2911_85 am2912_88 am2913_91 am2914_94))) f0_root_3 f0_wayEnd_4 f0_waiting_5 am161_8 am162_11 am163_14 am164_17 am165_20 am166_23 am167_26 am168_29 am169_32 am1610_35 am1611_38 am1612_41 am1613_44 am1614_47 x1 x4)
     (eb_fc (eb_ad x4 1) (fun x4_97 =>
     ih x3 x4_97 f0_root_3 f0_wayEnd_4 f0_waiting_5 am161_8 am162_11 am163_14 am164_17 am165_20 am166_23 am167_26 am168_29 am169_32 am1610_35 am1611_38 am1612_41 am1613_44 am1614_47))) f0_root f0_wayEnd f0_waiting a1 a2 a3 a4 a5 a6 a7 a8 a9 a10 a11 a12 a13 a14 x1 x4)
noncomputable def ef_cutBlocks_5 (K : ef_F18) (x1 : Nat) (n : Nat) : ef_F19 :=
  Nat.rec (motive := fun _ => ef_F19) (fun _ _ _ _ _ _ _ _ _ _ _ _ _ _ _ _ _ _ _ => false) (fun _ ih => ef_cutBlocks_5_b K x1 ih) n
noncomputable def ef_cutBlocks (K : ef_F18) (f0_root f0_wayEnd f0_waiting a1 a2 a3 a4 a5 a6 a7 a8 a9 a10 a11 a12 a13 a14 p0 p1 : Nat) : Bool :=
  ef_cutBlocks_5 K p0 120 0 p1 f0_root f0_wayEnd f0_waiting a1 a2 a3 a4 a5 a6 a7 a8 a9 a10 a11 a12 a13 a14
noncomputable def ef_cut (K : ef_F18) (f0_root f0_wayEnd f0_waiting a1 a2 a3 a4 a5 a6 a7 a8 a9 a10 a11 a12 a13 a14 p0 p1 : Nat) : Bool :=
  ef_isHandle (fun r_1 =>
   eb_if (eb_eq r_1 0)
    (K 4294967295 f0_root f0_wayEnd f0_waiting a1 a2 a3 a4 a5 a6 a7 a8 a9 a10 a11 a12 a13 a14)
    (eb_if (eb_lt p1 0)
     (K 4294967295 f0_root f0_wayEnd f0_waiting a1 a2 a3 a4 a5 a6 a7 a8 a9 a10 a11 a12 a13 a14)
     (eb_if (eb_le p1 7)
      (ef_fileFault (fun r_5 f0_root_6 f0_wayEnd_7 f0_waiting_8 am221_11 am222_14 am223_17 am224_20 am225_23 am226_26 am227_29 am228_32 am229_35 am2210_38 am2211_41 am2212_44 am2213_47 am2214_50 =>
       eb_if (eb_eq r_5 0)
        (eb_in p0 4 (
        eb_fc (eb_gt am2211_41 p0) (fun fx2 =>
        ef_cutBlocks (fun r_53 f0_root_54 f0_wayEnd_55 f0_waiting_56 am401_59 am402_62 am403_65 am404_68 am405_71 am406_74 am407_77 am408_80 am409_83 am4010_86 am4011_89 am4012_92 am4013_95 am4014_98 =>
         K r_53 f0_root_54 f0_wayEnd_55 f0_waiting_56 am401_59 am402_62 am403_65 am404_68 am405_71 am406_74 am407_77 am408_80 am409_83 am4010_86 am4011_89 am4012_92 am4013_95 am4014_98) f0_root_6 f0_wayEnd_7 f0_waiting_8 am221_11 am222_14 am223_17 am224_20 am225_23 am226_26 am227_29 am228_32 am229_35 am2210_38 am2211_41 am2212_44 am2213_47 am2214_50 fx2 p1)))
        (K r_5 f0_root_6 f0_wayEnd_7 f0_waiting_8 am221_11 am222_14 am223_17 am224_20 am225_23 am226_26 am227_29 am228_32 am229_35 am2210_38 am2211_41 am2212_44 am2213_47 am2214_50)) f0_root f0_wayEnd f0_waiting a1 a2 a3 a4 a5 a6 a7 a8 a9 a10 a11 a12 a13 a14 p0)
      (K 4294967295 f0_root f0_wayEnd f0_waiting a1 a2 a3 a4 a5 a6 a7 a8 a9 a10 a11 a12 a13 a14)))) f0_root f0_wayEnd f0_waiting a1 a2 a3 a4 a5 a6 a7 a8 a9 a10 a11 a12 a13 a14 p0
noncomputable def ef_copies (K : ef_F18) (f0_root f0_wayEnd f0_waiting a1 a2 a3 a4 a5 a6 a7 a8 a9 a10 a11 a12 a13 a14 : Nat) : Bool :=
  ef_validPlace (fun r_1 =>
   ef_blocksIn (fun r_2 f0_root_3 f0_wayEnd_4 f0_waiting_5 am101_8 am102_11 am103_14 am104_17 am105_20 am106_23 am107_26 am108_29 am109_32 am1010_35 am1011_38 am1012_41 am1013_44 am1014_47 =>
    eb_in r_1 2 (
    eb_fc (eb_gt am107_26 r_1) (fun fx2 =>
    ef_blocksIn (fun r_49 f0_root_50 f0_wayEnd_51 f0_waiting_52 am201_55 am202_58 am203_61 am204_64 am205_67 am206_70 am207_73 am208_76 am209_79 am2010_82 am2011_85 am2012_88 am2013_91 am2014_94 =>
     eb_fc (eb_lo r_2 r_49) (fun x2_95 =>
     ef_bitsIn (fun r_96 =>
      K r_96 f0_root_50 f0_wayEnd_51 f0_waiting_52 am201_55 am202_58 am203_61 am204_64 am205_67 am206_70 am207_73 am208_76 am209_79 am2010_82 am2011_85 am2012_88 am2013_91 am2014_94) f0_root_50 f0_wayEnd_51 f0_waiting_52 am201_55 am202_58 am203_61 am204_64 am205_67 am206_70 am207_73 am208_76 am209_79 am2010_82 am2011_85 am2012_88 am2013_91 am2014_94 x2_95)) f0_root_3 f0_wayEnd_4 f0_waiting_5 am101_8 am102_11 am103_14 am104_17 am105_20 am106_23 am107_26 am108_29 am109_32 am1010_35 am1011_38 am1012_41 am1013_44 am1014_47 fx2))) f0_root f0_wayEnd f0_waiting a1 a2 a3 a4 a5 a6 a7 a8 a9 a10 a11 a12 a13 a14 f0_root) f0_root f0_wayEnd f0_waiting a1 a2 a3 a4 a5 a6 a7 a8 a9 a10 a11 a12 a13 a14
noncomputable def ef_open (K : ef_F18) (f0_root f0_wayEnd f0_waiting a1 a2 a3 a4 a5 a6 a7 a8 a9 a10 a11 a12 a13 a14 p0 p1 p2 : Nat) : Bool :=
  eb_if (eb_lt p0 1)
   (K 4294967295 f0_root f0_wayEnd f0_waiting a1 a2 a3 a4 a5 a6 a7 a8 a9 a10 a11 a12 a13 a14)
   (eb_if (eb_lt 3 p0)
    (K 4294967295 f0_root f0_wayEnd f0_waiting a1 a2 a3 a4 a5 a6 a7 a8 a9 a10 a11 a12 a13 a14)
    (ef_isHandle (fun r_3 =>
     eb_if (eb_eq r_3 0)
      (K 4294967295 f0_root f0_wayEnd f0_waiting a1 a2 a3 a4 a5 a6 a7 a8 a9 a10 a11 a12 a13 a14)
      (eb_i3 (eb_klt p2 (eb_ik 4294967295)) (eb_kle (eb_ik 4294967295) p2)
       (K 4294967295 f0_root f0_wayEnd f0_waiting a1 a2 a3 a4 a5 a6 a7 a8 a9 a10 a11 a12 a13 a14)
       (eb_i3 (eb_kle p2 (eb_ik 99)) (eb_klt (eb_ik 99) p2)
        (eb_in p1 4 (
        eb_if (eb_le 0 (eb_gt a11 p1))
         (eb_i3 (eb_kle (eb_ik 0) p2) (eb_klt p2 (eb_ik 0))
          (eb_fc (eb_gt a11 p1) (fun fx2 =>
          ef_sortOf (fun r_11 f0_root_12 f0_wayEnd_13 f0_waiting_14 am681_17 am682_20 am683_23 am684_26 am685_29 am686_32 am687_35 am688_38 am689_41 am6810_44 am6811_47 am6812_50 am6813_53 am6814_56 =>
           eb_if (eb_eq r_11 2)
            (K 4294967292 f0_root_12 f0_wayEnd_13 f0_waiting_14 am681_17 am682_20 am683_23 am684_26 am685_29 am686_32 am687_35 am688_38 am689_41 am6810_44 am6811_47 am6812_50 am6813_53 am6814_56)
            (eb_fc (eb_ka p2 (eb_ad (eb_ml 256 (eb_gt am6811_47 p1)) 1)) (fun fx3 =>
            ef_get (fun r_59 f0_root_60 f0_wayEnd_61 f0_waiting_62 am931_65 am932_68 am933_71 am934_74 am935_77 am936_80 am937_83 am938_86 am939_89 am9310_92 am9311_95 am9312_98 am9313_101 am9314_104 =>
             eb_if (eb_le 0 r_59)
              (eb_in p0 4 (
              eb_g (eb_b8 r_59) (
              eb_fc (eb_st am9311_95 p0 r_59) (fun am9311_107 =>
              K 0 f0_root_60 f0_wayEnd_61 f0_waiting_62 am931_65 am932_68 am933_71 am934_74 am935_77 am936_80 am937_83 am938_86 am939_89 am9310_92 am9311_107 am9312_98 am9313_101 am9314_104))))
              (K 4294967293 f0_root_60 f0_wayEnd_61 f0_waiting_62 am931_65 am932_68 am933_71 am934_74 am935_77 am936_80 am937_83 am938_86 am939_89 am9310_92 am9311_95 am9312_98 am9313_101 am9314_104)) f0_root_12 f0_wayEnd_13 f0_waiting_14 am681_17 am682_20 am683_23 am684_26 am685_29 am686_32 am687_35 am688_38 am689_41 am6810_44 am6811_47 am6812_50 am6813_53 am6814_56 fx3))) f0_root f0_wayEnd f0_waiting a1 a2 a3 a4 a5 a6 a7 a8 a9 a10 a11 a12 a13 a14 fx2))
          (eb_in p0 4 (
          eb_g (eb_b8 (eb_gt a11 p1)) (
          eb_fc (eb_st a11 p0 (eb_gt a11 p1)) (fun a11_110 =>
          K 0 f0_root f0_wayEnd f0_waiting a1 a2 a3 a4 a5 a6 a7 a8 a9 a10 a11_110 a12 a13 a14)))))
         (K 4294967293 f0_root f0_wayEnd f0_waiting a1 a2 a3 a4 a5 a6 a7 a8 a9 a10 a11 a12 a13 a14)))
        (K 4294967295 f0_root f0_wayEnd f0_waiting a1 a2 a3 a4 a5 a6 a7 a8 a9 a10 a11 a12 a13 a14)))) f0_root f0_wayEnd f0_waiting a1 a2 a3 a4 a5 a6 a7 a8 a9 a10 a11 a12 a13 a14 p1))
noncomputable def ef_isAbove_30 (K : ef_F18) (x1 x3 f0_root f0_wayEnd f0_waiting a1 a2 a3 a4 a5 a6 a7 a8 a9 a10 a11 a12 a13 a14 : Nat) : Bool :=
  eb_if (eb_eq x3 x1)
   (K 1 f0_root f0_wayEnd f0_waiting a1 a2 a3 a4 a5 a6 a7 a8 a9 a10 a11 a12 a13 a14)
   (K 0 f0_root f0_wayEnd f0_waiting a1 a2 a3 a4 a5 a6 a7 a8 a9 a10 a11 a12 a13 a14)
noncomputable def ef_isAbove_2_b (K : ef_F18) (x1 : Nat) (ih : ef_F18) (x3 f0_root f0_wayEnd f0_waiting a1 a2 a3 a4 a5 a6 a7 a8 a9 a10 a11 a12 a13 a14 : Nat) : Bool :=
  eb_if (eb_eq x3 0)
   (ef_isAbove_30 K x1 x3 f0_root f0_wayEnd f0_waiting a1 a2 a3 a4 a5 a6 a7 a8 a9 a10 a11 a12 a13 a14)
   (eb_if (eb_eq x3 x1)
    (ef_isAbove_30 K x1 x3 f0_root f0_wayEnd f0_waiting a1 a2 a3 a4 a5 a6 a7 a8 a9 a10 a11 a12 a13 a14)
    (eb_fc (eb_ik (eb_ml 256 x3)) (fun fx1 =>
    ef_get (fun r_4 f0_root_5 f0_wayEnd_6 f0_waiting_7 am171_10 am172_13 am173_16 am174_19 am175_22 am176_25 am177_28 am178_31 am179_34 am1710_37 am1711_40 am1712_43 am1713_46 am1714_49 =>
     eb_g (eb_sm r_4) (
     eb_fc (eb_sr r_4 2) (fun x3_50 =>
     ih x3_50 f0_root_5 f0_wayEnd_6 f0_waiting_7 am171_10 am172_13 am173_16 am174_19 am175_22 am176_25 am177_28 am178_31 am179_34 am1710_37 am1711_40 am1712_43 am1713_46 am1714_49))) f0_root f0_wayEnd f0_waiting a1 a2 a3 a4 a5 a6 a7 a8 a9 a10 a11 a12 a13 a14 fx1)))
noncomputable def ef_isAbove_2 (K : ef_F18) (x1 : Nat) (n : Nat) : ef_F18 :=
  Nat.rec (motive := fun _ => ef_F18) (fun _ _ _ _ _ _ _ _ _ _ _ _ _ _ _ _ _ _ => false) (fun _ ih => ef_isAbove_2_b K x1 ih) n
noncomputable def ef_isAbove (K : ef_F18) (f0_root f0_wayEnd f0_waiting a1 a2 a3 a4 a5 a6 a7 a8 a9 a10 a11 a12 a13 a14 p0 p1 : Nat) : Bool :=
  ef_isAbove_2 K p0 120 p1 f0_root f0_wayEnd f0_waiting a1 a2 a3 a4 a5 a6 a7 a8 a9 a10 a11 a12 a13 a14
noncomputable def ef_rename_76 (K : ef_F18) (x1 x2 x3 x4 x5 f0_root f0_wayEnd f0_waiting am371 am372 am373 am374 am375 am376 am377 am378 am379 am3710 am3711 am3712 am3713 am3714 : Nat) : Bool :=
  eb_if (eb_eq x5 0)
   (eb_in x1 4 (
   eb_fc (eb_gt am3711 x1) (fun x6_60 =>
   eb_in x3 4 (
   eb_fc (eb_gt am3711 x3) (fun x7_62 =>
   eb_fc (eb_ka x2 (eb_ad (eb_ml 256 x6_60) 1)) (fun fx3 =>
   ef_get (fun r_63 f0_root_64 f0_wayEnd_65 f0_waiting_66 am1111_69 am1112_72 am1113_75 am1114_78 am1115_81 am1116_84 am1117_87 am1118_90 am1119_93 am11110_96 am11111_99 am11112_102 am11113_105 am11114_108 =>
    eb_if (eb_le 0 r_63)
     (eb_fc (eb_ka x4 (eb_ad (eb_ml 256 x7_62) 1)) (fun fx4 =>
     ef_get (fun r_110 f0_root_111 f0_wayEnd_112 f0_waiting_113 am1361_116 am1362_119 am1363_122 am1364_125 am1365_128 am1366_131 am1367_134 am1368_137 am1369_140 am13610_143 am13611_146 am13612_149 am13613_152 am13614_155 =>
      eb_if (eb_lt r_110 0)
       (ef_isAbove (fun r_157 f0_root_158 f0_wayEnd_159 f0_waiting_160 am1501_163 am1502_166 am1503_169 am1504_172 am1505_175 am1506_178 am1507_181 am1508_184 am1509_187 am15010_190 am15011_193 am15012_196 am15013_199 am15014_202 =>
        eb_if (eb_eq r_157 0)
         (ef_sortOf (fun r_204 f0_root_205 f0_wayEnd_206 f0_waiting_207 am1621_210 am1622_213 am1623_216 am1624_219 am1625_222 am1626_225 am1627_228 am1628_231 am1629_234 am16210_237 am16211_240 am16212_243 am16213_246 am16214_249 =>
          eb_fc (eb_ka x2 (eb_ad (eb_ml 256 x6_60) 1)) (fun fx5 =>
          ef_remove (fun f0_root_251 f0_wayEnd_252 f0_waiting_253 am1781_256 am1782_259 am1783_262 am1784_265 am1785_268 am1786_271 am1787_274 am1788_277 am1789_280 am17810_283 am17811_286 am17812_289 am17813_292 am17814_295 =>
           eb_fc (eb_ka x4 (eb_ad (eb_ml 256 x7_62) 1)) (fun fx6 =>
           ef_put (fun f0_root_297 f0_wayEnd_298 f0_waiting_299 am1951_302 am1952_305 am1953_308 am1954_311 am1955_314 am1956_317 am1957_320 am1958_323 am1959_326 am19510_329 am19511_332 am19512_335 am19513_338 am19514_341 =>
            eb_fc (eb_ik (eb_ml 256 r_63)) (fun fx7 =>
            eb_fc (eb_ad (eb_ml 4 x7_62) r_204) (fun fx8 =>
            ef_put (fun f0_root_343 f0_wayEnd_344 f0_waiting_345 am2121_348 am2122_351 am2123_354 am2124_357 am2125_360 am2126_363 am2127_366 am2128_369 am2129_372 am21210_375 am21211_378 am21212_381 am21213_384 am21214_387 =>
             K 0 f0_root_343 f0_wayEnd_344 f0_waiting_345 am2121_348 am2122_351 am2123_354 am2124_357 am2125_360 am2126_363 am2127_366 am2128_369 am2129_372 am21210_375 am21211_378 am21212_381 am21213_384 am21214_387) f0_root_297 f0_wayEnd_298 f0_waiting_299 am1951_302 am1952_305 am1953_308 am1954_311 am1955_314 am1956_317 am1957_320 am1958_323 am1959_326 am19510_329 am19511_332 am19512_335 am19513_338 am19514_341 fx7 fx8))) f0_root_251 f0_wayEnd_252 f0_waiting_253 am1781_256 am1782_259 am1783_262 am1784_265 am1785_268 am1786_271 am1787_274 am1788_277 am1789_280 am17810_283 am17811_286 am17812_289 am17813_292 am17814_295 fx6 r_63)) f0_root_205 f0_wayEnd_206 f0_waiting_207 am1621_210 am1622_213 am1623_216 am1624_219 am1625_222 am1626_225 am1627_228 am1628_231 am1629_234 am16210_237 am16211_240 am16212_243 am16213_246 am16214_249 fx5)) f0_root_158 f0_wayEnd_159 f0_waiting_160 am1501_163 am1502_166 am1503_169 am1504_172 am1505_175 am1506_178 am1507_181 am1508_184 am1509_187 am15010_190 am15011_193 am15012_196 am15013_199 am15014_202 r_63)
         (K 4294967289 f0_root_158 f0_wayEnd_159 f0_waiting_160 am1501_163 am1502_166 am1503_169 am1504_172 am1505_175 am1506_178 am1507_181 am1508_184 am1509_187 am15010_190 am15011_193 am15012_196 am15013_199 am15014_202)) f0_root_111 f0_wayEnd_112 f0_waiting_113 am1361_116 am1362_119 am1363_122 am1364_125 am1365_128 am1366_131 am1367_134 am1368_137 am1369_140 am13610_143 am13611_146 am13612_149 am13613_152 am13614_155 r_63 x7_62)
       (K 4294967291 f0_root_111 f0_wayEnd_112 f0_waiting_113 am1361_116 am1362_119 am1363_122 am1364_125 am1365_128 am1366_131 am1367_134 am1368_137 am1369_140 am13610_143 am13611_146 am13612_149 am13613_152 am13614_155)) f0_root_64 f0_wayEnd_65 f0_waiting_66 am1111_69 am1112_72 am1113_75 am1114_78 am1115_81 am1116_84 am1117_87 am1118_90 am1119_93 am11110_96 am11111_99 am11112_102 am11113_105 am11114_108 fx4))
     (K 4294967293 f0_root_64 f0_wayEnd_65 f0_waiting_66 am1111_69 am1112_72 am1113_75 am1114_78 am1115_81 am1116_84 am1117_87 am1118_90 am1119_93 am11110_96 am11111_99 am11112_102 am11113_105 am11114_108)) f0_root f0_wayEnd f0_waiting am371 am372 am373 am374 am375 am376 am377 am378 am379 am3710 am3711 am3712 am3713 am3714 fx3))))))
   (K x5 f0_root f0_wayEnd f0_waiting am371 am372 am373 am374 am375 am376 am377 am378 am379 am3710 am3711 am3712 am3713 am3714)
noncomputable def ef_rename_72 (K : ef_F18) (x1 x2 x3 x4 f0_root f0_wayEnd f0_waiting am371 am372 am373 am374 am375 am376 am377 am378 am379 am3710 am3711 am3712 am3713 am3714 : Nat) : Bool :=
  ef_rename_76 K x1 x2 x3 x4 4294967293 f0_root f0_wayEnd f0_waiting am371 am372 am373 am374 am375 am376 am377 am378 am379 am3710 am3711 am3712 am3713 am3714
noncomputable def ef_rename_54 (K : ef_F18) (x1 x2 x3 x4 x5 f0_root f0_wayEnd f0_waiting am371 am372 am373 am374 am375 am376 am377 am378 am379 am3710 am3711 am3712 am3713 am3714 : Nat) : Bool :=
  eb_in x1 4 (
  eb_if (eb_lt (eb_gt am3711 x1) 0)
   (ef_rename_72 K x1 x2 x3 x4 f0_root f0_wayEnd f0_waiting am371 am372 am373 am374 am375 am376 am377 am378 am379 am3710 am3711 am3712 am3713 am3714)
   (eb_in x3 4 (
   eb_if (eb_le 0 (eb_gt am3711 x3))
    (ef_rename_76 K x1 x2 x3 x4 x5 f0_root f0_wayEnd f0_waiting am371 am372 am373 am374 am375 am376 am377 am378 am379 am3710 am3711 am3712 am3713 am3714)
    (ef_rename_72 K x1 x2 x3 x4 f0_root f0_wayEnd f0_waiting am371 am372 am373 am374 am375 am376 am377 am378 am379 am3710 am3711 am3712 am3713 am3714))))
noncomputable def ef_rename (K : ef_F18) (f0_root f0_wayEnd f0_waiting a1 a2 a3 a4 a5 a6 a7 a8 a9 a10 a11 a12 a13 a14 p0 p1 p2 p3 : Nat) : Bool :=
  ef_isHandle (fun r_1 =>
   eb_if (eb_eq r_1 0)
    (K 4294967295 f0_root f0_wayEnd f0_waiting a1 a2 a3 a4 a5 a6 a7 a8 a9 a10 a11 a12 a13 a14)
    (ef_isHandle (fun r_3 =>
     eb_if (eb_eq r_3 0)
      (K 4294967295 f0_root f0_wayEnd f0_waiting a1 a2 a3 a4 a5 a6 a7 a8 a9 a10 a11 a12 a13 a14)
      (ef_isName (fun r_5 =>
       eb_if (eb_eq r_5 0)
        (K 4294967295 f0_root f0_wayEnd f0_waiting a1 a2 a3 a4 a5 a6 a7 a8 a9 a10 a11 a12 a13 a14)
        (ef_isName (fun r_7 =>
         eb_if (eb_eq r_7 0)
          (K 4294967295 f0_root f0_wayEnd f0_waiting a1 a2 a3 a4 a5 a6 a7 a8 a9 a10 a11 a12 a13 a14)
          (ef_directoryFault (fun r_9 f0_root_10 f0_wayEnd_11 f0_waiting_12 am371_15 am372_18 am373_21 am374_24 am375_27 am376_30 am377_33 am378_36 am379_39 am3710_42 am3711_45 am3712_48 am3713_51 am3714_54 =>
           eb_if (eb_eq r_9 0)
            (ef_directoryFault (fun r_390 f0_root_391 f0_wayEnd_392 f0_waiting_393 am491_396 am492_399 am493_402 am494_405 am495_408 am496_411 am497_414 am498_417 am499_420 am4910_423 am4911_426 am4912_429 am4913_432 am4914_435 =>
             ef_rename_54 K p0 p1 p2 p3 r_390 f0_root_391 f0_wayEnd_392 f0_waiting_393 am491_396 am492_399 am493_402 am494_405 am495_408 am496_411 am497_414 am498_417 am499_420 am4910_423 am4911_426 am4912_429 am4913_432 am4914_435) f0_root_10 f0_wayEnd_11 f0_waiting_12 am371_15 am372_18 am373_21 am374_24 am375_27 am376_30 am377_33 am378_36 am379_39 am3710_42 am3711_45 am3712_48 am3713_51 am3714_54 p2)
            (ef_rename_54 K p0 p1 p2 p3 r_9 f0_root_10 f0_wayEnd_11 f0_waiting_12 am371_15 am372_18 am373_21 am374_24 am375_27 am376_30 am377_33 am378_36 am379_39 am3710_42 am3711_45 am3712_48 am3713_51 am3714_54)) f0_root f0_wayEnd f0_waiting a1 a2 a3 a4 a5 a6 a7 a8 a9 a10 a11 a12 a13 a14 p0)) f0_root f0_wayEnd f0_waiting a1 a2 a3 a4 a5 a6 a7 a8 a9 a10 a11 a12 a13 a14 p3)) f0_root f0_wayEnd f0_waiting a1 a2 a3 a4 a5 a6 a7 a8 a9 a10 a11 a12 a13 a14 p1)) f0_root f0_wayEnd f0_waiting a1 a2 a3 a4 a5 a6 a7 a8 a9 a10 a11 a12 a13 a14 p2)) f0_root f0_wayEnd f0_waiting a1 a2 a3 a4 a5 a6 a7 a8 a9 a10 a11 a12 a13 a14 p0
noncomputable def ef_erase_132 (K : ef_F18) (x2 x4 x5 f0_root f0_wayEnd f0_waiting am1171 am1172 am1173 am1174 am1175 am1176 am1177 am1178 am1179 am11710 am11711 am11712 am11713 am11714 : Nat) : Bool :=
  eb_fc (eb_ka x2 (eb_ad (eb_ml 256 x4) 1)) (fun fx1 =>
  ef_remove (fun f0_root_197 f0_wayEnd_198 f0_waiting_199 am1431_202 am1432_205 am1433_208 am1434_211 am1435_214 am1436_217 am1437_220 am1438_223 am1439_226 am14310_229 am14311_232 am14312_235 am14313_238 am14314_241 =>
   eb_fc (eb_ik (eb_ml 256 x5)) (fun fx2 =>
   ef_remove (fun f0_root_243 f0_wayEnd_244 f0_waiting_245 am1531_248 am1532_251 am1533_254 am1534_257 am1535_260 am1536_263 am1537_266 am1538_269 am1539_272 am15310_275 am15311_278 am15312_281 am15313_284 am15314_287 =>
    K 0 f0_root_243 f0_wayEnd_244 f0_waiting_245 am1531_248 am1532_251 am1533_254 am1534_257 am1535_260 am1536_263 am1537_266 am1538_269 am1539_272 am15310_275 am15311_278 am15312_281 am15313_284 am15314_287) f0_root_197 f0_wayEnd_198 f0_waiting_199 am1431_202 am1432_205 am1433_208 am1434_211 am1435_214 am1436_217 am1437_220 am1438_223 am1439_226 am14310_229 am14311_232 am14312_235 am14313_238 am14314_241 fx2)) f0_root f0_wayEnd f0_waiting am1171 am1172 am1173 am1174 am1175 am1176 am1177 am1178 am1179 am11710 am11711 am11712 am11713 am11714 fx1)
noncomputable def ef_erase_114 (K : ef_F18) (x2 x4 x5 f0_root f0_wayEnd f0_waiting am951 am952 am953 am954 am955 am956 am957 am958 am959 am9510 am9511 am9512 am9513 am9514 : Nat) : Bool :=
  ef_sortOf (fun r_149 f0_root_150 f0_wayEnd_151 f0_waiting_152 am1171_155 am1172_158 am1173_161 am1174_164 am1175_167 am1176_170 am1177_173 am1178_176 am1179_179 am11710_182 am11711_185 am11712_188 am11713_191 am11714_194 =>
   eb_if (eb_eq r_149 2)
    (ef_cutBlocks (fun r_288 f0_root_289 f0_wayEnd_290 f0_waiting_291 am1281_294 am1282_297 am1283_300 am1284_303 am1285_306 am1286_309 am1287_312 am1288_315 am1289_318 am12810_321 am12811_324 am12812_327 am12813_330 am12814_333 =>
     ef_erase_132 K x2 x4 x5 f0_root_289 f0_wayEnd_290 f0_waiting_291 am1281_294 am1282_297 am1283_300 am1284_303 am1285_306 am1286_309 am1287_312 am1288_315 am1289_318 am12810_321 am12811_324 am12812_327 am12813_330 am12814_333) f0_root_150 f0_wayEnd_151 f0_waiting_152 am1171_155 am1172_158 am1173_161 am1174_164 am1175_167 am1176_170 am1177_173 am1178_176 am1179_179 am11710_182 am11711_185 am11712_188 am11713_191 am11714_194 x5 0)
    (ef_erase_132 K x2 x4 x5 f0_root_150 f0_wayEnd_151 f0_waiting_152 am1171_155 am1172_158 am1173_161 am1174_164 am1175_167 am1176_170 am1177_173 am1178_176 am1179_179 am11710_182 am11711_185 am11712_188 am11713_191 am11714_194)) f0_root f0_wayEnd f0_waiting am951 am952 am953 am954 am955 am956 am957 am958 am959 am9510 am9511 am9512 am9513 am9514 x5
noncomputable def ef_erase_65_b (K : ef_F18) (x2 x4 x5 f0_root f0_wayEnd f0_waiting am491 am492 am493 am494 am495 am496 am497 am498 am499 am4910 am4911 am4912 am4913 am4914 : Nat) (ih : ef_F1) (x6 : Nat) : Bool :=
  eb_if (eb_le 4 x6)
   (ef_sortOf (fun r_102 f0_root_103 f0_wayEnd_104 f0_waiting_105 am951_108 am952_111 am953_114 am954_117 am955_120 am956_123 am957_126 am958_129 am959_132 am9510_135 am9511_138 am9512_141 am9513_144 am9514_147 =>
    eb_if (eb_eq r_102 1)
     (ef_entriesOf (fun r_334 =>
      eb_if (eb_le r_334 0)
       (ef_erase_114 K x2 x4 x5 f0_root_103 f0_wayEnd_104 f0_waiting_105 am951_108 am952_111 am953_114 am954_117 am955_120 am956_123 am957_126 am958_129 am959_132 am9510_135 am9511_138 am9512_141 am9513_144 am9514_147)
       (K 4294967294 f0_root_103 f0_wayEnd_104 f0_waiting_105 am951_108 am952_111 am953_114 am954_117 am955_120 am956_123 am957_126 am958_129 am959_132 am9510_135 am9511_138 am9512_141 am9513_144 am9514_147)) f0_root_103 f0_wayEnd_104 f0_waiting_105 am951_108 am952_111 am953_114 am954_117 am955_120 am956_123 am957_126 am958_129 am959_132 am9510_135 am9511_138 am9512_141 am9513_144 am9514_147 x5)
     (ef_erase_114 K x2 x4 x5 f0_root_103 f0_wayEnd_104 f0_waiting_105 am951_108 am952_111 am953_114 am954_117 am955_120 am956_123 am957_126 am958_129 am959_132 am9510_135 am9511_138 am9512_141 am9513_144 am9514_147)) f0_root f0_wayEnd f0_waiting am491 am492 am493 am494 am495 am496 am497 am498 am499 am4910 am4911 am4912 am4913 am4914 x5)
   (eb_in x6 4 (
   eb_if (eb_eq (eb_gt am4911 x6) x5)
    (K 4294967290 f0_root f0_wayEnd f0_waiting am491 am492 am493 am494 am495 am496 am497 am498 am499 am4910 am4911 am4912 am4913 am4914)
    (eb_fc (eb_ad x6 1) (fun x6_338 =>
    ih x6_338))))
noncomputable def ef_erase_65 (K : ef_F18) (x2 x4 x5 f0_root f0_wayEnd f0_waiting am491 am492 am493 am494 am495 am496 am497 am498 am499 am4910 am4911 am4912 am4913 am4914 : Nat) (n : Nat) : ef_F1 :=
  Nat.rec (motive := fun _ => ef_F1) (fun _ => false) (fun _ ih => ef_erase_65_b K x2 x4 x5 f0_root f0_wayEnd f0_waiting am491 am492 am493 am494 am495 am496 am497 am498 am499 am4910 am4911 am4912 am4913 am4914 ih) n
noncomputable def ef_erase (K : ef_F18) (f0_root f0_wayEnd f0_waiting a1 a2 a3 a4 a5 a6 a7 a8 a9 a10 a11 a12 a13 a14 p0 p1 : Nat) : Bool :=
  ef_isHandle (fun r_1 =>
   eb_if (eb_eq r_1 0)
    (K 4294967295 f0_root f0_wayEnd f0_waiting a1 a2 a3 a4 a5 a6 a7 a8 a9 a10 a11 a12 a13 a14)
    (ef_isName (fun r_3 =>
     eb_if (eb_eq r_3 0)
      (K 4294967295 f0_root f0_wayEnd f0_waiting a1 a2 a3 a4 a5 a6 a7 a8 a9 a10 a11 a12 a13 a14)
      (ef_directoryFault (fun r_5 f0_root_6 f0_wayEnd_7 f0_waiting_8 am201_11 am202_14 am203_17 am204_20 am205_23 am206_26 am207_29 am208_32 am209_35 am2010_38 am2011_41 am2012_44 am2013_47 am2014_50 =>
       eb_if (eb_eq r_5 0)
        (eb_in p0 4 (
        eb_fc (eb_gt am2011_41 p0) (fun x4_53 =>
        eb_fc (eb_ka p1 (eb_ad (eb_ml 256 x4_53) 1)) (fun fx2 =>
        ef_get (fun r_54 f0_root_55 f0_wayEnd_56 f0_waiting_57 am491_60 am492_63 am493_66 am494_69 am495_72 am496_75 am497_78 am498_81 am499_84 am4910_87 am4911_90 am4912_93 am4913_96 am4914_99 =>
         eb_if (eb_le 0 r_54)
          (ef_erase_65 K p1 x4_53 r_54 f0_root_55 f0_wayEnd_56 f0_waiting_57 am491_60 am492_63 am493_66 am494_69 am495_72 am496_75 am497_78 am498_81 am499_84 am4910_87 am4911_90 am4912_93 am4913_96 am4914_99 120 0)
          (K 4294967293 f0_root_55 f0_wayEnd_56 f0_waiting_57 am491_60 am492_63 am493_66 am494_69 am495_72 am496_75 am497_78 am498_81 am499_84 am4910_87 am4911_90 am4912_93 am4913_96 am4914_99)) f0_root_6 f0_wayEnd_7 f0_waiting_8 am201_11 am202_14 am203_17 am204_20 am205_23 am206_26 am207_29 am208_32 am209_35 am2010_38 am2011_41 am2012_44 am2013_47 am2014_50 fx2))))
        (K r_5 f0_root_6 f0_wayEnd_7 f0_waiting_8 am201_11 am202_14 am203_17 am204_20 am205_23 am206_26 am207_29 am208_32 am209_35 am2010_38 am2011_41 am2012_44 am2013_47 am2014_50)) f0_root f0_wayEnd f0_waiting a1 a2 a3 a4 a5 a6 a7 a8 a9 a10 a11 a12 a13 a14 p0)) f0_root f0_wayEnd f0_waiting a1 a2 a3 a4 a5 a6 a7 a8 a9 a10 a11 a12 a13 a14 p1)) f0_root f0_wayEnd f0_waiting a1 a2 a3 a4 a5 a6 a7 a8 a9 a10 a11 a12 a13 a14 p0
noncomputable def ef_next_59 (K : ef_F18) (x4 z0 f0_root f0_wayEnd f0_waiting am121 am122 am123 am124 am125 am126 am127 am128 am129 am1210 am1211 am1212 am1213 am1214 : Nat) : Bool :=
  ef_nextKey (fun r_54 =>
   eb_i3 (eb_klt r_54 (eb_ik 0)) (eb_kle (eb_ik 0) r_54)
    (K (eb_ik 4294967293) f0_root f0_wayEnd f0_waiting am121 am122 am123 am124 am125 am126 am127 am128 am129 am1210 am1211 am1212 am1213 am1214)
    (eb_i3 (eb_klt r_54 (eb_ik (eb_ad x4 128))) (eb_kle (eb_ik (eb_ad x4 128)) r_54)
     (eb_fc (eb_ks (eb_ks r_54 x4) 1) (fun fx1 =>
     K fx1 f0_root f0_wayEnd f0_waiting am121 am122 am123 am124 am125 am126 am127 am128 am129 am1210 am1211 am1212 am1213 am1214))
     (K (eb_ik 4294967293) f0_root f0_wayEnd f0_waiting am121 am122 am123 am124 am125 am126 am127 am128 am129 am1210 am1211 am1212 am1213 am1214))) f0_root f0_wayEnd f0_waiting am121 am122 am123 am124 am125 am126 am127 am128 am129 am1210 am1211 am1212 am1213 am1214 z0
noncomputable def ef_next (K : ef_F18) (f0_root f0_wayEnd f0_waiting a1 a2 a3 a4 a5 a6 a7 a8 a9 a10 a11 a12 a13 a14 p0 p1 : Nat) : Bool :=
  ef_isHandle (fun r_1 =>
   eb_if (eb_eq r_1 0)
    (K (eb_ik 4294967295) f0_root f0_wayEnd f0_waiting a1 a2 a3 a4 a5 a6 a7 a8 a9 a10 a11 a12 a13 a14)
    (ef_directoryFault (fun r_3 f0_root_4 f0_wayEnd_5 f0_waiting_6 am121_9 am122_12 am123_15 am124_18 am125_21 am126_24 am127_27 am128_30 am129_33 am1210_36 am1211_39 am1212_42 am1213_45 am1214_48 =>
     eb_if (eb_eq r_3 0)
      (eb_i3 (eb_kle p1 (eb_ik 98)) (eb_klt (eb_ik 98) p1)
       (eb_in p0 4 (
       eb_fc (eb_ml 256 (eb_gt am1211_39 p0)) (fun x4_52 =>
       eb_i3 (eb_kle (eb_ik 0) p1) (eb_klt p1 (eb_ik 0))
        (eb_fc (eb_ka p1 (eb_ad x4_52 1)) (fun fx2 =>
        ef_next_59 K x4_52 fx2 f0_root_4 f0_wayEnd_5 f0_waiting_6 am121_9 am122_12 am123_15 am124_18 am125_21 am126_24 am127_27 am128_30 am129_33 am1210_36 am1211_39 am1212_42 am1213_45 am1214_48))
        (eb_fc (eb_ik x4_52) (fun fx3 =>
        ef_next_59 K x4_52 fx3 f0_root_4 f0_wayEnd_5 f0_waiting_6 am121_9 am122_12 am123_15 am124_18 am125_21 am126_24 am127_27 am128_30 am129_33 am1210_36 am1211_39 am1212_42 am1213_45 am1214_48)))))
       (K (eb_ik 4294967293) f0_root_4 f0_wayEnd_5 f0_waiting_6 am121_9 am122_12 am123_15 am124_18 am125_21 am126_24 am127_27 am128_30 am129_33 am1210_36 am1211_39 am1212_42 am1213_45 am1214_48))
      (eb_fc (eb_ik r_3) (fun fx4 =>
      K fx4 f0_root_4 f0_wayEnd_5 f0_waiting_6 am121_9 am122_12 am123_15 am124_18 am125_21 am126_24 am127_27 am128_30 am129_33 am1210_36 am1211_39 am1212_42 am1213_45 am1214_48))) f0_root f0_wayEnd f0_waiting a1 a2 a3 a4 a5 a6 a7 a8 a9 a10 a11 a12 a13 a14 p0)) f0_root f0_wayEnd f0_waiting a1 a2 a3 a4 a5 a6 a7 a8 a9 a10 a11 a12 a13 a14 p0
noncomputable def ef_nodes_4_b (K : ef_F18) (ih : ef_F19) (x1 x2 f0_root f0_wayEnd f0_waiting a1 a2 a3 a4 a5 a6 a7 a8 a9 a10 a11 a12 a13 a14 : Nat) : Bool :=
  eb_if (eb_le 16 x2)
   (K x1 f0_root f0_wayEnd f0_waiting a1 a2 a3 a4 a5 a6 a7 a8 a9 a10 a11 a12 a13 a14)
   (eb_fc (eb_ik (eb_ml 256 x2)) (fun fx1 =>
   ef_get (fun r_2 f0_root_3 f0_wayEnd_4 f0_waiting_5 am161_8 am162_11 am163_14 am164_17 am165_20 am166_23 am167_26 am168_29 am169_32 am1610_35 am1611_38 am1612_41 am1613_44 am1614_47 =>
    eb_if (eb_lt r_2 0)
     (eb_fc (eb_ad x2 1) (fun x2_49 =>
     ih x1 x2_49 f0_root_3 f0_wayEnd_4 f0_waiting_5 am161_8 am162_11 am163_14 am164_17 am165_20 am166_23 am167_26 am168_29 am169_32 am1610_35 am1611_38 am1612_41 am1613_44 am1614_47))
     (eb_fc (eb_ad x1 1) (fun x1_50 =>
     eb_fc (eb_ad x2 1) (fun x2_51 =>
     ih x1_50 x2_51 f0_root_3 f0_wayEnd_4 f0_waiting_5 am161_8 am162_11 am163_14 am164_17 am165_20 am166_23 am167_26 am168_29 am169_32 am1610_35 am1611_38 am1612_41 am1613_44 am1614_47)))) f0_root f0_wayEnd f0_waiting a1 a2 a3 a4 a5 a6 a7 a8 a9 a10 a11 a12 a13 a14 fx1))
noncomputable def ef_nodes_4 (K : ef_F18) (n : Nat) : ef_F19 :=
  Nat.rec (motive := fun _ => ef_F19) (fun _ _ _ _ _ _ _ _ _ _ _ _ _ _ _ _ _ _ _ => false) (fun _ ih => ef_nodes_4_b K ih) n
noncomputable def ef_nodes (K : ef_F18) (f0_root f0_wayEnd f0_waiting a1 a2 a3 a4 a5 a6 a7 a8 a9 a10 a11 a12 a13 a14 : Nat) : Bool :=
  ef_nodes_4 K 120 0 0 f0_root f0_wayEnd f0_waiting a1 a2 a3 a4 a5 a6 a7 a8 a9 a10 a11 a12 a13 a14
noncomputable def ef_crash_44_b (K : ef_F18) (f0_root f0_wayEnd f0_waiting : Nat) (ih : ef_F15) (x2 a1 a2 a3 a4 a5 a6 a7 a8 a9 a10 a11 a12 a13 a14 : Nat) : Bool :=
  eb_if (eb_le 4 x2)
   (ef_settle (fun f0_root_9 f0_wayEnd_10 f0_waiting_11 am631_14 am632_17 am633_20 am634_23 am635_26 am636_29 am637_32 am638_35 am639_38 am6310_41 am6311_44 am6312_47 am6313_50 am6314_53 =>
    ef_validPlace (fun r_54 =>
     eb_in r_54 2 (
     eb_fc (eb_gt am638_35 r_54) (fun fx2 =>
     K fx2 f0_root_9 f0_wayEnd_10 f0_waiting_11 am631_14 am632_17 am633_20 am634_23 am635_26 am636_29 am637_32 am638_35 am639_38 am6310_41 am6311_44 am6312_47 am6313_50 am6314_53))) f0_root_9 f0_wayEnd_10 f0_waiting_11 am631_14 am632_17 am633_20 am634_23 am635_26 am636_29 am637_32 am638_35 am639_38 am6310_41 am6311_44 am6312_47 am6313_50 am6314_53) f0_root f0_wayEnd f0_waiting a1 a2 a3 a4 a5 a6 a7 a8 a9 a10 a11 a12 a13 a14)
   (eb_in x2 4 (
   eb_fc (eb_st a11 x2 4294967295) (fun a11_57 =>
   eb_fc (eb_ad x2 1) (fun x2_58 =>
   ih x2_58 a1 a2 a3 a4 a5 a6 a7 a8 a9 a10 a11_57 a12 a13 a14))))
noncomputable def ef_crash_44 (K : ef_F18) (f0_root f0_wayEnd f0_waiting : Nat) (n : Nat) : ef_F15 :=
  Nat.rec (motive := fun _ => ef_F15) (fun _ _ _ _ _ _ _ _ _ _ _ _ _ _ _ => false) (fun _ ih => ef_crash_44_b K f0_root f0_wayEnd f0_waiting ih) n
noncomputable def ef_crash_29 (K : ef_F18) (f0_root f0_wayEnd f0_waiting a1 a2 a3 a4 a5 a6 a7 a8 a9 a10 a11 a12 a13 a14 : Nat) : Bool :=
  ef_validPlace (fun r_4 =>
   eb_in r_4 2 (
   eb_fc (eb_gt a7 r_4) (fun f_6 =>
   ef_crash_44 K f_6 f0_wayEnd f0_waiting 120 1 a1 a2 a3 a4 a5 a6 a7 a8 a9 a10 a11 a12 a13 a14))) f0_root f0_wayEnd f0_waiting a1 a2 a3 a4 a5 a6 a7 a8 a9 a10 a11 a12 a13 a14
noncomputable def ef_crash_26 (K : ef_F18) (z0 f0_root f0_wayEnd f0_waiting a1 a2 a3 a4 a5 a6 a7 a8 a9 a10 a11 a12 a13 a14 : Nat) : Bool :=
  ef_writeRoot (fun f0_root_61 f0_wayEnd_62 f0_waiting_63 am261_66 am262_69 am263_72 am264_75 am265_78 am266_81 am267_84 am268_87 am269_90 am2610_93 am2611_96 am2612_99 am2613_102 am2614_105 =>
   ef_crash_29 K f0_root_61 f0_wayEnd_62 f0_waiting_63 am261_66 am262_69 am263_72 am264_75 am265_78 am266_81 am267_84 am268_87 am269_90 am2610_93 am2611_96 am2612_99 am2613_102 am2614_105) f0_root f0_wayEnd f0_waiting a1 a2 a3 a4 a5 a6 a7 a8 a9 a10 a11 a12 a13 a14 z0
noncomputable def ef_crash (K : ef_F18) (f0_root f0_wayEnd f0_waiting a1 a2 a3 a4 a5 a6 a7 a8 a9 a10 a11 a12 a13 a14 p0 : Nat) : Bool :=
  eb_if (eb_lt p0 0)
   (K 4294967295 f0_root f0_wayEnd f0_waiting a1 a2 a3 a4 a5 a6 a7 a8 a9 a10 a11 a12 a13 a14)
   (eb_if (eb_le p0 2)
    (eb_if (eb_le p0 0)
     (ef_crash_29 K f0_root f0_wayEnd f0_waiting a1 a2 a3 a4 a5 a6 a7 a8 a9 a10 a11 a12 a13 a14)
     (eb_if (eb_eq p0 1)
      (ef_crash_26 K 1 f0_root f0_wayEnd f0_waiting a1 a2 a3 a4 a5 a6 a7 a8 a9 a10 a11 a12 a13 a14)
      (ef_crash_26 K 0 f0_root f0_wayEnd f0_waiting a1 a2 a3 a4 a5 a6 a7 a8 a9 a10 a11 a12 a13 a14)))
    (K 4294967295 f0_root f0_wayEnd f0_waiting a1 a2 a3 a4 a5 a6 a7 a8 a9 a10 a11 a12 a13 a14))
noncomputable def ef_lawOf_894 (K : ef_F1) (JJ : ef_F18) (x4 x7 z0 z1 fm22_root fm22_wayEnd fm22_waiting am8731 am8732 am8733 am8734 am8735 am8736 am8737 am8738 am8739 am87310 am87311 am87312 am87313 am87314 : Nat) : Bool :=
  eb_if (eb_eq z1 z0)
   (eb_fc (eb_ad x7 1) (fun x7_2090 =>
   JJ x7_2090 fm22_root fm22_wayEnd fm22_waiting am8731 am8732 am8733 am8734 am8735 am8736 am8737 am8738 am8739 am87310 am87311 am87312 am87313 am87314))
   (K 0)
noncomputable def ef_lawOf_873 (K : ef_F1) (JJ : ef_F18) (x4 x7 z0 z1 z2 z3 fm22_root fm22_wayEnd fm22_waiting am8011 am8012 am8013 am8014 am8015 am8016 am8017 am8018 am8019 am80110 am80111 am80112 am80113 am80114 : Nat) : Bool :=
  eb_fc (eb_ik z1) (fun fx1 =>
  ef_make (fun r_2042 fm22_root_2043 fm22_wayEnd_2044 fm22_waiting_2045 am8731_2048 am8732_2051 am8733_2054 am8734_2057 am8735_2060 am8736_2063 am8737_2066 am8738_2069 am8739_2072 am87310_2075 am87311_2078 am87312_2081 am87313_2084 am87314_2087 =>
   eb_if (eb_le 16 (eb_ad (eb_ad x4 2) x7))
    (ef_lawOf_894 K JJ x4 x7 4294967294 r_2042 fm22_root_2043 fm22_wayEnd_2044 fm22_waiting_2045 am8731_2048 am8732_2051 am8733_2054 am8734_2057 am8735_2060 am8736_2063 am8737_2066 am8738_2069 am8739_2072 am87310_2075 am87311_2078 am87312_2081 am87313_2084 am87314_2087)
    (ef_lawOf_894 K JJ x4 x7 0 r_2042 fm22_root_2043 fm22_wayEnd_2044 fm22_waiting_2045 am8731_2048 am8732_2051 am8733_2054 am8734_2057 am8735_2060 am8736_2063 am8737_2066 am8738_2069 am8739_2072 am87310_2075 am87311_2078 am87312_2081 am87313_2084 am87314_2087)) fm22_root fm22_wayEnd fm22_waiting am8011 am8012 am8013 am8014 am8015 am8016 am8017 am8018 am8019 am80110 am80111 am80112 am80113 am80114 z3 z2 fx1 z0)
noncomputable def ef_lawOf_845_b (K : ef_F1) (x4 : Nat) (ih : ef_F18) (x7 fm22_root fm22_wayEnd fm22_waiting am8011 am8012 am8013 am8014 am8015 am8016 am8017 am8018 am8019 am80110 am80111 am80112 am80113 am80114 : Nat) : Bool :=
  eb_if (eb_le 16 x7)
   (ef_nodes (fun r_1899 fm22_root_1900 fm22_wayEnd_1901 fm22_waiting_1902 am9071_1905 am9072_1908 am9073_1911 am9074_1914 am9075_1917 am9076_1920 am9077_1923 am9078_1926 am9079_1929 am90710_1932 am90711_1935 am90712_1938 am90713_1941 am90714_1944 =>
    eb_if (eb_eq r_1899 16)
     (ef_crash (fun r_1946 fm22_root_1947 fm22_wayEnd_1948 fm22_waiting_1949 am9181_1952 am9182_1955 am9183_1958 am9184_1961 am9185_1964 am9186_1967 am9187_1970 am9188_1973 am9189_1976 am91810_1979 am91811_1982 am91812_1985 am91813_1988 am91814_1991 =>
      eb_if (eb_eq r_1946 4294967295)
       (ef_open (fun r_1993 fm22_root_1994 fm22_wayEnd_1995 fm22_waiting_1996 am9301_1999 am9302_2002 am9303_2005 am9304_2008 am9305_2011 am9306_2014 am9307_2017 am9308_2020 am9309_2023 am93010_2026 am93011_2029 am93012_2032 am93013_2035 am93014_2038 =>
        eb_if (eb_eq r_1993 4294967295)
         (K 1)
         (K 0)) fm22_root_1947 fm22_wayEnd_1948 fm22_waiting_1949 am9181_1952 am9182_1955 am9183_1958 am9184_1961 am9185_1964 am9186_1967 am9187_1970 am9188_1973 am9189_1976 am91810_1979 am91811_1982 am91812_1985 am91813_1988 am91814_1991 0 0 (eb_ik 1))
       (K 0)) fm22_root_1900 fm22_wayEnd_1901 fm22_waiting_1902 am9071_1905 am9072_1908 am9073_1911 am9074_1914 am9075_1917 am9076_1920 am9077_1923 am9078_1926 am9079_1929 am90710_1932 am90711_1935 am90712_1938 am90713_1941 am90714_1944 3)
     (K 0)) fm22_root fm22_wayEnd fm22_waiting am8011 am8012 am8013 am8014 am8015 am8016 am8017 am8018 am8019 am80110 am80111 am80112 am80113 am80114)
   (eb_g (eb_sm x7) (
   eb_if (eb_eq (eb_sb x7 (eb_ml (eb_dv x7 2) 2)) 0)
    (eb_fc (eb_sb 99 x7) (fun fx2 =>
    ef_lawOf_873 K ih x4 x7 1 fx2 1 3 fm22_root fm22_wayEnd fm22_waiting am8011 am8012 am8013 am8014 am8015 am8016 am8017 am8018 am8019 am80110 am80111 am80112 am80113 am80114))
    (eb_fc (eb_sb 99 x7) (fun fx3 =>
    ef_lawOf_873 K ih x4 x7 0 fx3 1 3 fm22_root fm22_wayEnd fm22_waiting am8011 am8012 am8013 am8014 am8015 am8016 am8017 am8018 am8019 am80110 am80111 am80112 am80113 am80114))))
noncomputable def ef_lawOf_845 (K : ef_F1) (x4 : Nat) (n : Nat) : ef_F18 :=
  Nat.rec (motive := fun _ => ef_F18) (fun _ _ _ _ _ _ _ _ _ _ _ _ _ _ _ _ _ _ => false) (fun _ ih => ef_lawOf_845_b K x4 ih) n
noncomputable def ef_lawOf_812_b (K : ef_F1) (x2 x4 : Nat) (ih : ef_F18) (x7 fm22_root fm22_wayEnd fm22_waiting am8011 am8012 am8013 am8014 am8015 am8016 am8017 am8018 am8019 am80110 am80111 am80112 am80113 am80114 : Nat) : Bool :=
  eb_if (eb_le 32 x7)
   (ef_lawOf_845 K x4 120 0 fm22_root fm22_wayEnd fm22_waiting am8011 am8012 am8013 am8014 am8015 am8016 am8017 am8018 am8019 am80110 am80111 am80112 am80113 am80114)
   (ef_read (fun r_2091 fm22_root_2092 fm22_wayEnd_2093 fm22_waiting_2094 am8241_2097 am8242_2100 am8243_2103 am8244_2106 am8245_2109 am8246_2112 am8247_2115 am8248_2118 am8249_2121 am82410_2124 am82411_2127 am82412_2130 am82413_2133 am82414_2136 =>
    eb_i3 (eb_keq r_2091 (eb_ka x2 x7)) (eb_kne r_2091 (eb_ka x2 x7))
     (eb_fc (eb_ad x7 1) (fun x7_2138 =>
     ih x7_2138 fm22_root_2092 fm22_wayEnd_2093 fm22_waiting_2094 am8241_2097 am8242_2100 am8243_2103 am8244_2106 am8245_2109 am8246_2112 am8247_2115 am8248_2118 am8249_2121 am82410_2124 am82411_2127 am82412_2130 am82413_2133 am82414_2136))
     (K 0)) fm22_root fm22_wayEnd fm22_waiting am8011 am8012 am8013 am8014 am8015 am8016 am8017 am8018 am8019 am80110 am80111 am80112 am80113 am80114 2 x7)
noncomputable def ef_lawOf_812 (K : ef_F1) (x2 x4 : Nat) (n : Nat) : ef_F18 :=
  Nat.rec (motive := fun _ => ef_F18) (fun _ _ _ _ _ _ _ _ _ _ _ _ _ _ _ _ _ _ => false) (fun _ ih => ef_lawOf_812_b K x2 x4 ih) n
noncomputable def ef_lawOf_765_b (K : ef_F1) (x2 x4 x5 : Nat) (ih : ef_F18) (x7 fm22_root fm22_wayEnd fm22_waiting am7541 am7542 am7543 am7544 am7545 am7546 am7547 am7548 am7549 am75410 am75411 am75412 am75413 am75414 : Nat) : Bool :=
  eb_if (eb_le x4 x7)
   (ef_open (fun r_1850 fm22_root_1851 fm22_wayEnd_1852 fm22_waiting_1853 am8011_1856 am8012_1859 am8013_1862 am8014_1865 am8015_1868 am8016_1871 am8017_1874 am8018_1877 am8019_1880 am80110_1883 am80111_1886 am80112_1889 am80113_1892 am80114_1895 =>
    eb_if (eb_eq r_1850 0)
     (ef_lawOf_812 K x2 x4 120 0 fm22_root_1851 fm22_wayEnd_1852 fm22_waiting_1853 am8011_1856 am8012_1859 am8013_1862 am8014_1865 am8015_1868 am8016_1871 am8017_1874 am8018_1877 am8019_1880 am80110_1883 am80111_1886 am80112_1889 am80113_1892 am80114_1895)
     (K 0)) fm22_root fm22_wayEnd fm22_waiting am7541 am7542 am7543 am7544 am7545 am7546 am7547 am7548 am7549 am75410 am75411 am75412 am75413 am75414 2 1 x5)
   (eb_fc (eb_ka x5 x7) (fun fx1 =>
   ef_open (fun r_2139 fm22_root_2140 fm22_wayEnd_2141 fm22_waiting_2142 am7811_2145 am7812_2148 am7813_2151 am7814_2154 am7815_2157 am7816_2160 am7817_2163 am7818_2166 am7819_2169 am78110_2172 am78111_2175 am78112_2178 am78113_2181 am78114_2184 =>
    eb_if (eb_eq r_2139 0)
     (eb_fc (eb_ad x7 1) (fun x7_2186 =>
     ih x7_2186 fm22_root_2140 fm22_wayEnd_2141 fm22_waiting_2142 am7811_2145 am7812_2148 am7813_2151 am7814_2154 am7815_2157 am7816_2160 am7817_2163 am7818_2166 am7819_2169 am78110_2172 am78111_2175 am78112_2178 am78113_2181 am78114_2184))
     (K 0)) fm22_root fm22_wayEnd fm22_waiting am7541 am7542 am7543 am7544 am7545 am7546 am7547 am7548 am7549 am75410 am75411 am75412 am75413 am75414 1 1 fx1))
noncomputable def ef_lawOf_765 (K : ef_F1) (x2 x4 x5 : Nat) (n : Nat) : ef_F18 :=
  Nat.rec (motive := fun _ => ef_F18) (fun _ _ _ _ _ _ _ _ _ _ _ _ _ _ _ _ _ _ => false) (fun _ ih => ef_lawOf_765_b K x2 x4 x5 ih) n
noncomputable def ef_lawOf_662 (K : ef_F1) (x2 x3 x4 x5 z0 z1 fm22_root fm22_wayEnd fm22_waiting am6461 am6462 am6463 am6464 am6465 am6466 am6467 am6468 am6469 am64610 am64611 am64612 am64613 am64614 : Nat) : Bool :=
  eb_if (eb_eq z1 z0)
   (ef_erase (fun r_1473 fm22_root_1474 fm22_wayEnd_1475 fm22_waiting_1476 am6701_1479 am6702_1482 am6703_1485 am6704_1488 am6705_1491 am6706_1494 am6707_1497 am6708_1500 am6709_1503 am67010_1506 am67011_1509 am67012_1512 am67013_1515 am67014_1518 =>
    eb_if (eb_eq r_1473 4294967293)
     (ef_nodes (fun r_1520 fm22_root_1521 fm22_wayEnd_1522 fm22_waiting_1523 am6801_1526 am6802_1529 am6803_1532 am6804_1535 am6805_1538 am6806_1541 am6807_1544 am6808_1547 am6809_1550 am68010_1553 am68011_1556 am68012_1559 am68013_1562 am68014_1565 =>
      eb_if (eb_eq r_1520 (eb_ad x4 4))
       (eb_fk (fun fk1 =>
       eb_fc (eb_ml 2 fk1) (fun fx2 =>
       ef_crash (fun r_1567 fm22_root_1568 fm22_wayEnd_1569 fm22_waiting_1570 am6991_1573 am6992_1576 am6993_1579 am6994_1582 am6995_1585 am6996_1588 am6997_1591 am6998_1594 am6999_1597 am69910_1600 am69911_1603 am69912_1606 am69913_1609 am69914_1612 =>
        eb_if (eb_eq r_1567 1)
         (ef_nodes (fun r_1614 fm22_root_1615 fm22_wayEnd_1616 fm22_waiting_1617 am7081_1620 am7082_1623 am7083_1626 am7084_1629 am7085_1632 am7086_1635 am7087_1638 am7088_1641 am7089_1644 am70810_1647 am70811_1650 am70812_1653 am70813_1656 am70814_1659 =>
          eb_if (eb_eq r_1614 (eb_ad x4 2))
           (ef_copies (fun r_1661 fm22_root_1662 fm22_wayEnd_1663 fm22_waiting_1664 am7201_1667 am7202_1670 am7203_1673 am7204_1676 am7205_1679 am7206_1682 am7207_1685 am7208_1688 am7209_1691 am72010_1694 am72011_1697 am72012_1700 am72013_1703 am72014_1706 =>
            eb_if (eb_eq r_1661 8)
             (ef_kind (fun r_1708 fm22_root_1709 fm22_wayEnd_1710 fm22_waiting_1711 am7311_1714 am7312_1717 am7313_1720 am7314_1723 am7315_1726 am7316_1729 am7317_1732 am7318_1735 am7319_1738 am73110_1741 am73111_1744 am73112_1747 am73113_1750 am73114_1753 =>
              eb_if (eb_eq r_1708 0)
               (ef_size (fun r_1755 fm22_root_1756 fm22_wayEnd_1757 fm22_waiting_1758 am7401_1761 am7402_1764 am7403_1767 am7404_1770 am7405_1773 am7406_1776 am7407_1779 am7408_1782 am7409_1785 am74010_1788 am74011_1791 am74012_1794 am74013_1797 am74014_1800 =>
                eb_if (eb_eq r_1755 1)
                 (ef_open (fun r_1802 fm22_root_1803 fm22_wayEnd_1804 fm22_waiting_1805 am7541_1808 am7542_1811 am7543_1814 am7544_1817 am7545_1820 am7546_1823 am7547_1826 am7548_1829 am7549_1832 am75410_1835 am75411_1838 am75412_1841 am75413_1844 am75414_1847 =>
                  eb_if (eb_eq r_1802 0)
                   (ef_lawOf_765 K x2 x4 x5 120 0 fm22_root_1803 fm22_wayEnd_1804 fm22_waiting_1805 am7541_1808 am7542_1811 am7543_1814 am7544_1817 am7545_1820 am7546_1823 am7547_1826 am7548_1829 am7549_1832 am75410_1835 am75411_1838 am75412_1841 am75413_1844 am75414_1847)
                   (K 0)) fm22_root_1756 fm22_wayEnd_1757 fm22_waiting_1758 am7401_1761 am7402_1764 am7403_1767 am7404_1770 am7405_1773 am7406_1776 am7407_1779 am7408_1782 am7409_1785 am74010_1788 am74011_1791 am74012_1794 am74013_1797 am74014_1800 1 0 (eb_ik 4294967295))
                 (K 0)) fm22_root_1709 fm22_wayEnd_1710 fm22_waiting_1711 am7311_1714 am7312_1717 am7313_1720 am7314_1723 am7315_1726 am7316_1729 am7317_1732 am7318_1735 am7319_1738 am73110_1741 am73111_1744 am73112_1747 am73113_1750 am73114_1753 0)
               (K 0)) fm22_root_1662 fm22_wayEnd_1663 fm22_waiting_1664 am7201_1667 am7202_1670 am7203_1673 am7204_1676 am7205_1679 am7206_1682 am7207_1685 am7208_1688 am7209_1691 am72010_1694 am72011_1697 am72012_1700 am72013_1703 am72014_1706 1)
             (K 0)) fm22_root_1615 fm22_wayEnd_1616 fm22_waiting_1617 am7081_1620 am7082_1623 am7083_1626 am7084_1629 am7085_1632 am7086_1635 am7087_1638 am7088_1641 am7089_1644 am70810_1647 am70811_1650 am70812_1653 am70813_1656 am70814_1659)
           (K 0)) fm22_root_1568 fm22_wayEnd_1569 fm22_waiting_1570 am6991_1573 am6992_1576 am6993_1579 am6994_1582 am6995_1585 am6996_1588 am6997_1591 am6998_1594 am6999_1597 am69910_1600 am69911_1603 am69912_1606 am69913_1609 am69914_1612)
         (K 0)) fm22_root_1521 fm22_wayEnd_1522 fm22_waiting_1523 am6801_1526 am6802_1529 am6803_1532 am6804_1535 am6805_1538 am6806_1541 am6807_1544 am6808_1547 am6809_1550 am68010_1553 am68011_1556 am68012_1559 am68013_1562 am68014_1565 fx2)))
       (K 0)) fm22_root_1474 fm22_wayEnd_1475 fm22_waiting_1476 am6701_1479 am6702_1482 am6703_1485 am6704_1488 am6705_1491 am6706_1494 am6707_1497 am6708_1500 am6709_1503 am67010_1506 am67011_1509 am67012_1512 am67013_1515 am67014_1518)
     (K 0)) fm22_root fm22_wayEnd fm22_waiting am6461 am6462 am6463 am6464 am6465 am6466 am6467 am6468 am6469 am64610 am64611 am64612 am64613 am64614 0 (eb_ik 97))
   (K 0)
noncomputable def ef_lawOf_453_b (K : ef_F1) (x2 x3 x4 x5 : Nat) (ih : ef_F18) (x7 fm22_root fm22_wayEnd fm22_waiting am4421 am4422 am4423 am4424 am4425 am4426 am4427 am4428 am4429 am44210 am44211 am44212 am44213 am44214 : Nat) : Bool :=
  eb_if (eb_le x4 x7)
   (ef_rename (fun r_908 fm22_root_909 fm22_wayEnd_910 fm22_waiting_911 am4911_914 am4912_917 am4913_920 am4914_923 am4915_926 am4916_929 am4917_932 am4918_935 am4919_938 am49110_941 am49111_944 am49112_947 am49113_950 am49114_953 =>
    eb_if (eb_eq r_908 4294967289)
     (ef_rename (fun r_955 fm22_root_956 fm22_wayEnd_957 fm22_waiting_958 am5071_961 am5072_964 am5073_967 am5074_970 am5075_973 am5076_976 am5077_979 am5078_982 am5079_985 am50710_988 am50711_991 am50712_994 am50713_997 am50714_1000 =>
      eb_if (eb_eq r_955 4294967291)
       (ef_rename (fun r_1002 fm22_root_1003 fm22_wayEnd_1004 fm22_waiting_1005 am5221_1008 am5222_1011 am5223_1014 am5224_1017 am5225_1020 am5226_1023 am5227_1026 am5228_1029 am5229_1032 am52210_1035 am52211_1038 am52212_1041 am52213_1044 am52214_1047 =>
        eb_if (eb_eq r_1002 4294967292)
         (eb_fc (eb_ka x5 1) (fun fx1 =>
         ef_rename (fun r_1049 fm22_root_1050 fm22_wayEnd_1051 fm22_waiting_1052 am5421_1055 am5422_1058 am5423_1061 am5424_1064 am5425_1067 am5426_1070 am5427_1073 am5428_1076 am5429_1079 am54210_1082 am54211_1085 am54212_1088 am54213_1091 am54214_1094 =>
          eb_if (eb_eq r_1049 0)
           (ef_size (fun r_1096 fm22_root_1097 fm22_wayEnd_1098 fm22_waiting_1099 am5511_1102 am5512_1105 am5513_1108 am5514_1111 am5515_1114 am5516_1117 am5517_1120 am5518_1123 am5519_1126 am55110_1129 am55111_1132 am55112_1135 am55113_1138 am55114_1141 =>
            eb_if (eb_eq r_1096 0)
             (ef_size (fun r_1143 fm22_root_1144 fm22_wayEnd_1145 fm22_waiting_1146 am5601_1149 am5602_1152 am5603_1155 am5604_1158 am5605_1161 am5606_1164 am5607_1167 am5608_1170 am5609_1173 am56010_1176 am56011_1179 am56012_1182 am56013_1185 am56014_1188 =>
              eb_if (eb_eq r_1143 4)
               (eb_fc (eb_ka x5 1) (fun fx2 =>
               ef_erase (fun r_1190 fm22_root_1191 fm22_wayEnd_1192 fm22_waiting_1193 am5741_1196 am5742_1199 am5743_1202 am5744_1205 am5745_1208 am5746_1211 am5747_1214 am5748_1217 am5749_1220 am57410_1223 am57411_1226 am57412_1229 am57413_1232 am57414_1235 =>
                eb_if (eb_eq r_1190 4294967290)
                 (ef_next (fun r_1237 fm22_root_1238 fm22_wayEnd_1239 fm22_waiting_1240 am5881_1243 am5882_1246 am5883_1249 am5884_1252 am5885_1255 am5886_1258 am5887_1261 am5888_1264 am5889_1267 am58810_1270 am58811_1273 am58812_1276 am58813_1279 am58814_1282 =>
                  eb_i3 (eb_keq r_1237 x5) (eb_kne r_1237 x5)
                   (ef_next (fun r_1284 fm22_root_1285 fm22_wayEnd_1286 fm22_waiting_1287 am6011_1290 am6012_1293 am6013_1296 am6014_1299 am6015_1302 am6016_1305 am6017_1308 am6018_1311 am6019_1314 am60110_1317 am60111_1320 am60112_1323 am60113_1326 am60114_1329 =>
                    eb_i3 (eb_keq r_1284 (eb_ka x5 1)) (eb_kne r_1284 (eb_ka x5 1))
                     (eb_fc (eb_ka x5 1) (fun fx3 =>
                     ef_next (fun r_1331 fm22_root_1332 fm22_wayEnd_1333 fm22_waiting_1334 am6181_1337 am6182_1340 am6183_1343 am6184_1346 am6185_1349 am6186_1352 am6187_1355 am6188_1358 am6189_1361 am61810_1364 am61811_1367 am61812_1370 am61813_1373 am61814_1376 =>
                      eb_i3 (eb_keq r_1331 (eb_ik 98)) (eb_kne r_1331 (eb_ik 98))
                       (ef_next (fun r_1378 fm22_root_1379 fm22_wayEnd_1380 fm22_waiting_1381 am6311_1384 am6312_1387 am6313_1390 am6314_1393 am6315_1396 am6316_1399 am6317_1402 am6318_1405 am6319_1408 am63110_1411 am63111_1414 am63112_1417 am63113_1420 am63114_1423 =>
                        eb_i3 (eb_keq r_1378 (eb_ik 4294967293)) (eb_kne r_1378 (eb_ik 4294967293))
                         (ef_erase (fun r_1425 fm22_root_1426 fm22_wayEnd_1427 fm22_waiting_1428 am6461_1431 am6462_1434 am6463_1437 am6464_1440 am6465_1443 am6466_1446 am6467_1449 am6468_1452 am6469_1455 am64610_1458 am64611_1461 am64612_1464 am64613_1467 am64614_1470 =>
                          eb_if (eb_eq x4 1)
                           (ef_lawOf_662 K x2 x3 x4 x5 4294967290 r_1425 fm22_root_1426 fm22_wayEnd_1427 fm22_waiting_1428 am6461_1431 am6462_1434 am6463_1437 am6464_1440 am6465_1443 am6466_1446 am6467_1449 am6468_1452 am6469_1455 am64610_1458 am64611_1461 am64612_1464 am64613_1467 am64614_1470)
                           (ef_lawOf_662 K x2 x3 x4 x5 4294967294 r_1425 fm22_root_1426 fm22_wayEnd_1427 fm22_waiting_1428 am6461_1431 am6462_1434 am6463_1437 am6464_1440 am6465_1443 am6466_1446 am6467_1449 am6468_1452 am6469_1455 am64610_1458 am64611_1461 am64612_1464 am64613_1467 am64614_1470)) fm22_root_1379 fm22_wayEnd_1380 fm22_waiting_1381 am6311_1384 am6312_1387 am6313_1390 am6314_1393 am6315_1396 am6316_1399 am6317_1402 am6318_1405 am6319_1408 am63110_1411 am63111_1414 am63112_1417 am63113_1420 am63114_1423 0 x5)
                         (K 0)) fm22_root_1332 fm22_wayEnd_1333 fm22_waiting_1334 am6181_1337 am6182_1340 am6183_1343 am6184_1346 am6185_1349 am6186_1352 am6187_1355 am6188_1358 am6189_1361 am61810_1364 am61811_1367 am61812_1370 am61813_1373 am61814_1376 0 (eb_ik 99))
                       (K 0)) fm22_root_1285 fm22_wayEnd_1286 fm22_waiting_1287 am6011_1290 am6012_1293 am6013_1296 am6014_1299 am6015_1302 am6016_1305 am6017_1308 am6018_1311 am6019_1314 am60110_1317 am60111_1320 am60112_1323 am60113_1326 am60114_1329 0 fx3))
                     (K 0)) fm22_root_1238 fm22_wayEnd_1239 fm22_waiting_1240 am5881_1243 am5882_1246 am5883_1249 am5884_1252 am5885_1255 am5886_1258 am5887_1261 am5888_1264 am5889_1267 am58810_1270 am58811_1273 am58812_1276 am58813_1279 am58814_1282 0 x5)
                   (K 0)) fm22_root_1191 fm22_wayEnd_1192 fm22_waiting_1193 am5741_1196 am5742_1199 am5743_1202 am5744_1205 am5745_1208 am5746_1211 am5747_1214 am5748_1217 am5749_1220 am57410_1223 am57411_1226 am57412_1229 am57413_1232 am57414_1235 0 (eb_ik 4294967295))
                 (K 0)) fm22_root_1144 fm22_wayEnd_1145 fm22_waiting_1146 am5601_1149 am5602_1152 am5603_1155 am5604_1158 am5605_1161 am5606_1164 am5607_1167 am5608_1170 am5609_1173 am56010_1176 am56011_1179 am56012_1182 am56013_1185 am56014_1188 0 fx2))
               (K 0)) fm22_root_1097 fm22_wayEnd_1098 fm22_waiting_1099 am5511_1102 am5512_1105 am5513_1108 am5514_1111 am5515_1114 am5516_1117 am5517_1120 am5518_1123 am5519_1126 am55110_1129 am55111_1132 am55112_1135 am55113_1138 am55114_1141 0)
             (K 0)) fm22_root_1050 fm22_wayEnd_1051 fm22_waiting_1052 am5421_1055 am5422_1058 am5423_1061 am5424_1064 am5425_1067 am5426_1070 am5427_1073 am5428_1076 am5429_1079 am54210_1082 am54211_1085 am54212_1088 am54213_1091 am54214_1094 1)
           (K 0)) fm22_root_1003 fm22_wayEnd_1004 fm22_waiting_1005 am5221_1008 am5222_1011 am5223_1014 am5224_1017 am5225_1020 am5226_1023 am5227_1026 am5228_1029 am5229_1032 am52210_1035 am52211_1038 am52212_1041 am52213_1044 am52214_1047 1 x5 0 fx1))
         (K 0)) fm22_root_956 fm22_wayEnd_957 fm22_waiting_958 am5071_961 am5072_964 am5073_967 am5074_970 am5075_973 am5076_976 am5077_979 am5078_982 am5079_985 am50710_988 am50711_991 am50712_994 am50713_997 am50714_1000 1 x5 3 (eb_ik 5))
       (K 0)) fm22_root_909 fm22_wayEnd_910 fm22_waiting_911 am4911_914 am4912_917 am4913_920 am4914_923 am4915_926 am4916_929 am4917_932 am4918_935 am4919_938 am49110_941 am49111_944 am49112_947 am49113_950 am49114_953 1 x5 0 (eb_ik 99))
     (K 0)) fm22_root fm22_wayEnd fm22_waiting am4421 am4422 am4423 am4424 am4425 am4426 am4427 am4428 am4429 am44210 am44211 am44212 am44213 am44214 0 x5 1 (eb_ik 97))
   (eb_fc (eb_ka x5 x7) (fun fx4 =>
   ef_open (fun r_2187 fm22_root_2188 fm22_wayEnd_2189 fm22_waiting_2190 am4691_2193 am4692_2196 am4693_2199 am4694_2202 am4695_2205 am4696_2208 am4697_2211 am4698_2214 am4699_2217 am46910_2220 am46911_2223 am46912_2226 am46913_2229 am46914_2232 =>
    eb_if (eb_eq r_2187 0)
     (eb_fc (eb_ad x7 1) (fun x7_2234 =>
     ih x7_2234 fm22_root_2188 fm22_wayEnd_2189 fm22_waiting_2190 am4691_2193 am4692_2196 am4693_2199 am4694_2202 am4695_2205 am4696_2208 am4697_2211 am4698_2214 am4699_2217 am46910_2220 am46911_2223 am46912_2226 am46913_2229 am46914_2232))
     (K 0)) fm22_root fm22_wayEnd fm22_waiting am4421 am4422 am4423 am4424 am4425 am4426 am4427 am4428 am4429 am44210 am44211 am44212 am44213 am44214 1 1 fx4))
noncomputable def ef_lawOf_453 (K : ef_F1) (x2 x3 x4 x5 : Nat) (n : Nat) : ef_F18 :=
  Nat.rec (motive := fun _ => ef_F18) (fun _ _ _ _ _ _ _ _ _ _ _ _ _ _ _ _ _ _ => false) (fun _ ih => ef_lawOf_453_b K x2 x3 x4 x5 ih) n
noncomputable def ef_lawOf_247_b (K : ef_F1) (x2 x3 x4 x5 : Nat) (ih : ef_F18) (x7 fm22_root fm22_wayEnd fm22_waiting am2361 am2362 am2363 am2364 am2365 am2366 am2367 am2368 am2369 am23610 am23611 am23612 am23613 am23614 : Nat) : Bool :=
  eb_if (eb_le 8 x7)
   (ef_make (fun r_343 fm22_root_344 fm22_wayEnd_345 fm22_waiting_346 am3151_349 am3152_352 am3153_355 am3154_358 am3155_361 am3156_364 am3157_367 am3158_370 am3159_373 am31510_376 am31511_379 am31512_382 am31513_385 am31514_388 =>
    eb_if (eb_eq r_343 0)
     (ef_write (fun r_390 fm22_root_391 fm22_wayEnd_392 fm22_waiting_393 am3261_396 am3262_399 am3263_402 am3264_405 am3265_408 am3266_411 am3267_414 am3268_417 am3269_420 am32610_423 am32611_426 am32612_429 am32613_432 am32614_435 =>
      eb_if (eb_eq r_390 4294967294)
       (ef_write (fun r_437 fm22_root_438 fm22_wayEnd_439 fm22_waiting_440 am3401_443 am3402_446 am3403_449 am3404_452 am3405_455 am3406_458 am3407_461 am3408_464 am3409_467 am34010_470 am34011_473 am34012_476 am34013_479 am34014_482 =>
        eb_if (eb_eq r_437 0)
         (ef_read (fun r_484 fm22_root_485 fm22_wayEnd_486 fm22_waiting_487 am3501_490 am3502_493 am3503_496 am3504_499 am3505_502 am3506_505 am3507_508 am3508_511 am3509_514 am35010_517 am35011_520 am35012_523 am35013_526 am35014_529 =>
          eb_i3 (eb_keq r_484 (eb_ik 0)) (eb_kne r_484 (eb_ik 0))
           (ef_size (fun r_531 fm22_root_532 fm22_wayEnd_533 fm22_waiting_534 am3591_537 am3592_540 am3593_543 am3594_546 am3595_549 am3596_552 am3597_555 am3598_558 am3599_561 am35910_564 am35911_567 am35912_570 am35913_573 am35914_576 =>
            eb_if (eb_eq r_531 0)
             (ef_read (fun r_578 fm22_root_579 fm22_wayEnd_580 fm22_waiting_581 am3711_584 am3712_587 am3713_590 am3714_593 am3715_596 am3716_599 am3717_602 am3718_605 am3719_608 am37110_611 am37111_614 am37112_617 am37113_620 am37114_623 =>
              eb_i3 (eb_keq r_578 x3) (eb_kne r_578 x3)
               (ef_read (fun r_625 fm22_root_626 fm22_wayEnd_627 fm22_waiting_628 am3821_631 am3822_634 am3823_637 am3824_640 am3825_643 am3826_646 am3827_649 am3828_652 am3829_655 am38210_658 am38211_661 am38212_664 am38213_667 am38214_670 =>
                eb_i3 (eb_keq r_625 (eb_ka x2 2)) (eb_kne r_625 (eb_ka x2 2))
                 (ef_cut (fun r_672 fm22_root_673 fm22_wayEnd_674 fm22_waiting_675 am3951_678 am3952_681 am3953_684 am3954_687 am3955_690 am3956_693 am3957_696 am3958_699 am3959_702 am39510_705 am39511_708 am39512_711 am39513_714 am39514_717 =>
                  eb_if (eb_eq r_672 5)
                   (ef_copies (fun r_719 fm22_root_720 fm22_wayEnd_721 fm22_waiting_722 am4041_725 am4042_728 am4043_731 am4044_734 am4045_737 am4046_740 am4047_743 am4048_746 am4049_749 am40410_752 am40411_755 am40412_758 am40413_761 am40414_764 =>
                    eb_if (eb_eq r_719 19)
                     (ef_read (fun r_766 fm22_root_767 fm22_wayEnd_768 fm22_waiting_769 am4171_772 am4172_775 am4173_778 am4174_781 am4175_784 am4176_787 am4177_790 am4178_793 am4179_796 am41710_799 am41711_802 am41712_805 am41713_808 am41714_811 =>
                      eb_i3 (eb_keq r_766 (eb_ik 0)) (eb_kne r_766 (eb_ik 0))
                       (ef_write (fun r_813 fm22_root_814 fm22_wayEnd_815 fm22_waiting_816 am4281_819 am4282_822 am4283_825 am4284_828 am4285_831 am4286_834 am4287_837 am4288_840 am4289_843 am42810_846 am42811_849 am42812_852 am42813_855 am42814_858 =>
                        eb_if (eb_eq r_813 0)
                         (ef_open (fun r_860 fm22_root_861 fm22_wayEnd_862 fm22_waiting_863 am4421_866 am4422_869 am4423_872 am4424_875 am4425_878 am4426_881 am4427_884 am4428_887 am4429_890 am44210_893 am44211_896 am44212_899 am44213_902 am44214_905 =>
                          eb_if (eb_eq r_860 0)
                           (ef_lawOf_453 K x2 x3 x4 x5 120 1 fm22_root_861 fm22_wayEnd_862 fm22_waiting_863 am4421_866 am4422_869 am4423_872 am4424_875 am4425_878 am4426_881 am4427_884 am4428_887 am4429_890 am44210_893 am44211_896 am44212_899 am44213_902 am44214_905)
                           (K 0)) fm22_root_814 fm22_wayEnd_815 fm22_waiting_816 am4281_819 am4282_822 am4283_825 am4284_828 am4285_831 am4286_834 am4287_837 am4288_840 am4289_843 am42810_846 am42811_849 am42812_852 am42813_855 am42814_858 1 0 x5)
                         (K 0)) fm22_root_767 fm22_wayEnd_768 fm22_waiting_769 am4171_772 am4172_775 am4173_778 am4174_781 am4175_784 am4176_787 am4177_790 am4178_793 am4179_796 am41710_799 am41711_802 am41712_805 am41713_808 am41714_811 1 0 (eb_ik 1))
                       (K 0)) fm22_root_720 fm22_wayEnd_721 fm22_waiting_722 am4041_725 am4042_728 am4043_731 am4044_734 am4045_737 am4046_740 am4047_743 am4048_746 am4049_749 am40410_752 am40411_755 am40412_758 am40413_761 am40414_764 3 31)
                     (K 0)) fm22_root_673 fm22_wayEnd_674 fm22_waiting_675 am3951_678 am3952_681 am3953_684 am3954_687 am3955_690 am3956_693 am3957_696 am3958_699 am3959_702 am39510_705 am39511_708 am39512_711 am39513_714 am39514_717)
                   (K 0)) fm22_root_626 fm22_wayEnd_627 fm22_waiting_628 am3821_631 am3822_634 am3823_637 am3824_640 am3825_643 am3826_646 am3827_649 am3828_652 am3829_655 am38210_658 am38211_661 am38212_664 am38213_667 am38214_670 3 3)
                 (K 0)) fm22_root_579 fm22_wayEnd_580 fm22_waiting_581 am3711_584 am3712_587 am3713_590 am3714_593 am3715_596 am3716_599 am3717_602 am3718_605 am3719_608 am37110_611 am37111_614 am37112_617 am37113_620 am37114_623 2 2)
               (K 0)) fm22_root_532 fm22_wayEnd_533 fm22_waiting_534 am3591_537 am3592_540 am3593_543 am3594_546 am3595_549 am3596_552 am3597_555 am3598_558 am3599_561 am35910_564 am35911_567 am35912_570 am35913_573 am35914_576 2 1)
             (K 0)) fm22_root_485 fm22_wayEnd_486 fm22_waiting_487 am3501_490 am3502_493 am3503_496 am3504_499 am3505_502 am3506_505 am3507_508 am3508_511 am3509_514 am35010_517 am35011_520 am35012_523 am35013_526 am35014_529 1)
           (K 0)) fm22_root_438 fm22_wayEnd_439 fm22_waiting_440 am3401_443 am3402_446 am3403_449 am3404_452 am3405_455 am3406_458 am3407_461 am3408_464 am3409_467 am34010_470 am34011_473 am34012_476 am34013_479 am34014_482 1 0)
         (K 0)) fm22_root_391 fm22_wayEnd_392 fm22_waiting_393 am3261_396 am3262_399 am3263_402 am3264_405 am3265_408 am3266_411 am3267_414 am3268_417 am3269_420 am32610_423 am32611_426 am32612_429 am32613_432 am32614_435 3 31 (eb_ik 5))
       (K 0)) fm22_root_344 fm22_wayEnd_345 fm22_waiting_346 am3151_349 am3152_352 am3153_355 am3154_358 am3155_361 am3156_364 am3157_367 am3158_370 am3159_373 am31510_376 am31511_379 am31512_382 am31513_385 am31514_388 1 0 (eb_ik 1))
     (K 0)) fm22_root fm22_wayEnd fm22_waiting am2361 am2362 am2363 am2364 am2365 am2366 am2367 am2368 am2369 am23610 am23611 am23612 am23613 am23614 1 0 (eb_ik 98) 0)
   (eb_fc (eb_ml 4 x7) (fun fx1 =>
   eb_fc (eb_ik x7) (fun fx2 =>
   ef_write (fun r_2235 fm22_root_2236 fm22_wayEnd_2237 fm22_waiting_2238 am2631_2241 am2632_2244 am2633_2247 am2634_2250 am2635_2253 am2636_2256 am2637_2259 am2638_2262 am2639_2265 am26310_2268 am26311_2271 am26312_2274 am26313_2277 am26314_2280 =>
    eb_if (eb_eq r_2235 0)
     (eb_fc (eb_ad (eb_ml 4 x7) 1) (fun fx3 =>
     ef_write (fun r_2282 fm22_root_2283 fm22_wayEnd_2284 fm22_waiting_2285 am2791_2288 am2792_2291 am2793_2294 am2794_2297 am2795_2300 am2796_2303 am2797_2306 am2798_2309 am2799_2312 am27910_2315 am27911_2318 am27912_2321 am27913_2324 am27914_2327 =>
      eb_if (eb_eq r_2282 0)
       (ef_copies (fun r_2329 fm22_root_2330 fm22_wayEnd_2331 fm22_waiting_2332 am2871_2335 am2872_2338 am2873_2341 am2874_2344 am2875_2347 am2876_2350 am2877_2353 am2878_2356 am2879_2359 am28710_2362 am28711_2365 am28712_2368 am28713_2371 am28714_2374 =>
        eb_if (eb_eq r_2329 (eb_ad 10 (eb_ml 2 x7)))
         (eb_fc (eb_ad x7 1) (fun x7_2376 =>
         ih x7_2376 fm22_root_2330 fm22_wayEnd_2331 fm22_waiting_2332 am2871_2335 am2872_2338 am2873_2341 am2874_2344 am2875_2347 am2876_2350 am2877_2353 am2878_2356 am2879_2359 am28710_2362 am28711_2365 am28712_2368 am28713_2371 am28714_2374))
         (K 0)) fm22_root_2283 fm22_wayEnd_2284 fm22_waiting_2285 am2791_2288 am2792_2291 am2793_2294 am2794_2297 am2795_2300 am2796_2303 am2797_2306 am2798_2309 am2799_2312 am27910_2315 am27911_2318 am27912_2321 am27913_2324 am27914_2327)
       (K 0)) fm22_root_2236 fm22_wayEnd_2237 fm22_waiting_2238 am2631_2241 am2632_2244 am2633_2247 am2634_2250 am2635_2253 am2636_2256 am2637_2259 am2638_2262 am2639_2265 am26310_2268 am26311_2271 am26312_2274 am26313_2277 am26314_2280 2 fx3 x3))
     (K 0)) fm22_root fm22_wayEnd fm22_waiting am2361 am2362 am2363 am2364 am2365 am2366 am2367 am2368 am2369 am23610 am23611 am23612 am23613 am23614 3 fx1 fx2)))
noncomputable def ef_lawOf_247 (K : ef_F1) (x2 x3 x4 x5 : Nat) (n : Nat) : ef_F18 :=
  Nat.rec (motive := fun _ => ef_F18) (fun _ _ _ _ _ _ _ _ _ _ _ _ _ _ _ _ _ _ => false) (fun _ ih => ef_lawOf_247_b K x2 x3 x4 x5 ih) n
noncomputable def ef_lawOf_159_b (K : ef_F1) (x2 x3 x4 x5 : Nat) (ih : ef_F18) (x7 fm22_root fm22_wayEnd fm22_waiting am1461 am1462 am1463 am1464 am1465 am1466 am1467 am1468 am1469 am14610 am14611 am14612 am14613 am14614 : Nat) : Bool :=
  eb_if (eb_lt x7 0)
   (ef_save (fun r_248 fm22_root_249 fm22_wayEnd_250 fm22_waiting_251 am2201_254 am2202_257 am2203_260 am2204_263 am2205_266 am2206_269 am2207_272 am2208_275 am2209_278 am22010_281 am22011_284 am22012_287 am22013_290 am22014_293 =>
    eb_if (eb_eq r_248 1)
     (ef_make (fun r_295 fm22_root_296 fm22_wayEnd_297 fm22_waiting_298 am2361_301 am2362_304 am2363_307 am2364_310 am2365_313 am2366_316 am2367_319 am2368_322 am2369_325 am23610_328 am23611_331 am23612_334 am23613_337 am23614_340 =>
      eb_if (eb_eq r_295 0)
       (ef_lawOf_247 K x2 x3 x4 x5 120 0 fm22_root_296 fm22_wayEnd_297 fm22_waiting_298 am2361_301 am2362_304 am2363_307 am2364_310 am2365_313 am2366_316 am2367_319 am2368_322 am2369_325 am23610_328 am23611_331 am23612_334 am23613_337 am23614_340)
       (K 0)) fm22_root_249 fm22_wayEnd_250 fm22_waiting_251 am2201_254 am2202_257 am2203_260 am2204_263 am2205_266 am2206_269 am2207_272 am2208_275 am2209_278 am22010_281 am22011_284 am22012_287 am22013_290 am22014_293 3 0 (eb_ik 99) 0)
     (K 0)) fm22_root fm22_wayEnd fm22_waiting am1461 am1462 am1463 am1464 am1465 am1466 am1467 am1468 am1469 am14610 am14611 am14612 am14613 am14614)
   (eb_fc (eb_ka x2 x7) (fun fx1 =>
   ef_write (fun r_2377 fm22_root_2378 fm22_wayEnd_2379 fm22_waiting_2380 am1731_2383 am1732_2386 am1733_2389 am1734_2392 am1735_2395 am1736_2398 am1737_2401 am1738_2404 am1739_2407 am17310_2410 am17311_2413 am17312_2416 am17313_2419 am17314_2422 =>
    eb_if (eb_eq r_2377 0)
     (ef_size (fun r_2424 fm22_root_2425 fm22_wayEnd_2426 fm22_waiting_2427 am1821_2430 am1822_2433 am1823_2436 am1824_2439 am1825_2442 am1826_2445 am1827_2448 am1828_2451 am1829_2454 am18210_2457 am18211_2460 am18212_2463 am18213_2466 am18214_2469 =>
      eb_g (eb_sm x7) (
      eb_if (eb_eq r_2424 (eb_sb 8 (eb_dv x7 4)))
       (ef_copies (fun r_2472 fm22_root_2473 fm22_wayEnd_2474 fm22_waiting_2475 am1971_2478 am1972_2481 am1973_2484 am1974_2487 am1975_2490 am1976_2493 am1977_2496 am1978_2499 am1979_2502 am19710_2505 am19711_2508 am19712_2511 am19713_2514 am19714_2517 =>
        eb_if (eb_eq r_2472 (eb_sb 8 (eb_dv x7 4)))
         (eb_fc (eb_ad x7 4294967295) (fun x7_2520 =>
         ih x7_2520 fm22_root_2473 fm22_wayEnd_2474 fm22_waiting_2475 am1971_2478 am1972_2481 am1973_2484 am1974_2487 am1975_2490 am1976_2493 am1977_2496 am1978_2499 am1979_2502 am19710_2505 am19711_2508 am19712_2511 am19713_2514 am19714_2517))
         (K 0)) fm22_root_2425 fm22_wayEnd_2426 fm22_waiting_2427 am1821_2430 am1822_2433 am1823_2436 am1824_2439 am1825_2442 am1826_2445 am1827_2448 am1828_2451 am1829_2454 am18210_2457 am18211_2460 am18212_2463 am18213_2466 am18214_2469)
       (K 0))) fm22_root_2378 fm22_wayEnd_2379 fm22_waiting_2380 am1731_2383 am1732_2386 am1733_2389 am1734_2392 am1735_2395 am1736_2398 am1737_2401 am1738_2404 am1739_2407 am17310_2410 am17311_2413 am17312_2416 am17313_2419 am17314_2422 2)
     (K 0)) fm22_root fm22_wayEnd fm22_waiting am1461 am1462 am1463 am1464 am1465 am1466 am1467 am1468 am1469 am14610 am14611 am14612 am14613 am14614 2 x7 fx1))
noncomputable def ef_lawOf_159 (K : ef_F1) (x2 x3 x4 x5 : Nat) (n : Nat) : ef_F18 :=
  Nat.rec (motive := fun _ => ef_F18) (fun _ _ _ _ _ _ _ _ _ _ _ _ _ _ _ _ _ _ => false) (fun _ ih => ef_lawOf_159_b K x2 x3 x4 x5 ih) n
noncomputable def ef_lawOf_54 (K : ef_F1) (JJ : ef_F18) (x2 x3 x4 x5 x7 z0 z1 fm22_root fm22_wayEnd fm22_waiting am261 am262 am263 am264 am265 am266 am267 am268 am269 am2610 am2611 am2612 am2613 am2614 : Nat) : Bool :=
  eb_fc (eb_ka x5 x7) (fun fx1 =>
  ef_make (fun r_2522 fm22_root_2523 fm22_wayEnd_2524 fm22_waiting_2525 am601_2528 am602_2531 am603_2534 am604_2537 am605_2540 am606_2543 am607_2546 am608_2549 am609_2552 am6010_2555 am6011_2558 am6012_2561 am6013_2564 am6014_2567 =>
   eb_if (eb_eq r_2522 0)
    (ef_nodes (fun r_2569 fm22_root_2570 fm22_wayEnd_2571 fm22_waiting_2572 am681_2575 am682_2578 am683_2581 am684_2584 am685_2587 am686_2590 am687_2593 am688_2596 am689_2599 am6810_2602 am6811_2605 am6812_2608 am6813_2611 am6814_2614 =>
     eb_if (eb_eq r_2569 (eb_ad x7 2))
      (ef_kind (fun r_2616 fm22_root_2617 fm22_wayEnd_2618 fm22_waiting_2619 am811_2622 am812_2625 am813_2628 am814_2631 am815_2634 am816_2637 am817_2640 am818_2643 am819_2646 am8110_2649 am8111_2652 am8112_2655 am8113_2658 am8114_2661 =>
       eb_if (eb_eq r_2616 1)
        (ef_size (fun r_2663 fm22_root_2664 fm22_wayEnd_2665 fm22_waiting_2666 am911_2669 am912_2672 am913_2675 am914_2678 am915_2681 am916_2684 am917_2687 am918_2690 am919_2693 am9110_2696 am9111_2699 am9112_2702 am9113_2705 am9114_2708 =>
         eb_if (eb_eq r_2663 0)
          (eb_fc (eb_ad x7 1) (fun x7_2710 =>
          JJ x7_2710 fm22_root_2664 fm22_wayEnd_2665 fm22_waiting_2666 am911_2669 am912_2672 am913_2675 am914_2678 am915_2681 am916_2684 am917_2687 am918_2690 am919_2693 am9110_2696 am9111_2699 am9112_2702 am9113_2705 am9114_2708))
          (K 0)) fm22_root_2617 fm22_wayEnd_2618 fm22_waiting_2619 am811_2622 am812_2625 am813_2628 am814_2631 am815_2634 am816_2637 am817_2640 am818_2643 am819_2646 am8110_2649 am8111_2652 am8112_2655 am8113_2658 am8114_2661 1)
        (K 0)) fm22_root_2570 fm22_wayEnd_2571 fm22_waiting_2572 am681_2575 am682_2578 am683_2581 am684_2584 am685_2587 am686_2590 am687_2593 am688_2596 am689_2599 am6810_2602 am6811_2605 am6812_2608 am6813_2611 am6814_2614 1)
      (K 0)) fm22_root_2523 fm22_wayEnd_2524 fm22_waiting_2525 am601_2528 am602_2531 am603_2534 am604_2537 am605_2540 am606_2543 am607_2546 am608_2549 am609_2552 am6010_2555 am6011_2558 am6012_2561 am6013_2564 am6014_2567)
    (K 0)) fm22_root fm22_wayEnd fm22_waiting am261 am262 am263 am264 am265 am266 am267 am268 am269 am2610 am2611 am2612 am2613 am2614 z1 z0 fx1 1)
noncomputable def ef_lawOf_34_b (K : ef_F1) (x2 x3 x4 x5 : Nat) (ih : ef_F18) (x7 fm22_root fm22_wayEnd fm22_waiting am261 am262 am263 am264 am265 am266 am267 am268 am269 am2610 am2611 am2612 am2613 am2614 : Nat) : Bool :=
  eb_if (eb_le x4 x7)
   (ef_make (fun r_59 fm22_root_60 fm22_wayEnd_61 fm22_waiting_62 am1121_65 am1122_68 am1123_71 am1124_74 am1125_77 am1126_80 am1127_83 am1128_86 am1129_89 am11210_92 am11211_95 am11212_98 am11213_101 am11214_104 =>
    eb_if (eb_eq r_59 0)
     (ef_make (fun r_106 fm22_root_107 fm22_wayEnd_108 fm22_waiting_109 am1251_112 am1252_115 am1253_118 am1254_121 am1255_124 am1256_127 am1257_130 am1258_133 am1259_136 am12510_139 am12511_142 am12512_145 am12513_148 am12514_151 =>
      eb_if (eb_eq r_106 4294967291)
       (ef_kind (fun r_153 fm22_root_154 fm22_wayEnd_155 fm22_waiting_156 am1361_159 am1362_162 am1363_165 am1364_168 am1365_171 am1366_174 am1367_177 am1368_180 am1369_183 am13610_186 am13611_189 am13612_192 am13613_195 am13614_198 =>
        eb_if (eb_eq r_153 2)
         (ef_size (fun r_200 fm22_root_201 fm22_wayEnd_202 fm22_waiting_203 am1461_206 am1462_209 am1463_212 am1464_215 am1465_218 am1466_221 am1467_224 am1468_227 am1469_230 am14610_233 am14611_236 am14612_239 am14613_242 am14614_245 =>
          eb_if (eb_eq r_200 1)
           (ef_lawOf_159 K x2 x3 x4 x5 120 31 fm22_root_201 fm22_wayEnd_202 fm22_waiting_203 am1461_206 am1462_209 am1463_212 am1464_215 am1465_218 am1466_221 am1467_224 am1468_227 am1469_230 am14610_233 am14611_236 am14612_239 am14613_242 am14614_245)
           (K 0)) fm22_root_154 fm22_wayEnd_155 fm22_waiting_156 am1361_159 am1362_162 am1363_165 am1364_168 am1365_171 am1366_174 am1367_177 am1368_180 am1369_183 am13610_186 am13611_189 am13612_192 am13613_195 am13614_198 1)
         (K 0)) fm22_root_107 fm22_wayEnd_108 fm22_waiting_109 am1251_112 am1252_115 am1253_118 am1254_121 am1255_124 am1256_127 am1257_130 am1258_133 am1259_136 am12510_139 am12511_142 am12512_145 am12513_148 am12514_151 2)
       (K 0)) fm22_root_60 fm22_wayEnd_61 fm22_waiting_62 am1121_65 am1122_68 am1123_71 am1124_74 am1125_77 am1126_80 am1127_83 am1128_86 am1129_89 am11210_92 am11211_95 am11212_98 am11213_101 am11214_104 3 1 x5 1)
     (K 0)) fm22_root fm22_wayEnd fm22_waiting am261 am262 am263 am264 am265 am266 am267 am268 am269 am2610 am2611 am2612 am2613 am2614 2 1 x5 0)
   (eb_if (eb_eq x7 0)
    (ef_lawOf_54 K ih x2 x3 x4 x5 x7 0 1 fm22_root fm22_wayEnd fm22_waiting am261 am262 am263 am264 am265 am266 am267 am268 am269 am2610 am2611 am2612 am2613 am2614)
    (ef_lawOf_54 K ih x2 x3 x4 x5 x7 1 1 fm22_root fm22_wayEnd fm22_waiting am261 am262 am263 am264 am265 am266 am267 am268 am269 am2610 am2611 am2612 am2613 am2614))
noncomputable def ef_lawOf_34 (K : ef_F1) (x2 x3 x4 x5 : Nat) (n : Nat) : ef_F18 :=
  Nat.rec (motive := fun _ => ef_F18) (fun _ _ _ _ _ _ _ _ _ _ _ _ _ _ _ _ _ _ => false) (fun _ ih => ef_lawOf_34_b K x2 x3 x4 x5 ih) n
end
section
/-! refinement, printed by a program -/
theorem er_pushWay {e : ef_E} (he : e.1 < 80) {post : St2 → Prop} {K : ef_F17} {f0_root : Nat} {f0_root' : Int32} {f0_wayEnd : Nat} {f0_wayEnd' : Int32} {f0_waiting : Nat} {f0_waiting' : Int32} {a1 : Nat} {a2 : Nat} {a3 : Nat} {a4 : Nat} {a5 : Nat} {a6 : Nat} {a7 : Nat} {a8 : Nat} {a9 : Nat} {a10 : Nat} {a11 : Nat} {a12 : Nat} {a13 : Nat} {a14 : Nat} {p0 : Nat} {p0' : Int32} {p1 : Nat} {p1' : Int32} (h_f0_root : f0_root' = nI f0_root) (h_f0_wayEnd : f0_wayEnd' = nI f0_wayEnd) (h_f0_waiting : f0_waiting' = nI f0_waiting) (h_p0 : p0' = nI p0) (h_p1 : p1' = nI p1) (h : ef_pushWay K f0_root f0_wayEnd f0_waiting a1 a2 a3 a4 a5 a6 a7 a8 a9 a10 a11 a12 a13 a14 p0 p1 = true) (hK : er_PS e K post)  : wpX_pushWay post (f0_root', f0_wayEnd', f0_waiting', (eb_ar a1), (eb_ak e a2), (eb_ar a3), (eb_ar a4), (eb_ar a5), (eb_ar a6), (eb_ar a7), (eb_ar a8), (eb_ar a9), (eb_ak e a10), (eb_ar a11), (eb_ar a12), (eb_ar a13), (eb_ar a14)) p0' p1' := by
  refine eh_in h_f0_wayEnd h (fun f1 h => ?_)
  obtain ⟨g2, h⟩ := eh_g h
  refine eh_leta (eh_st h_f0_wayEnd f1 (eh_b8 h_p0 g2)) h (fun a12_2 h => ?_)
  refine eh_inf h_f0_wayEnd f1 ?_
  obtain ⟨g3, h⟩ := eh_g h
  refine eh_leta (eh_st h_f0_wayEnd f1 (eh_b8 h_p1 g3)) h (fun a13_4 h => ?_)
  refine eh_let (eh_ad h_f0_wayEnd eh_n1) h (fun f_5 f_5' h_f_5 h => ?_)
  exact hK _ _ h_f0_root _ _ h_f_5 _ _ h_f0_waiting _ _ _ _ _ _ _ _ _ _ _ _ _ _ h
theorem er_isLeaf {e : ef_E} (he : e.1 < 80) {post : Int32 → Prop} {K : ef_F1} {f0_root : Nat} {f0_root' : Int32} {f0_wayEnd : Nat} {f0_wayEnd' : Int32} {f0_waiting : Nat} {f0_waiting' : Int32} {a1 : Nat} {a2 : Nat} {a3 : Nat} {a4 : Nat} {a5 : Nat} {a6 : Nat} {a7 : Nat} {a8 : Nat} {a9 : Nat} {a10 : Nat} {a11 : Nat} {a12 : Nat} {a13 : Nat} {a14 : Nat} {p0 : Nat} {p0' : Int32} (h_f0_root : f0_root' = nI f0_root) (h_f0_wayEnd : f0_wayEnd' = nI f0_wayEnd) (h_f0_waiting : f0_waiting' = nI f0_waiting) (h_p0 : p0' = nI p0) (h : ef_isLeaf K f0_root f0_wayEnd f0_waiting a1 a2 a3 a4 a5 a6 a7 a8 a9 a10 a11 a12 a13 a14 p0 = true) (hK : er_QI K post)  : wpX_isLeaf post (f0_root', f0_wayEnd', f0_waiting', (eb_ar a1), (eb_ak e a2), (eb_ar a3), (eb_ar a4), (eb_ar a5), (eb_ar a6), (eb_ar a7), (eb_ar a8), (eb_ar a9), (eb_ak e a10), (eb_ar a11), (eb_ar a12), (eb_ar a13), (eb_ar a14)) p0' := by
  refine eh_in (eh_ml eh_n6 h_p0) h (fun f1 h => ?_)
  refine eh_if (eh_le eh_n0 (eh_gt (eh_ml eh_n6 h_p0) f1)) h (fun h => ?_) (fun h => ?_)
  ·
   exact hK _ _ eh_n0 h
  ·
   exact hK _ _ eh_n1 h
theorem er_find_78 {e : ef_E} (he : e.1 < 80) {post : Int32 → St2 → Prop} {K : ef_F18} {J10 : Int32 → Int32 → Int32 → Int32 → (Nat → Int32) → (Nat → Int32) → (Nat → Int32) → (Nat → Int32) → (Nat → Int32) → (Nat → Int32) → (Nat → Int32) → (Nat → Int32) → (Nat → Int32) → (Nat → Int32) → (Nat → Int32) → (Nat → Int32) → (Nat → Int32) → (Nat → Int32) → Prop} {JJ : ef_F18} {x1 : Nat} {x1' : Int32} {x2 : Nat} {x2' : Int32} {x3 : Nat} {x3' : Int32} {f0_root : Nat} {f0_root' : Int32} {f0_wayEnd : Nat} {f0_wayEnd' : Int32} {f0_waiting : Nat} {f0_waiting' : Int32} {am491 : Nat} {am492 : Nat} {am493 : Nat} {am494 : Nat} {am495 : Nat} {am496 : Nat} {am497 : Nat} {am498 : Nat} {am499 : Nat} {am4910 : Nat} {am4911 : Nat} {am4912 : Nat} {am4913 : Nat} {am4914 : Nat} (h_x1 : x1' = ef_kv e x1) (h_x2 : x2' = nI x2) (h_x3 : x3' = nI x3) (h_f0_root : f0_root' = nI f0_root) (h_f0_wayEnd : f0_wayEnd' = nI f0_wayEnd) (h_f0_waiting : f0_waiting' = nI f0_waiting) (h : ef_find_78 K JJ x1 x2 x3 f0_root f0_wayEnd f0_waiting am491 am492 am493 am494 am495 am496 am497 am498 am499 am4910 am4911 am4912 am4913 am4914 = true) (hK : er_PI e K post) (hJ : ∀ (q0 : Nat) (s0 : Int32) (_ : s0 = nI q0) (q1 : Nat) (s1 : Int32) (_ : s1 = nI q1) (q2 : Nat) (s2 : Int32) (_ : s2 = nI q2) (q3 : Nat) (s3 : Int32) (_ : s3 = nI q3) (q4 : Nat) (q5 : Nat) (q6 : Nat) (q7 : Nat) (q8 : Nat) (q9 : Nat) (q10 : Nat) (q11 : Nat) (q12 : Nat) (q13 : Nat) (q14 : Nat) (q15 : Nat) (q16 : Nat) (q17 : Nat), JJ q0 q1 q2 q3 q4 q5 q6 q7 q8 q9 q10 q11 q12 q13 q14 q15 q16 q17 = true → J10 s0 s1 s2 s3 (eb_ar q4) (eb_ak e q5) (eb_ar q6) (eb_ar q7) (eb_ar q8) (eb_ar q9) (eb_ar q10) (eb_ar q11) (eb_ar q12) (eb_ak e q13) (eb_ar q14) (eb_ar q15) (eb_ar q16) (eb_ar q17)) : wX_find_78 post J10 x1' x2' x3' f0_root' f0_wayEnd' f0_waiting' (eb_ar am491) (eb_ak e am492) (eb_ar am493) (eb_ar am494) (eb_ar am495) (eb_ar am496) (eb_ar am497) (eb_ar am498) (eb_ar am499) (eb_ak e am4910) (eb_ar am4911) (eb_ar am4912) (eb_ar am4913) (eb_ar am4914) := by
  unfold wX_find_78
  refine er_isLeaf he h_f0_root h_f0_wayEnd h_f0_waiting h_x2 h (fun r_52 r_52' h_r_52 h => ?_) 
  refine eh_if (eh_eq h_r_52 eh_n0) h (fun h => ?_) (fun h => ?_)
  ·
   refine eh_in (eh_ad (eh_ml eh_n6 h_x2) h_x3) h (fun f1 h => ?_)
   refine eh_let (eh_gt (eh_ad (eh_ml eh_n6 h_x2) h_x3) f1) h (fun x2_55 x2_55' h_x2_55 h => ?_)
   exact hJ _ _ h_x2_55 _ _ h_f0_root _ _ h_f0_wayEnd _ _ h_f0_waiting _ _ _ _ _ _ _ _ _ _ _ _ _ _ h
  ·
   exact hJ _ _ eh_m1 _ _ h_f0_root _ _ h_f0_wayEnd _ _ h_f0_waiting _ _ _ _ _ _ _ _ _ _ _ _ _ _ h
theorem er_find_46 {e : ef_E} (he : e.1 < 80) {post : Int32 → St2 → Prop} {K : ef_F18} {J10 : Int32 → Int32 → Int32 → Int32 → (Nat → Int32) → (Nat → Int32) → (Nat → Int32) → (Nat → Int32) → (Nat → Int32) → (Nat → Int32) → (Nat → Int32) → (Nat → Int32) → (Nat → Int32) → (Nat → Int32) → (Nat → Int32) → (Nat → Int32) → (Nat → Int32) → (Nat → Int32) → Prop} {JJ : ef_F18} {x1 : Nat} {x1' : Int32} {x2 : Nat} {x2' : Int32} {x3 : Nat} {x3' : Int32} {f0_root : Nat} {f0_root' : Int32} {f0_wayEnd : Nat} {f0_wayEnd' : Int32} {f0_waiting : Nat} {f0_waiting' : Int32} {a1 : Nat} {a2 : Nat} {a3 : Nat} {a4 : Nat} {a5 : Nat} {a6 : Nat} {a7 : Nat} {a8 : Nat} {a9 : Nat} {a10 : Nat} {a11 : Nat} {a12 : Nat} {a13 : Nat} {a14 : Nat} (h_x1 : x1' = ef_kv e x1) (h_x2 : x2' = nI x2) (h_x3 : x3' = nI x3) (h_f0_root : f0_root' = nI f0_root) (h_f0_wayEnd : f0_wayEnd' = nI f0_wayEnd) (h_f0_waiting : f0_waiting' = nI f0_waiting) (h : ef_find_46 K JJ x1 x2 x3 f0_root f0_wayEnd f0_waiting a1 a2 a3 a4 a5 a6 a7 a8 a9 a10 a11 a12 a13 a14 = true) (hK : er_PI e K post) (hJ : ∀ (q0 : Nat) (s0 : Int32) (_ : s0 = nI q0) (q1 : Nat) (s1 : Int32) (_ : s1 = nI q1) (q2 : Nat) (s2 : Int32) (_ : s2 = nI q2) (q3 : Nat) (s3 : Int32) (_ : s3 = nI q3) (q4 : Nat) (q5 : Nat) (q6 : Nat) (q7 : Nat) (q8 : Nat) (q9 : Nat) (q10 : Nat) (q11 : Nat) (q12 : Nat) (q13 : Nat) (q14 : Nat) (q15 : Nat) (q16 : Nat) (q17 : Nat), JJ q0 q1 q2 q3 q4 q5 q6 q7 q8 q9 q10 q11 q12 q13 q14 q15 q16 q17 = true → J10 s0 s1 s2 s3 (eb_ar q4) (eb_ak e q5) (eb_ar q6) (eb_ar q7) (eb_ar q8) (eb_ar q9) (eb_ar q10) (eb_ar q11) (eb_ar q12) (eb_ak e q13) (eb_ar q14) (eb_ar q15) (eb_ar q16) (eb_ar q17)) : wX_find_46 post J10 x1' x2' x3' f0_root' f0_wayEnd' f0_waiting' (eb_ar a1) (eb_ak e a2) (eb_ar a3) (eb_ar a4) (eb_ar a5) (eb_ar a6) (eb_ar a7) (eb_ar a8) (eb_ar a9) (eb_ak e a10) (eb_ar a11) (eb_ar a12) (eb_ar a13) (eb_ar a14) := by
  unfold wX_find_46
  refine er_pushWay he h_f0_root h_f0_wayEnd h_f0_waiting h_x2 h_x3 h (fun f0_root_5 f0_root_5' h_f0_root_5 f0_wayEnd_6 f0_wayEnd_6' h_f0_wayEnd_6 f0_waiting_7 f0_waiting_7' h_f0_waiting_7 am491_10 am492_13 am493_16 am494_19 am495_22 am496_25 am497_28 am498_31 am499_34 am4910_37 am4911_40 am4912_43 am4913_46 am4914_49 h => ?_) 
  refine eh_in h_x2 h (fun f1 h => ?_)
  refine eh_if (eh_le (eh_gt h_x2 f1) h_x3) h (fun h => ?_) (fun h => ?_)
  ·
   exact er_find_78 he h_x1 h_x2 h_x3 h_f0_root_5 h_f0_wayEnd_6 h_f0_waiting_7 h hK hJ
  ·
   refine eh_in (eh_ad (eh_ml eh_n5 h_x2) h_x3) h (fun f2 h => ?_)
   refine eh_i3 (eh_keq (eh_gk (eh_ad (eh_ml eh_n5 h_x2) h_x3) f2) h_x1) (eh_kne he (eh_gk (eh_ad (eh_ml eh_n5 h_x2) h_x3) f2) h_x1) h (fun h => ?_) (fun h => ?_)
   ·
    exact hK _ _ eh_n1 _ _ h_f0_root_5 _ _ h_f0_wayEnd_6 _ _ h_f0_waiting_7 _ _ _ _ _ _ _ _ _ _ _ _ _ _ h
   ·
    exact er_find_78 he h_x1 h_x2 h_x3 h_f0_root_5 h_f0_wayEnd_6 h_f0_waiting_7 h hK hJ
theorem er_find_16 {e : ef_E} (he : e.1 < 80) {post : Int32 → St2 → Prop} {K : ef_F18} {J10 : Int32 → Int32 → Int32 → Int32 → (Nat → Int32) → (Nat → Int32) → (Nat → Int32) → (Nat → Int32) → (Nat → Int32) → (Nat → Int32) → (Nat → Int32) → (Nat → Int32) → (Nat → Int32) → (Nat → Int32) → (Nat → Int32) → (Nat → Int32) → (Nat → Int32) → (Nat → Int32) → Prop} {JJ : ef_F18} {x1 : Nat} {x1' : Int32} {x2 : Nat} {x2' : Int32} {f0_root : Nat} {f0_root' : Int32} {f0_wayEnd : Nat} {f0_wayEnd' : Int32} {f0_waiting : Nat} {f0_waiting' : Int32} {a1 : Nat} {a2 : Nat} {a3 : Nat} {a4 : Nat} {a5 : Nat} {a6 : Nat} {a7 : Nat} {a8 : Nat} {a9 : Nat} {a10 : Nat} {a11 : Nat} {a12 : Nat} {a13 : Nat} {a14 : Nat} (hK : er_PI e K post) (hJ : ∀ (q0 : Nat) (s0 : Int32) (_ : s0 = nI q0) (q1 : Nat) (s1 : Int32) (_ : s1 = nI q1) (q2 : Nat) (s2 : Int32) (_ : s2 = nI q2) (q3 : Nat) (s3 : Int32) (_ : s3 = nI q3) (q4 : Nat) (q5 : Nat) (q6 : Nat) (q7 : Nat) (q8 : Nat) (q9 : Nat) (q10 : Nat) (q11 : Nat) (q12 : Nat) (q13 : Nat) (q14 : Nat) (q15 : Nat) (q16 : Nat) (q17 : Nat), JJ q0 q1 q2 q3 q4 q5 q6 q7 q8 q9 q10 q11 q12 q13 q14 q15 q16 q17 = true → J10 s0 s1 s2 s3 (eb_ar q4) (eb_ak e q5) (eb_ar q6) (eb_ar q7) (eb_ar q8) (eb_ar q9) (eb_ar q10) (eb_ar q11) (eb_ar q12) (eb_ak e q13) (eb_ar q14) (eb_ar q15) (eb_ar q16) (eb_ar q17)) (h_x1 : x1' = ef_kv e x1) (h_x2 : x2' = nI x2) (h_f0_root : f0_root' = nI f0_root) (h_f0_wayEnd : f0_wayEnd' = nI f0_wayEnd) (h_f0_waiting : f0_waiting' = nI f0_waiting) : ∀ (n : Nat) (x3 : Nat) (x3' : Int32) (_ : x3' = nI x3), ef_find_16 K JJ x1 x2 f0_root f0_wayEnd f0_waiting a1 a2 a3 a4 a5 a6 a7 a8 a9 a10 a11 a12 a13 a14 n x3 = true → wX_find_16 post J10 x1' x2' f0_root' f0_wayEnd' f0_waiting' (eb_ar a1) (eb_ak e a2) (eb_ar a3) (eb_ar a4) (eb_ar a5) (eb_ar a6) (eb_ar a7) (eb_ar a8) (eb_ar a9) (eb_ak e a10) (eb_ar a11) (eb_ar a12) (eb_ar a13) (eb_ar a14) n x3' := by
  intro n
  induction n with
  | zero =>
    intro x3 x3' h_x3 h
    exact absurd (show false = true from h) Bool.false_ne_true
  | succ n ih =>
    intro x3 x3' h_x3 h
    have h : ef_find_16_b K JJ x1 x2 f0_root f0_wayEnd f0_waiting a1 a2 a3 a4 a5 a6 a7 a8 a9 a10 a11 a12 a13 a14 (ef_find_16 K JJ x1 x2 f0_root f0_wayEnd f0_waiting a1 a2 a3 a4 a5 a6 a7 a8 a9 a10 a11 a12 a13 a14 n) x3 = true := h
    refine eh_in h_x2 h (fun f1 h => ?_)
    refine eh_if (eh_le (eh_gt h_x2 f1) h_x3) h (fun h => ?_) (fun h => ?_)
    ·
     exact er_find_46 he h_x1 h_x2 h_x3 h_f0_root h_f0_wayEnd h_f0_waiting h hK hJ
    ·
     refine eh_in (eh_ad (eh_ml eh_n5 h_x2) h_x3) h (fun f2 h => ?_)
     refine eh_i3 (eh_kle he h_x1 (eh_gk (eh_ad (eh_ml eh_n5 h_x2) h_x3) f2)) (eh_knle he h_x1 (eh_gk (eh_ad (eh_ml eh_n5 h_x2) h_x3) f2)) h (fun h => ?_) (fun h => ?_)
     ·
      exact er_find_46 he h_x1 h_x2 h_x3 h_f0_root h_f0_wayEnd h_f0_waiting h hK hJ
     ·
      refine eh_let (eh_ad h_x3 eh_n1) h (fun x3_60 x3_60' h_x3_60 h => ?_)
      exact ih _ _ h_x3_60 h
theorem er_find_10 {e : ef_E} (he : e.1 < 80) {post : Int32 → St2 → Prop} {K : ef_F18} {x1 : Nat} {x1' : Int32} (hK : er_PI e K post)  (h_x1 : x1' = ef_kv e x1) : ∀ (n : Nat) (x2 : Nat) (x2' : Int32) (_ : x2' = nI x2) (f0_root : Nat) (f0_root' : Int32) (_ : f0_root' = nI f0_root) (f0_wayEnd : Nat) (f0_wayEnd' : Int32) (_ : f0_wayEnd' = nI f0_wayEnd) (f0_waiting : Nat) (f0_waiting' : Int32) (_ : f0_waiting' = nI f0_waiting) (a1 : Nat) (a2 : Nat) (a3 : Nat) (a4 : Nat) (a5 : Nat) (a6 : Nat) (a7 : Nat) (a8 : Nat) (a9 : Nat) (a10 : Nat) (a11 : Nat) (a12 : Nat) (a13 : Nat) (a14 : Nat), ef_find_10 K x1 n x2 f0_root f0_wayEnd f0_waiting a1 a2 a3 a4 a5 a6 a7 a8 a9 a10 a11 a12 a13 a14 = true → wX_find_10 post x1' n x2' f0_root' f0_wayEnd' f0_waiting' (eb_ar a1) (eb_ak e a2) (eb_ar a3) (eb_ar a4) (eb_ar a5) (eb_ar a6) (eb_ar a7) (eb_ar a8) (eb_ar a9) (eb_ak e a10) (eb_ar a11) (eb_ar a12) (eb_ar a13) (eb_ar a14) := by
  intro n
  induction n with
  | zero =>
    intro x2 x2' h_x2 f0_root f0_root' h_f0_root f0_wayEnd f0_wayEnd' h_f0_wayEnd f0_waiting f0_waiting' h_f0_waiting a1 a2 a3 a4 a5 a6 a7 a8 a9 a10 a11 a12 a13 a14 h
    exact absurd (show false = true from h) Bool.false_ne_true
  | succ n ih =>
    intro x2 x2' h_x2 f0_root f0_root' h_f0_root f0_wayEnd f0_wayEnd' h_f0_wayEnd f0_waiting f0_waiting' h_f0_waiting a1 a2 a3 a4 a5 a6 a7 a8 a9 a10 a11 a12 a13 a14 h
    have h : ef_find_10_b K x1 (ef_find_10 K x1 n) x2 f0_root f0_wayEnd f0_waiting a1 a2 a3 a4 a5 a6 a7 a8 a9 a10 a11 a12 a13 a14 = true := h
    refine eh_if (eh_lt h_x2 eh_n0) h (fun h => ?_) (fun h => ?_)
    ·
     exact hK _ _ eh_n0 _ _ h_f0_root _ _ h_f0_wayEnd _ _ h_f0_waiting _ _ _ _ _ _ _ _ _ _ _ _ _ _ h
    ·
     refine Exists.intro 120 ?_
     exact er_find_16 he hK ih h_x1 h_x2 h_f0_root h_f0_wayEnd h_f0_waiting 120 _ _ eh_n0 h
theorem er_find {e : ef_E} (he : e.1 < 80) {post : Int32 → St2 → Prop} {K : ef_F18} {f0_root : Nat} {f0_root' : Int32} {f0_wayEnd : Nat} {f0_wayEnd' : Int32} {f0_waiting : Nat} {f0_waiting' : Int32} {a1 : Nat} {a2 : Nat} {a3 : Nat} {a4 : Nat} {a5 : Nat} {a6 : Nat} {a7 : Nat} {a8 : Nat} {a9 : Nat} {a10 : Nat} {a11 : Nat} {a12 : Nat} {a13 : Nat} {a14 : Nat} {p0 : Nat} {p0' : Int32} (h_f0_root : f0_root' = nI f0_root) (h_f0_wayEnd : f0_wayEnd' = nI f0_wayEnd) (h_f0_waiting : f0_waiting' = nI f0_waiting) (h_p0 : p0' = ef_kv e p0) (h : ef_find K f0_root f0_wayEnd f0_waiting a1 a2 a3 a4 a5 a6 a7 a8 a9 a10 a11 a12 a13 a14 p0 = true) (hK : er_PI e K post)  : wpX_find post (f0_root', f0_wayEnd', f0_waiting', (eb_ar a1), (eb_ak e a2), (eb_ar a3), (eb_ar a4), (eb_ar a5), (eb_ar a6), (eb_ar a7), (eb_ar a8), (eb_ar a9), (eb_ak e a10), (eb_ar a11), (eb_ar a12), (eb_ar a13), (eb_ar a14)) p0' := by
  refine Exists.intro 120 ?_
  exact er_find_10 he hK  h_p0 120 _ _ h_f0_root _ _ h_f0_root _ _ eh_n0 _ _ h_f0_waiting _ _ _ _ _ _ _ _ _ _ _ _ _ _ h
theorem er_validPlace {e : ef_E} (he : e.1 < 80) {post : Int32 → Prop} {K : ef_F1} {f0_root : Nat} {f0_root' : Int32} {f0_wayEnd : Nat} {f0_wayEnd' : Int32} {f0_waiting : Nat} {f0_waiting' : Int32} {a1 : Nat} {a2 : Nat} {a3 : Nat} {a4 : Nat} {a5 : Nat} {a6 : Nat} {a7 : Nat} {a8 : Nat} {a9 : Nat} {a10 : Nat} {a11 : Nat} {a12 : Nat} {a13 : Nat} {a14 : Nat} (h_f0_root : f0_root' = nI f0_root) (h_f0_wayEnd : f0_wayEnd' = nI f0_wayEnd) (h_f0_waiting : f0_waiting' = nI f0_waiting) (h : ef_validPlace K f0_root f0_wayEnd f0_waiting a1 a2 a3 a4 a5 a6 a7 a8 a9 a10 a11 a12 a13 a14 = true) (hK : er_QI K post)  : wpX_validPlace post (f0_root', f0_wayEnd', f0_waiting', (eb_ar a1), (eb_ak e a2), (eb_ar a3), (eb_ar a4), (eb_ar a5), (eb_ar a6), (eb_ar a7), (eb_ar a8), (eb_ar a9), (eb_ak e a10), (eb_ar a11), (eb_ar a12), (eb_ar a13), (eb_ar a14)) := by
  refine eh_if (eh_eq eh_gtc eh_n0) h (fun h => ?_) (fun h => ?_)
  ·
   exact hK _ _ eh_n1 h
  ·
   refine eh_if (eh_eq eh_gtc eh_n0) h (fun h => ?_) (fun h => ?_)
   ·
    exact hK _ _ eh_n0 h
   ·
    refine eh_if (eh_le eh_gtc eh_gtc) h (fun h => ?_) (fun h => ?_)
    ·
     exact hK _ _ eh_n1 h
    ·
     exact hK _ _ eh_n0 h
theorem er_startWalk {e : ef_E} (he : e.1 < 80) {post : St2 → Prop} {K : ef_F17} {f0_root : Nat} {f0_root' : Int32} {f0_wayEnd : Nat} {f0_wayEnd' : Int32} {f0_waiting : Nat} {f0_waiting' : Int32} {a1 : Nat} {a2 : Nat} {a3 : Nat} {a4 : Nat} {a5 : Nat} {a6 : Nat} {a7 : Nat} {a8 : Nat} {a9 : Nat} {a10 : Nat} {a11 : Nat} {a12 : Nat} {a13 : Nat} {a14 : Nat} {p0 : Nat} {p0' : Int32} (h_f0_root : f0_root' = nI f0_root) (h_f0_wayEnd : f0_wayEnd' = nI f0_wayEnd) (h_f0_waiting : f0_waiting' = nI f0_waiting) (h_p0 : p0' = nI p0) (h : ef_startWalk K f0_root f0_wayEnd f0_waiting a1 a2 a3 a4 a5 a6 a7 a8 a9 a10 a11 a12 a13 a14 p0 = true) (hK : er_PS e K post)  : wpX_startWalk post (f0_root', f0_wayEnd', f0_waiting', (eb_ar a1), (eb_ak e a2), (eb_ar a3), (eb_ar a4), (eb_ar a5), (eb_ar a6), (eb_ar a7), (eb_ar a8), (eb_ar a9), (eb_ak e a10), (eb_ar a11), (eb_ar a12), (eb_ar a13), (eb_ar a14)) p0' := by
  refine eh_if (eh_le eh_n0 h_p0) h (fun h => ?_) (fun h => ?_)
  ·
   obtain ⟨g1, h⟩ := eh_g h
   refine eh_leta (eh_stc (eh_b8 h_p0 g1)) h (fun a14_3 h => ?_)
   exact hK _ _ h_f0_root _ _ h_f0_wayEnd _ _ eh_n1 _ _ _ _ _ _ _ _ _ _ _ _ _ _ h
  ·
   exact hK _ _ h_f0_root _ _ h_f0_wayEnd _ _ eh_n0 _ _ _ _ _ _ _ _ _ _ _ _ _ _ h
theorem er_walk_32 {e : ef_E} (he : e.1 < 80) {post : Int32 → St2 → Prop} {K : ef_F18} {x1 : Nat} {x1' : Int32} {f0_root : Nat} {f0_root' : Int32} {f0_wayEnd : Nat} {f0_wayEnd' : Int32} (hK : er_PI e K post)  (h_x1 : x1' = nI x1) (h_f0_root : f0_root' = nI f0_root) (h_f0_wayEnd : f0_wayEnd' = nI f0_wayEnd) : ∀ (n : Nat) (x2 : Nat) (x2' : Int32) (_ : x2' = nI x2) (f0_waiting : Nat) (f0_waiting' : Int32) (_ : f0_waiting' = nI f0_waiting) (a1 : Nat) (a2 : Nat) (a3 : Nat) (a4 : Nat) (a5 : Nat) (a6 : Nat) (a7 : Nat) (a8 : Nat) (a9 : Nat) (a10 : Nat) (a11 : Nat) (a12 : Nat) (a13 : Nat) (a14 : Nat), ef_walk_32 K x1 f0_root f0_wayEnd n x2 f0_waiting a1 a2 a3 a4 a5 a6 a7 a8 a9 a10 a11 a12 a13 a14 = true → wX_walk_32 post x1' f0_root' f0_wayEnd' n x2' f0_waiting' (eb_ar a1) (eb_ak e a2) (eb_ar a3) (eb_ar a4) (eb_ar a5) (eb_ar a6) (eb_ar a7) (eb_ar a8) (eb_ar a9) (eb_ak e a10) (eb_ar a11) (eb_ar a12) (eb_ar a13) (eb_ar a14) := by
  intro n
  induction n with
  | zero =>
    intro x2 x2' h_x2 f0_waiting f0_waiting' h_f0_waiting a1 a2 a3 a4 a5 a6 a7 a8 a9 a10 a11 a12 a13 a14 h
    exact absurd (show false = true from h) Bool.false_ne_true
  | succ n ih =>
    intro x2 x2' h_x2 f0_waiting f0_waiting' h_f0_waiting a1 a2 a3 a4 a5 a6 a7 a8 a9 a10 a11 a12 a13 a14 h
    have h : ef_walk_32_b K x1 f0_root f0_wayEnd (ef_walk_32 K x1 f0_root f0_wayEnd n) x2 f0_waiting a1 a2 a3 a4 a5 a6 a7 a8 a9 a10 a11 a12 a13 a14 = true := h
    refine eh_in h_x1 h (fun f1 h => ?_)
    refine eh_if (eh_lt (eh_gt h_x1 f1) h_x2) h (fun h => ?_) (fun h => ?_)
    ·
     exact hK _ _ h_x1 _ _ h_f0_root _ _ h_f0_wayEnd _ _ h_f0_waiting _ _ _ _ _ _ _ _ _ _ _ _ _ _ h
    ·
     refine eh_in (eh_ad (eh_ml eh_n6 h_x1) h_x2) h (fun f2 h => ?_)
     refine eh_in h_f0_waiting h (fun f3 h => ?_)
     obtain ⟨g4, h⟩ := eh_g h
     refine eh_leta (eh_st h_f0_waiting f3 (eh_nb (eh_gt (eh_ad (eh_ml eh_n6 h_x1) h_x2) f2) g4)) h (fun a14_10 h => ?_)
     refine eh_let (eh_ad h_f0_waiting eh_n1) h (fun f_11 f_11' h_f_11 h => ?_)
     refine eh_let (eh_ad h_x2 eh_n1) h (fun x2_12 x2_12' h_x2_12 h => ?_)
     exact ih _ _ h_x2_12 _ _ h_f_11 _ _ _ _ _ _ _ _ _ _ _ _ _ _ h
theorem er_walk {e : ef_E} (he : e.1 < 80) {post : Int32 → St2 → Prop} {K : ef_F18} {f0_root : Nat} {f0_root' : Int32} {f0_wayEnd : Nat} {f0_wayEnd' : Int32} {f0_waiting : Nat} {f0_waiting' : Int32} {a1 : Nat} {a2 : Nat} {a3 : Nat} {a4 : Nat} {a5 : Nat} {a6 : Nat} {a7 : Nat} {a8 : Nat} {a9 : Nat} {a10 : Nat} {a11 : Nat} {a12 : Nat} {a13 : Nat} {a14 : Nat} (h_f0_root : f0_root' = nI f0_root) (h_f0_wayEnd : f0_wayEnd' = nI f0_wayEnd) (h_f0_waiting : f0_waiting' = nI f0_waiting) (h : ef_walk K f0_root f0_wayEnd f0_waiting a1 a2 a3 a4 a5 a6 a7 a8 a9 a10 a11 a12 a13 a14 = true) (hK : er_PI e K post)  : wpX_walk post (f0_root', f0_wayEnd', f0_waiting', (eb_ar a1), (eb_ak e a2), (eb_ar a3), (eb_ar a4), (eb_ar a5), (eb_ar a6), (eb_ar a7), (eb_ar a8), (eb_ar a9), (eb_ak e a10), (eb_ar a11), (eb_ar a12), (eb_ar a13), (eb_ar a14)) := by
  refine eh_let (eh_sb h_f0_waiting eh_n1) h (fun f_1 f_1' h_f_1 h => ?_)
  refine eh_in h_f_1 h (fun f1 h => ?_)
  refine eh_let (eh_gt h_f_1 f1) h (fun x1_3 x1_3' h_x1_3 h => ?_)
  refine er_isLeaf he h_f0_root h_f0_wayEnd h_f_1 h_x1_3 h (fun r_4 r_4' h_r_4 h => ?_) 
  refine eh_if (eh_eq h_r_4 eh_n0) h (fun h => ?_) (fun h => ?_)
  ·
   refine Exists.intro 120 ?_
   exact er_walk_32 he hK  h_x1_3 h_f0_root h_f0_wayEnd 120 _ _ eh_n0 _ _ h_f_1 _ _ _ _ _ _ _ _ _ _ _ _ _ _ h
  ·
   exact hK _ _ h_x1_3 _ _ h_f0_root _ _ h_f0_wayEnd _ _ h_f_1 _ _ _ _ _ _ _ _ _ _ _ _ _ _ h
theorem er_markTree_5 {e : ef_E} (he : e.1 < 80) {post : St2 → Prop} {K : ef_F17} (hK : er_PS e K post)   : ∀ (n : Nat) (f0_root : Nat) (f0_root' : Int32) (_ : f0_root' = nI f0_root) (f0_wayEnd : Nat) (f0_wayEnd' : Int32) (_ : f0_wayEnd' = nI f0_wayEnd) (f0_waiting : Nat) (f0_waiting' : Int32) (_ : f0_waiting' = nI f0_waiting) (am21 : Nat) (am22 : Nat) (am23 : Nat) (am24 : Nat) (am25 : Nat) (am26 : Nat) (am27 : Nat) (am28 : Nat) (am29 : Nat) (am210 : Nat) (am211 : Nat) (am212 : Nat) (am213 : Nat) (am214 : Nat), ef_markTree_5 K n f0_root f0_wayEnd f0_waiting am21 am22 am23 am24 am25 am26 am27 am28 am29 am210 am211 am212 am213 am214 = true → wX_markTree_5 post n f0_root' f0_wayEnd' f0_waiting' (eb_ar am21) (eb_ak e am22) (eb_ar am23) (eb_ar am24) (eb_ar am25) (eb_ar am26) (eb_ar am27) (eb_ar am28) (eb_ar am29) (eb_ak e am210) (eb_ar am211) (eb_ar am212) (eb_ar am213) (eb_ar am214) := by
  intro n
  induction n with
  | zero =>
    intro f0_root f0_root' h_f0_root f0_wayEnd f0_wayEnd' h_f0_wayEnd f0_waiting f0_waiting' h_f0_waiting am21 am22 am23 am24 am25 am26 am27 am28 am29 am210 am211 am212 am213 am214 h
    exact absurd (show false = true from h) Bool.false_ne_true
  | succ n ih =>
    intro f0_root f0_root' h_f0_root f0_wayEnd f0_wayEnd' h_f0_wayEnd f0_waiting f0_waiting' h_f0_waiting am21 am22 am23 am24 am25 am26 am27 am28 am29 am210 am211 am212 am213 am214 h
    have h : ef_markTree_5_b K (ef_markTree_5 K n) f0_root f0_wayEnd f0_waiting am21 am22 am23 am24 am25 am26 am27 am28 am29 am210 am211 am212 am213 am214 = true := h
    refine eh_if (eh_le h_f0_waiting eh_n0) h (fun h => ?_) (fun h => ?_)
    ·
     exact hK _ _ h_f0_root _ _ h_f0_wayEnd _ _ h_f0_waiting _ _ _ _ _ _ _ _ _ _ _ _ _ _ h
    ·
     refine er_walk he h_f0_root h_f0_wayEnd h_f0_waiting h (fun r_48 r_48' h_r_48 f0_root_49 f0_root_49' h_f0_root_49 f0_wayEnd_50 f0_wayEnd_50' h_f0_wayEnd_50 f0_waiting_51 f0_waiting_51' h_f0_waiting_51 am131_54 am132_57 am133_60 am134_63 am135_66 am136_69 am137_72 am138_75 am139_78 am1310_81 am1311_84 am1312_87 am1313_90 am1314_93 h => ?_) 
     refine eh_in h_r_48 h (fun f1 h => ?_)
     refine eh_leta (eh_st h_r_48 f1 eh_n1) h (fun am136_95 h => ?_)
     exact ih _ _ h_f0_root_49 _ _ h_f0_wayEnd_50 _ _ h_f0_waiting_51 _ _ _ _ _ _ _ _ _ _ _ _ _ _ h
theorem er_markTree {e : ef_E} (he : e.1 < 80) {post : St2 → Prop} {K : ef_F17} {f0_root : Nat} {f0_root' : Int32} {f0_wayEnd : Nat} {f0_wayEnd' : Int32} {f0_waiting : Nat} {f0_waiting' : Int32} {a1 : Nat} {a2 : Nat} {a3 : Nat} {a4 : Nat} {a5 : Nat} {a6 : Nat} {a7 : Nat} {a8 : Nat} {a9 : Nat} {a10 : Nat} {a11 : Nat} {a12 : Nat} {a13 : Nat} {a14 : Nat} {p0 : Nat} {p0' : Int32} (h_f0_root : f0_root' = nI f0_root) (h_f0_wayEnd : f0_wayEnd' = nI f0_wayEnd) (h_f0_waiting : f0_waiting' = nI f0_waiting) (h_p0 : p0' = nI p0) (h : ef_markTree K f0_root f0_wayEnd f0_waiting a1 a2 a3 a4 a5 a6 a7 a8 a9 a10 a11 a12 a13 a14 p0 = true) (hK : er_PS e K post)  : wpX_markTree post (f0_root', f0_wayEnd', f0_waiting', (eb_ar a1), (eb_ak e a2), (eb_ar a3), (eb_ar a4), (eb_ar a5), (eb_ar a6), (eb_ar a7), (eb_ar a8), (eb_ar a9), (eb_ak e a10), (eb_ar a11), (eb_ar a12), (eb_ar a13), (eb_ar a14)) p0' := by
  unfold wpX_markTree
  refine er_startWalk he h_f0_root h_f0_wayEnd h_f0_waiting h_p0 h (fun f0_root_2 f0_root_2' h_f0_root_2 f0_wayEnd_3 f0_wayEnd_3' h_f0_wayEnd_3 f0_waiting_4 f0_waiting_4' h_f0_waiting_4 am21_7 am22_10 am23_13 am24_16 am25_19 am26_22 am27_25 am28_28 am29_31 am210_34 am211_37 am212_40 am213_43 am214_46 h => ?_) 
  refine Exists.intro 120 ?_
  exact er_markTree_5 he hK   120 _ _ h_f0_root_2 _ _ h_f0_wayEnd_3 _ _ h_f0_waiting_4 _ _ _ _ _ _ _ _ _ _ _ _ _ _ h
theorem er_newPage_72 {e : ef_E} (he : e.1 < 80) {post : Int32 → St2 → Prop} {K : ef_F18} {x2 : Nat} {x2' : Int32} {f0_root : Nat} {f0_root' : Int32} {f0_wayEnd : Nat} {f0_wayEnd' : Int32} {f0_waiting : Nat} {f0_waiting' : Int32} {am461 : Nat} {am462 : Nat} {am463 : Nat} {am464 : Nat} {am465 : Nat} {am466 : Nat} {am467 : Nat} {am468 : Nat} {am469 : Nat} {am4610 : Nat} {am4611 : Nat} {am4612 : Nat} {am4613 : Nat} {am4614 : Nat} (h_x2 : x2' = nI x2) (h_f0_root : f0_root' = nI f0_root) (h_f0_wayEnd : f0_wayEnd' = nI f0_wayEnd) (h_f0_waiting : f0_waiting' = nI f0_waiting) (h : ef_newPage_72 K x2 f0_root f0_wayEnd f0_waiting am461 am462 am463 am464 am465 am466 am467 am468 am469 am4610 am4611 am4612 am4613 am4614 = true) (hK : er_PI e K post)  : wX_newPage_72 post x2' f0_root' f0_wayEnd' f0_waiting' (eb_ar am461) (eb_ak e am462) (eb_ar am463) (eb_ar am464) (eb_ar am465) (eb_ar am466) (eb_ar am467) (eb_ar am468) (eb_ar am469) (eb_ak e am4610) (eb_ar am4611) (eb_ar am4612) (eb_ar am4613) (eb_ar am4614) := by
  refine eh_in h_x2 h (fun f1 h => ?_)
  refine eh_leta (eh_st h_x2 f1 eh_n1) h (fun am465_98 h => ?_)
  refine eh_inf h_x2 f1 ?_
  refine eh_leta (eh_st h_x2 f1 eh_n0) h (fun am461_100 h => ?_)
  refine eh_in (eh_ml eh_n6 h_x2) h (fun f2 h => ?_)
  refine eh_leta (eh_st (eh_ml eh_n6 h_x2) f2 eh_m1) h (fun am464_102 h => ?_)
  exact hK _ _ h_x2 _ _ h_f0_root _ _ h_f0_wayEnd _ _ h_f0_waiting _ _ _ _ _ _ _ _ _ _ _ _ _ _ h
theorem er_newPage_51 {e : ef_E} (he : e.1 < 80) {post : Int32 → St2 → Prop} {K : ef_F18} {f0_root : Nat} {f0_root' : Int32} {f0_wayEnd : Nat} {f0_wayEnd' : Int32} {f0_waiting : Nat} {f0_waiting' : Int32} {am461 : Nat} {am462 : Nat} {am463 : Nat} {am464 : Nat} {am465 : Nat} {am466 : Nat} {am467 : Nat} {am468 : Nat} {am469 : Nat} {am4610 : Nat} {am4611 : Nat} {am4612 : Nat} {am4613 : Nat} {am4614 : Nat} (hK : er_PI e K post)  (h_f0_root : f0_root' = nI f0_root) (h_f0_wayEnd : f0_wayEnd' = nI f0_wayEnd) (h_f0_waiting : f0_waiting' = nI f0_waiting) : ∀ (n : Nat) (x2 : Nat) (x2' : Int32) (_ : x2' = nI x2), ef_newPage_51 K f0_root f0_wayEnd f0_waiting am461 am462 am463 am464 am465 am466 am467 am468 am469 am4610 am4611 am4612 am4613 am4614 n x2 = true → wX_newPage_51 post f0_root' f0_wayEnd' f0_waiting' (eb_ar am461) (eb_ak e am462) (eb_ar am463) (eb_ar am464) (eb_ar am465) (eb_ar am466) (eb_ar am467) (eb_ar am468) (eb_ar am469) (eb_ak e am4610) (eb_ar am4611) (eb_ar am4612) (eb_ar am4613) (eb_ar am4614) n x2' := by
  intro n
  induction n with
  | zero =>
    intro x2 x2' h_x2 h
    exact absurd (show false = true from h) Bool.false_ne_true
  | succ n ih =>
    intro x2 x2' h_x2 h
    have h : ef_newPage_51_b K f0_root f0_wayEnd f0_waiting am461 am462 am463 am464 am465 am466 am467 am468 am469 am4610 am4611 am4612 am4613 am4614 (ef_newPage_51 K f0_root f0_wayEnd f0_waiting am461 am462 am463 am464 am465 am466 am467 am468 am469 am4610 am4611 am4612 am4613 am4614 n) x2 = true := h
    refine eh_if (eh_le eh_n109 h_x2) h (fun h => ?_) (fun h => ?_)
    ·
     exact er_newPage_72 he h_x2 h_f0_root h_f0_wayEnd h_f0_waiting h hK 
    ·
     refine eh_in h_x2 h (fun f1 h => ?_)
     refine eh_if (eh_eq (eh_gt h_x2 f1) eh_n0) h (fun h => ?_) (fun h => ?_)
     ·
      exact er_newPage_72 he h_x2 h_f0_root h_f0_wayEnd h_f0_waiting h hK 
     ·
      refine eh_let (eh_ad h_x2 eh_n1) h (fun x2_105 x2_105' h_x2_105 h => ?_)
      exact ih _ _ h_x2_105 h
theorem er_newPage_2 {e : ef_E} (he : e.1 < 80) {post : Int32 → St2 → Prop} {K : ef_F18} {f0_root : Nat} {f0_root' : Int32} {f0_wayEnd : Nat} {f0_wayEnd' : Int32} {f0_waiting : Nat} {f0_waiting' : Int32} (hK : er_PI e K post)  (h_f0_root : f0_root' = nI f0_root) (h_f0_wayEnd : f0_wayEnd' = nI f0_wayEnd) (h_f0_waiting : f0_waiting' = nI f0_waiting) : ∀ (n : Nat) (x1 : Nat) (x1' : Int32) (_ : x1' = nI x1) (a1 : Nat) (a2 : Nat) (a3 : Nat) (a4 : Nat) (a5 : Nat) (a6 : Nat) (a7 : Nat) (a8 : Nat) (a9 : Nat) (a10 : Nat) (a11 : Nat) (a12 : Nat) (a13 : Nat) (a14 : Nat), ef_newPage_2 K f0_root f0_wayEnd f0_waiting n x1 a1 a2 a3 a4 a5 a6 a7 a8 a9 a10 a11 a12 a13 a14 = true → wX_newPage_2 post f0_root' f0_wayEnd' f0_waiting' n x1' (eb_ar a1) (eb_ak e a2) (eb_ar a3) (eb_ar a4) (eb_ar a5) (eb_ar a6) (eb_ar a7) (eb_ar a8) (eb_ar a9) (eb_ak e a10) (eb_ar a11) (eb_ar a12) (eb_ar a13) (eb_ar a14) := by
  intro n
  induction n with
  | zero =>
    intro x1 x1' h_x1 a1 a2 a3 a4 a5 a6 a7 a8 a9 a10 a11 a12 a13 a14 h
    exact absurd (show false = true from h) Bool.false_ne_true
  | succ n ih =>
    intro x1 x1' h_x1 a1 a2 a3 a4 a5 a6 a7 a8 a9 a10 a11 a12 a13 a14 h
    have h : ef_newPage_2_b K f0_root f0_wayEnd f0_waiting (ef_newPage_2 K f0_root f0_wayEnd f0_waiting n) x1 a1 a2 a3 a4 a5 a6 a7 a8 a9 a10 a11 a12 a13 a14 = true := h
    refine eh_if (eh_le eh_n110 h_x1) h (fun h => ?_) (fun h => ?_)
    ·
     refine er_validPlace he h_f0_root h_f0_wayEnd h_f0_waiting h (fun r_2 r_2' h_r_2 h => ?_) 
     refine er_markTree he h_f0_root h_f0_wayEnd h_f0_waiting h_f0_root h (fun f0_root_4 f0_root_4' h_f0_root_4 f0_wayEnd_5 f0_wayEnd_5' h_f0_wayEnd_5 f0_waiting_6 f0_waiting_6' h_f0_waiting_6 am361_9 am362_12 am363_15 am364_18 am365_21 am366_24 am367_27 am368_30 am369_33 am3610_36 am3611_39 am3612_42 am3613_45 am3614_48 h => ?_) 
     refine eh_in h_r_2 h (fun f1 h => ?_)
     obtain ⟨fx2, h_fx2, h⟩ := eh_fc (eh_gt h_r_2 f1) h
     refine er_markTree he h_f0_root_4 h_f0_wayEnd_5 h_f0_waiting_6 h_fx2 h (fun f0_root_51 f0_root_51' h_f0_root_51 f0_wayEnd_52 f0_wayEnd_52' h_f0_wayEnd_52 f0_waiting_53 f0_waiting_53' h_f0_waiting_53 am461_56 am462_59 am463_62 am464_65 am465_68 am466_71 am467_74 am468_77 am469_80 am4610_83 am4611_86 am4612_89 am4613_92 am4614_95 h => ?_) 
     refine Exists.intro 120 ?_
     exact er_newPage_51 he hK  h_f0_root_51 h_f0_wayEnd_52 h_f0_waiting_53 120 _ _ eh_n0 h
    ·
     refine eh_in h_x1 h (fun f3 h => ?_)
     refine eh_inf h_x1 f3 ?_
     obtain ⟨g4, h⟩ := eh_g h
     refine eh_leta (eh_st h_x1 f3 (eh_nz (eh_gt h_x1 f3) g4)) h (fun a6_108 h => ?_)
     refine eh_let (eh_ad h_x1 eh_n1) h (fun x1_109 x1_109' h_x1_109 h => ?_)
     exact ih _ _ h_x1_109 _ _ _ _ _ _ _ _ _ _ _ _ _ _ h
theorem er_newPage {e : ef_E} (he : e.1 < 80) {post : Int32 → St2 → Prop} {K : ef_F18} {f0_root : Nat} {f0_root' : Int32} {f0_wayEnd : Nat} {f0_wayEnd' : Int32} {f0_waiting : Nat} {f0_waiting' : Int32} {a1 : Nat} {a2 : Nat} {a3 : Nat} {a4 : Nat} {a5 : Nat} {a6 : Nat} {a7 : Nat} {a8 : Nat} {a9 : Nat} {a10 : Nat} {a11 : Nat} {a12 : Nat} {a13 : Nat} {a14 : Nat} (h_f0_root : f0_root' = nI f0_root) (h_f0_wayEnd : f0_wayEnd' = nI f0_wayEnd) (h_f0_waiting : f0_waiting' = nI f0_waiting) (h : ef_newPage K f0_root f0_wayEnd f0_waiting a1 a2 a3 a4 a5 a6 a7 a8 a9 a10 a11 a12 a13 a14 = true) (hK : er_PI e K post)  : wpX_newPage post (f0_root', f0_wayEnd', f0_waiting', (eb_ar a1), (eb_ak e a2), (eb_ar a3), (eb_ar a4), (eb_ar a5), (eb_ar a6), (eb_ar a7), (eb_ar a8), (eb_ar a9), (eb_ak e a10), (eb_ar a11), (eb_ar a12), (eb_ar a13), (eb_ar a14)) := by
  refine Exists.intro 120 ?_
  exact er_newPage_2 he hK  h_f0_root h_f0_wayEnd h_f0_waiting 120 _ _ eh_n0 _ _ _ _ _ _ _ _ _ _ _ _ _ _ h
theorem er_freshCopy_83 {e : ef_E} (he : e.1 < 80) {post : Int32 → St2 → Prop} {K : ef_F18} {x1 : Nat} {x1' : Int32} {x2 : Nat} {x2' : Int32} {f0_root : Nat} {f0_root' : Int32} {f0_wayEnd : Nat} {f0_wayEnd' : Int32} {f0_waiting : Nat} {f0_waiting' : Int32} (hK : er_PI e K post)  (h_x1 : x1' = nI x1) (h_x2 : x2' = nI x2) (h_f0_root : f0_root' = nI f0_root) (h_f0_wayEnd : f0_wayEnd' = nI f0_wayEnd) (h_f0_waiting : f0_waiting' = nI f0_waiting) : ∀ (n : Nat) (x3 : Nat) (x3' : Int32) (_ : x3' = nI x3) (am121 : Nat) (am122 : Nat) (am123 : Nat) (am124 : Nat) (am125 : Nat) (am126 : Nat) (am127 : Nat) (am128 : Nat) (am129 : Nat) (am1210 : Nat) (am1211 : Nat) (am1212 : Nat) (am1213 : Nat) (am1214 : Nat), ef_freshCopy_83 K x1 x2 f0_root f0_wayEnd f0_waiting n x3 am121 am122 am123 am124 am125 am126 am127 am128 am129 am1210 am1211 am1212 am1213 am1214 = true → wX_freshCopy_83 post x1' x2' f0_root' f0_wayEnd' f0_waiting' n x3' (eb_ar am121) (eb_ak e am122) (eb_ar am123) (eb_ar am124) (eb_ar am125) (eb_ar am126) (eb_ar am127) (eb_ar am128) (eb_ar am129) (eb_ak e am1210) (eb_ar am1211) (eb_ar am1212) (eb_ar am1213) (eb_ar am1214) := by
  intro n
  induction n with
  | zero =>
    intro x3 x3' h_x3 am121 am122 am123 am124 am125 am126 am127 am128 am129 am1210 am1211 am1212 am1213 am1214 h
    exact absurd (show false = true from h) Bool.false_ne_true
  | succ n ih =>
    intro x3 x3' h_x3 am121 am122 am123 am124 am125 am126 am127 am128 am129 am1210 am1211 am1212 am1213 am1214 h
    have h : ef_freshCopy_83_b K x1 x2 f0_root f0_wayEnd f0_waiting (ef_freshCopy_83 K x1 x2 f0_root f0_wayEnd f0_waiting n) x3 am121 am122 am123 am124 am125 am126 am127 am128 am129 am1210 am1211 am1212 am1213 am1214 = true := h
    refine eh_if (eh_le eh_n6 h_x3) h (fun h => ?_) (fun h => ?_)
    ·
     exact hK _ _ h_x2 _ _ h_f0_root _ _ h_f0_wayEnd _ _ h_f0_waiting _ _ _ _ _ _ _ _ _ _ _ _ _ _ h
    ·
     refine eh_in (eh_ad (eh_ml eh_n6 h_x1) h_x3) h (fun f1 h => ?_)
     refine eh_in (eh_ad (eh_ml eh_n6 h_x2) h_x3) h (fun f2 h => ?_)
     obtain ⟨g3, h⟩ := eh_g h
     refine eh_leta (eh_st (eh_ad (eh_ml eh_n6 h_x2) h_x3) f2 (eh_nb (eh_gt (eh_ad (eh_ml eh_n6 h_x1) h_x3) f1) g3)) h (fun am124_56 h => ?_)
     refine eh_let (eh_ad h_x3 eh_n1) h (fun x3_57 x3_57' h_x3_57 h => ?_)
     exact ih _ _ h_x3_57 _ _ _ _ _ _ _ _ _ _ _ _ _ _ h
theorem er_freshCopy_30 {e : ef_E} (he : e.1 < 80) {post : Int32 → St2 → Prop} {K : ef_F18} {x1 : Nat} {x1' : Int32} {x2 : Nat} {x2' : Int32} {f0_root : Nat} {f0_root' : Int32} {f0_wayEnd : Nat} {f0_wayEnd' : Int32} {f0_waiting : Nat} {f0_waiting' : Int32} (hK : er_PI e K post)  (h_x1 : x1' = nI x1) (h_x2 : x2' = nI x2) (h_f0_root : f0_root' = nI f0_root) (h_f0_wayEnd : f0_wayEnd' = nI f0_wayEnd) (h_f0_waiting : f0_waiting' = nI f0_waiting) : ∀ (n : Nat) (x3 : Nat) (x3' : Int32) (_ : x3' = nI x3) (am121 : Nat) (am122 : Nat) (am123 : Nat) (am124 : Nat) (am125 : Nat) (am126 : Nat) (am127 : Nat) (am128 : Nat) (am129 : Nat) (am1210 : Nat) (am1211 : Nat) (am1212 : Nat) (am1213 : Nat) (am1214 : Nat), ef_freshCopy_30 K x1 x2 f0_root f0_wayEnd f0_waiting n x3 am121 am122 am123 am124 am125 am126 am127 am128 am129 am1210 am1211 am1212 am1213 am1214 = true → wX_freshCopy_30 post x1' x2' f0_root' f0_wayEnd' f0_waiting' n x3' (eb_ar am121) (eb_ak e am122) (eb_ar am123) (eb_ar am124) (eb_ar am125) (eb_ar am126) (eb_ar am127) (eb_ar am128) (eb_ar am129) (eb_ak e am1210) (eb_ar am1211) (eb_ar am1212) (eb_ar am1213) (eb_ar am1214) := by
  intro n
  induction n with
  | zero =>
    intro x3 x3' h_x3 am121 am122 am123 am124 am125 am126 am127 am128 am129 am1210 am1211 am1212 am1213 am1214 h
    exact absurd (show false = true from h) Bool.false_ne_true
  | succ n ih =>
    intro x3 x3' h_x3 am121 am122 am123 am124 am125 am126 am127 am128 am129 am1210 am1211 am1212 am1213 am1214 h
    have h : ef_freshCopy_30_b K x1 x2 f0_root f0_wayEnd f0_waiting (ef_freshCopy_30 K x1 x2 f0_root f0_wayEnd f0_waiting n) x3 am121 am122 am123 am124 am125 am126 am127 am128 am129 am1210 am1211 am1212 am1213 am1214 = true := h
    refine eh_if (eh_le eh_n5 h_x3) h (fun h => ?_) (fun h => ?_)
    ·
     refine Exists.intro 120 ?_
     exact er_freshCopy_83 he hK  h_x1 h_x2 h_f0_root h_f0_wayEnd h_f0_waiting 120 _ _ eh_n0 _ _ _ _ _ _ _ _ _ _ _ _ _ _ h
    ·
     refine eh_in (eh_ad (eh_ml eh_n5 h_x1) h_x3) h (fun f1 h => ?_)
     refine eh_in (eh_ad (eh_ml eh_n5 h_x2) h_x3) h (fun f2 h => ?_)
     obtain ⟨g3, h⟩ := eh_g h
     refine eh_letaK (eh_sk (eh_ad (eh_ml eh_n5 h_x2) h_x3) f2 (eh_kns he (eh_gk (eh_ad (eh_ml eh_n5 h_x1) h_x3) f1) g3)) h (fun am122_60 h => ?_)
     refine eh_inf (eh_ad (eh_ml eh_n5 h_x1) h_x3) f1 ?_
     refine eh_inf (eh_ad (eh_ml eh_n5 h_x2) h_x3) f2 ?_
     obtain ⟨g4, h⟩ := eh_g h
     refine eh_leta (eh_st (eh_ad (eh_ml eh_n5 h_x2) h_x3) f2 (eh_ns (eh_gt (eh_ad (eh_ml eh_n5 h_x1) h_x3) f1) g4)) h (fun am123_63 h => ?_)
     refine eh_let (eh_ad h_x3 eh_n1) h (fun x3_64 x3_64' h_x3_64 h => ?_)
     exact ih _ _ h_x3_64 _ _ _ _ _ _ _ _ _ _ _ _ _ _ h
theorem er_freshCopy {e : ef_E} (he : e.1 < 80) {post : Int32 → St2 → Prop} {K : ef_F18} {f0_root : Nat} {f0_root' : Int32} {f0_wayEnd : Nat} {f0_wayEnd' : Int32} {f0_waiting : Nat} {f0_waiting' : Int32} {a1 : Nat} {a2 : Nat} {a3 : Nat} {a4 : Nat} {a5 : Nat} {a6 : Nat} {a7 : Nat} {a8 : Nat} {a9 : Nat} {a10 : Nat} {a11 : Nat} {a12 : Nat} {a13 : Nat} {a14 : Nat} {p0 : Nat} {p0' : Int32} (h_f0_root : f0_root' = nI f0_root) (h_f0_wayEnd : f0_wayEnd' = nI f0_wayEnd) (h_f0_waiting : f0_waiting' = nI f0_waiting) (h_p0 : p0' = nI p0) (h : ef_freshCopy K f0_root f0_wayEnd f0_waiting a1 a2 a3 a4 a5 a6 a7 a8 a9 a10 a11 a12 a13 a14 p0 = true) (hK : er_PI e K post)  : wpX_freshCopy post (f0_root', f0_wayEnd', f0_waiting', (eb_ar a1), (eb_ak e a2), (eb_ar a3), (eb_ar a4), (eb_ar a5), (eb_ar a6), (eb_ar a7), (eb_ar a8), (eb_ar a9), (eb_ak e a10), (eb_ar a11), (eb_ar a12), (eb_ar a13), (eb_ar a14)) p0' := by
  refine eh_in h_p0 h (fun f1 h => ?_)
  refine eh_if (eh_eq (eh_gt h_p0 f1) eh_n0) h (fun h => ?_) (fun h => ?_)
  ·
   refine er_newPage he h_f0_root h_f0_wayEnd h_f0_waiting h (fun r_3 r_3' h_r_3 f0_root_4 f0_root_4' h_f0_root_4 f0_wayEnd_5 f0_wayEnd_5' h_f0_wayEnd_5 f0_waiting_6 f0_waiting_6' h_f0_waiting_6 am121_9 am122_12 am123_15 am124_18 am125_21 am126_24 am127_27 am128_30 am129_33 am1210_36 am1211_39 am1212_42 am1213_45 am1214_48 h => ?_) 
   refine eh_inf h_p0 f1 ?_
   refine eh_in h_r_3 h (fun f2 h => ?_)
   obtain ⟨g3, h⟩ := eh_g h
   refine eh_leta (eh_st h_r_3 f2 (eh_nb (eh_gt h_p0 f1) g3)) h (fun am121_51 h => ?_)
   refine Exists.intro 120 ?_
   exact er_freshCopy_30 he hK  h_p0 h_r_3 h_f0_root_4 h_f0_wayEnd_5 h_f0_waiting_6 120 _ _ eh_n0 _ _ _ _ _ _ _ _ _ _ _ _ _ _ h
  ·
   exact hK _ _ h_p0 _ _ h_f0_root _ _ h_f0_wayEnd _ _ h_f0_waiting _ _ _ _ _ _ _ _ _ _ _ _ _ _ h
theorem er_copyWay_2 {e : ef_E} (he : e.1 < 80) {post : St2 → Prop} {K : ef_F17} (hK : er_PS e K post)   : ∀ (n : Nat) (x1 : Nat) (x1' : Int32) (_ : x1' = nI x1) (f0_root : Nat) (f0_root' : Int32) (_ : f0_root' = nI f0_root) (f0_wayEnd : Nat) (f0_wayEnd' : Int32) (_ : f0_wayEnd' = nI f0_wayEnd) (f0_waiting : Nat) (f0_waiting' : Int32) (_ : f0_waiting' = nI f0_waiting) (a1 : Nat) (a2 : Nat) (a3 : Nat) (a4 : Nat) (a5 : Nat) (a6 : Nat) (a7 : Nat) (a8 : Nat) (a9 : Nat) (a10 : Nat) (a11 : Nat) (a12 : Nat) (a13 : Nat) (a14 : Nat), ef_copyWay_2 K n x1 f0_root f0_wayEnd f0_waiting a1 a2 a3 a4 a5 a6 a7 a8 a9 a10 a11 a12 a13 a14 = true → wX_copyWay_2 post n x1' f0_root' f0_wayEnd' f0_waiting' (eb_ar a1) (eb_ak e a2) (eb_ar a3) (eb_ar a4) (eb_ar a5) (eb_ar a6) (eb_ar a7) (eb_ar a8) (eb_ar a9) (eb_ak e a10) (eb_ar a11) (eb_ar a12) (eb_ar a13) (eb_ar a14) := by
  intro n
  induction n with
  | zero =>
    intro x1 x1' h_x1 f0_root f0_root' h_f0_root f0_wayEnd f0_wayEnd' h_f0_wayEnd f0_waiting f0_waiting' h_f0_waiting a1 a2 a3 a4 a5 a6 a7 a8 a9 a10 a11 a12 a13 a14 h
    exact absurd (show false = true from h) Bool.false_ne_true
  | succ n ih =>
    intro x1 x1' h_x1 f0_root f0_root' h_f0_root f0_wayEnd f0_wayEnd' h_f0_wayEnd f0_waiting f0_waiting' h_f0_waiting a1 a2 a3 a4 a5 a6 a7 a8 a9 a10 a11 a12 a13 a14 h
    have h : ef_copyWay_2_b K (ef_copyWay_2 K n) x1 f0_root f0_wayEnd f0_waiting a1 a2 a3 a4 a5 a6 a7 a8 a9 a10 a11 a12 a13 a14 = true := h
    refine eh_if (eh_le h_f0_wayEnd h_x1) h (fun h => ?_) (fun h => ?_)
    ·
     exact hK _ _ h_f0_root _ _ h_f0_wayEnd _ _ h_f0_waiting _ _ _ _ _ _ _ _ _ _ _ _ _ _ h
    ·
     refine eh_in h_x1 h (fun f1 h => ?_)
     obtain ⟨fx2, h_fx2, h⟩ := eh_fc (eh_gt h_x1 f1) h
     refine er_freshCopy he h_f0_root h_f0_wayEnd h_f0_waiting h_fx2 h (fun r_3 r_3' h_r_3 f0_root_4 f0_root_4' h_f0_root_4 f0_wayEnd_5 f0_wayEnd_5' h_f0_wayEnd_5 f0_waiting_6 f0_waiting_6' h_f0_waiting_6 am171_9 am172_12 am173_15 am174_18 am175_21 am176_24 am177_27 am178_30 am179_33 am1710_36 am1711_39 am1712_42 am1713_45 am1714_48 h => ?_) 
     refine eh_inf h_x1 f1 ?_
     obtain ⟨g3, h⟩ := eh_g h
     refine eh_leta (eh_st h_x1 f1 (eh_b8 h_r_3 g3)) h (fun am1712_50 h => ?_)
     refine eh_if (eh_eq h_x1 eh_n0) h (fun h => ?_) (fun h => ?_)
     ·
      refine eh_let (eh_ad h_x1 eh_n1) h (fun x1_57 x1_57' h_x1_57 h => ?_)
      exact ih _ _ h_x1_57 _ _ h_r_3 _ _ h_f0_wayEnd_5 _ _ h_f0_waiting_6 _ _ _ _ _ _ _ _ _ _ _ _ _ _ h
     ·
      refine eh_in (eh_sb h_x1 eh_n1) h (fun f4 h => ?_)
      refine eh_inf (eh_sb h_x1 eh_n1) f4 ?_
      refine eh_in (eh_ad (eh_ml eh_n6 (eh_gt (eh_sb h_x1 eh_n1) f4)) (eh_gt (eh_sb h_x1 eh_n1) f4)) h (fun f5 h => ?_)
      refine eh_leta (eh_st (eh_ad (eh_ml eh_n6 (eh_gt (eh_sb h_x1 eh_n1) f4)) (eh_gt (eh_sb h_x1 eh_n1) f4)) f5 (eh_b8 h_r_3 g3)) h (fun am174_55 h => ?_)
      refine eh_let (eh_ad h_x1 eh_n1) h (fun x1_56 x1_56' h_x1_56 h => ?_)
      exact ih _ _ h_x1_56 _ _ h_f0_root_4 _ _ h_f0_wayEnd_5 _ _ h_f0_waiting_6 _ _ _ _ _ _ _ _ _ _ _ _ _ _ h
theorem er_copyWay {e : ef_E} (he : e.1 < 80) {post : St2 → Prop} {K : ef_F17} {f0_root : Nat} {f0_root' : Int32} {f0_wayEnd : Nat} {f0_wayEnd' : Int32} {f0_waiting : Nat} {f0_waiting' : Int32} {a1 : Nat} {a2 : Nat} {a3 : Nat} {a4 : Nat} {a5 : Nat} {a6 : Nat} {a7 : Nat} {a8 : Nat} {a9 : Nat} {a10 : Nat} {a11 : Nat} {a12 : Nat} {a13 : Nat} {a14 : Nat} (h_f0_root : f0_root' = nI f0_root) (h_f0_wayEnd : f0_wayEnd' = nI f0_wayEnd) (h_f0_waiting : f0_waiting' = nI f0_waiting) (h : ef_copyWay K f0_root f0_wayEnd f0_waiting a1 a2 a3 a4 a5 a6 a7 a8 a9 a10 a11 a12 a13 a14 = true) (hK : er_PS e K post)  : wpX_copyWay post (f0_root', f0_wayEnd', f0_waiting', (eb_ar a1), (eb_ak e a2), (eb_ar a3), (eb_ar a4), (eb_ar a5), (eb_ar a6), (eb_ar a7), (eb_ar a8), (eb_ar a9), (eb_ak e a10), (eb_ar a11), (eb_ar a12), (eb_ar a13), (eb_ar a14)) := by
  refine Exists.intro 120 ?_
  exact er_copyWay_2 he hK   120 _ _ eh_n0 _ _ h_f0_root _ _ h_f0_wayEnd _ _ h_f0_waiting _ _ _ _ _ _ _ _ _ _ _ _ _ _ h
theorem er_openPlace_7 {e : ef_E} (he : e.1 < 80) {post : St2 → Prop} {K : ef_F17} {x1 : Nat} {x1' : Int32} {x2 : Nat} {x2' : Int32} {f0_root : Nat} {f0_root' : Int32} {f0_wayEnd : Nat} {f0_wayEnd' : Int32} {f0_waiting : Nat} {f0_waiting' : Int32} (hK : er_PS e K post)  (h_x1 : x1' = nI x1) (h_x2 : x2' = nI x2) (h_f0_root : f0_root' = nI f0_root) (h_f0_wayEnd : f0_wayEnd' = nI f0_wayEnd) (h_f0_waiting : f0_waiting' = nI f0_waiting) : ∀ (n : Nat) (x3 : Nat) (x3' : Int32) (_ : x3' = nI x3) (a1 : Nat) (a2 : Nat) (a3 : Nat) (a4 : Nat) (a5 : Nat) (a6 : Nat) (a7 : Nat) (a8 : Nat) (a9 : Nat) (a10 : Nat) (a11 : Nat) (a12 : Nat) (a13 : Nat) (a14 : Nat), ef_openPlace_7 K x1 x2 f0_root f0_wayEnd f0_waiting n x3 a1 a2 a3 a4 a5 a6 a7 a8 a9 a10 a11 a12 a13 a14 = true → wX_openPlace_7 post x1' x2' f0_root' f0_wayEnd' f0_waiting' n x3' (eb_ar a1) (eb_ak e a2) (eb_ar a3) (eb_ar a4) (eb_ar a5) (eb_ar a6) (eb_ar a7) (eb_ar a8) (eb_ar a9) (eb_ak e a10) (eb_ar a11) (eb_ar a12) (eb_ar a13) (eb_ar a14) := by
  intro n
  induction n with
  | zero =>
    intro x3 x3' h_x3 a1 a2 a3 a4 a5 a6 a7 a8 a9 a10 a11 a12 a13 a14 h
    exact absurd (show false = true from h) Bool.false_ne_true
  | succ n ih =>
    intro x3 x3' h_x3 a1 a2 a3 a4 a5 a6 a7 a8 a9 a10 a11 a12 a13 a14 h
    have h : ef_openPlace_7_b K x1 x2 f0_root f0_wayEnd f0_waiting (ef_openPlace_7 K x1 x2 f0_root f0_wayEnd f0_waiting n) x3 a1 a2 a3 a4 a5 a6 a7 a8 a9 a10 a11 a12 a13 a14 = true := h
    refine eh_if (eh_le h_x3 h_x2) h (fun h => ?_) (fun h => ?_)
    ·
     refine eh_in h_x1 h (fun f1 h => ?_)
     refine eh_inf h_x1 f1 ?_
     obtain ⟨g2, h⟩ := eh_g h
     refine eh_leta (eh_st h_x1 f1 (eh_b8 (eh_ad (eh_gt h_x1 f1) eh_n1) g2)) h (fun a1_6 h => ?_)
     exact hK _ _ h_f0_root _ _ h_f0_wayEnd _ _ h_f0_waiting _ _ _ _ _ _ _ _ _ _ _ _ _ _ h
    ·
     refine eh_in (eh_sb (eh_ad (eh_ml eh_n5 h_x1) h_x3) eh_n1) h (fun f3 h => ?_)
     refine eh_in (eh_ad (eh_ml eh_n5 h_x1) h_x3) h (fun f4 h => ?_)
     obtain ⟨g5, h⟩ := eh_g h
     refine eh_letaK (eh_sk (eh_ad (eh_ml eh_n5 h_x1) h_x3) f4 (eh_kns he (eh_gk (eh_sb (eh_ad (eh_ml eh_n5 h_x1) h_x3) eh_n1) f3) g5)) h (fun a2_9 h => ?_)
     refine eh_inf (eh_sb (eh_ad (eh_ml eh_n5 h_x1) h_x3) eh_n1) f3 ?_
     refine eh_inf (eh_ad (eh_ml eh_n5 h_x1) h_x3) f4 ?_
     obtain ⟨g6, h⟩ := eh_g h
     refine eh_leta (eh_st (eh_ad (eh_ml eh_n5 h_x1) h_x3) f4 (eh_ns (eh_gt (eh_sb (eh_ad (eh_ml eh_n5 h_x1) h_x3) eh_n1) f3) g6)) h (fun a3_12 h => ?_)
     refine eh_let (eh_ad h_x3 eh_m1) h (fun x3_13 x3_13' h_x3_13 h => ?_)
     exact ih _ _ h_x3_13 _ _ _ _ _ _ _ _ _ _ _ _ _ _ h
theorem er_openPlace {e : ef_E} (he : e.1 < 80) {post : St2 → Prop} {K : ef_F17} {f0_root : Nat} {f0_root' : Int32} {f0_wayEnd : Nat} {f0_wayEnd' : Int32} {f0_waiting : Nat} {f0_waiting' : Int32} {a1 : Nat} {a2 : Nat} {a3 : Nat} {a4 : Nat} {a5 : Nat} {a6 : Nat} {a7 : Nat} {a8 : Nat} {a9 : Nat} {a10 : Nat} {a11 : Nat} {a12 : Nat} {a13 : Nat} {a14 : Nat} {p0 : Nat} {p0' : Int32} {p1 : Nat} {p1' : Int32} (h_f0_root : f0_root' = nI f0_root) (h_f0_wayEnd : f0_wayEnd' = nI f0_wayEnd) (h_f0_waiting : f0_waiting' = nI f0_waiting) (h_p0 : p0' = nI p0) (h_p1 : p1' = nI p1) (h : ef_openPlace K f0_root f0_wayEnd f0_waiting a1 a2 a3 a4 a5 a6 a7 a8 a9 a10 a11 a12 a13 a14 p0 p1 = true) (hK : er_PS e K post)  : wpX_openPlace post (f0_root', f0_wayEnd', f0_waiting', (eb_ar a1), (eb_ak e a2), (eb_ar a3), (eb_ar a4), (eb_ar a5), (eb_ar a6), (eb_ar a7), (eb_ar a8), (eb_ar a9), (eb_ak e a10), (eb_ar a11), (eb_ar a12), (eb_ar a13), (eb_ar a14)) p0' p1' := by
  refine eh_in h_p0 h (fun f1 h => ?_)
  refine eh_let (eh_gt h_p0 f1) h (fun x3_2 x3_2' h_x3_2 h => ?_)
  refine Exists.intro 120 ?_
  exact er_openPlace_7 he hK  h_p0 h_p1 h_f0_root h_f0_wayEnd h_f0_waiting 120 _ _ h_x3_2 _ _ _ _ _ _ _ _ _ _ _ _ _ _ h
theorem er_putAt {e : ef_E} (he : e.1 < 80) {post : St2 → Prop} {K : ef_F17} {f0_root : Nat} {f0_root' : Int32} {f0_wayEnd : Nat} {f0_wayEnd' : Int32} {f0_waiting : Nat} {f0_waiting' : Int32} {a1 : Nat} {a2 : Nat} {a3 : Nat} {a4 : Nat} {a5 : Nat} {a6 : Nat} {a7 : Nat} {a8 : Nat} {a9 : Nat} {a10 : Nat} {a11 : Nat} {a12 : Nat} {a13 : Nat} {a14 : Nat} {p0 : Nat} {p0' : Int32} {p1 : Nat} {p1' : Int32} {p2 : Nat} {p2' : Int32} {p3 : Nat} {p3' : Int32} (h_f0_root : f0_root' = nI f0_root) (h_f0_wayEnd : f0_wayEnd' = nI f0_wayEnd) (h_f0_waiting : f0_waiting' = nI f0_waiting) (h_p0 : p0' = nI p0) (h_p1 : p1' = nI p1) (h_p2 : p2' = ef_kv e p2) (h_p3 : p3' = nI p3) (h : ef_putAt K f0_root f0_wayEnd f0_waiting a1 a2 a3 a4 a5 a6 a7 a8 a9 a10 a11 a12 a13 a14 p0 p1 p2 p3 = true) (hK : er_PS e K post)  : wpX_putAt post (f0_root', f0_wayEnd', f0_waiting', (eb_ar a1), (eb_ak e a2), (eb_ar a3), (eb_ar a4), (eb_ar a5), (eb_ar a6), (eb_ar a7), (eb_ar a8), (eb_ar a9), (eb_ak e a10), (eb_ar a11), (eb_ar a12), (eb_ar a13), (eb_ar a14)) p0' p1' p2' p3' := by
  refine eh_in (eh_ad (eh_ml eh_n5 h_p0) h_p1) h (fun f1 h => ?_)
  obtain ⟨g2, h⟩ := eh_g h
  refine eh_letaK (eh_sk (eh_ad (eh_ml eh_n5 h_p0) h_p1) f1 (eh_ks16 he h_p2 g2)) h (fun a2_2 h => ?_)
  refine eh_inf (eh_ad (eh_ml eh_n5 h_p0) h_p1) f1 ?_
  obtain ⟨g3, h⟩ := eh_g h
  refine eh_leta (eh_st (eh_ad (eh_ml eh_n5 h_p0) h_p1) f1 (eh_s16 h_p3 g3)) h (fun a3_4 h => ?_)
  exact hK _ _ h_f0_root _ _ h_f0_wayEnd _ _ h_f0_waiting _ _ _ _ _ _ _ _ _ _ _ _ _ _ h
theorem er_newRoot {e : ef_E} (he : e.1 < 80) {post : Int32 → St2 → Prop} {K : ef_F18} {f0_root : Nat} {f0_root' : Int32} {f0_wayEnd : Nat} {f0_wayEnd' : Int32} {f0_waiting : Nat} {f0_waiting' : Int32} {a1 : Nat} {a2 : Nat} {a3 : Nat} {a4 : Nat} {a5 : Nat} {a6 : Nat} {a7 : Nat} {a8 : Nat} {a9 : Nat} {a10 : Nat} {a11 : Nat} {a12 : Nat} {a13 : Nat} {a14 : Nat} {p0 : Nat} {p0' : Int32} (h_f0_root : f0_root' = nI f0_root) (h_f0_wayEnd : f0_wayEnd' = nI f0_wayEnd) (h_f0_waiting : f0_waiting' = nI f0_waiting) (h_p0 : p0' = nI p0) (h : ef_newRoot K f0_root f0_wayEnd f0_waiting a1 a2 a3 a4 a5 a6 a7 a8 a9 a10 a11 a12 a13 a14 p0 = true) (hK : er_PI e K post)  : wpX_newRoot post (f0_root', f0_wayEnd', f0_waiting', (eb_ar a1), (eb_ak e a2), (eb_ar a3), (eb_ar a4), (eb_ar a5), (eb_ar a6), (eb_ar a7), (eb_ar a8), (eb_ar a9), (eb_ak e a10), (eb_ar a11), (eb_ar a12), (eb_ar a13), (eb_ar a14)) p0' := by
  unfold wpX_newRoot
  refine er_newPage he h_f0_root h_f0_wayEnd h_f0_waiting h (fun r_1 r_1' h_r_1 f0_root_2 f0_root_2' h_f0_root_2 f0_wayEnd_3 f0_wayEnd_3' h_f0_wayEnd_3 f0_waiting_4 f0_waiting_4' h_f0_waiting_4 am11_7 am12_10 am13_13 am14_16 am15_19 am16_22 am17_25 am18_28 am19_31 am110_34 am111_37 am112_40 am113_43 am114_46 h => ?_) 
  refine eh_in (eh_ml eh_n6 h_r_1) h (fun f1 h => ?_)
  obtain ⟨g2, h⟩ := eh_g h
  refine eh_leta (eh_st (eh_ml eh_n6 h_r_1) f1 (eh_b8 h_p0 g2)) h (fun am14_48 h => ?_)
  exact hK _ _ h_r_1 _ _ h_r_1 _ _ h_f0_wayEnd_3 _ _ h_f0_waiting_4 _ _ _ _ _ _ _ _ _ _ _ _ _ _ h
theorem er_split_174 {e : ef_E} (he : e.1 < 80) {post : St2 → Prop} {K : ef_F17} {x2 : Nat} {x2' : Int32} {x3 : Nat} {x3' : Int32} {x4 : Nat} {x4' : Int32} {x5 : Nat} {x5' : Int32} {f0_root : Nat} {f0_root' : Int32} {f0_wayEnd : Nat} {f0_wayEnd' : Int32} {f0_waiting : Nat} {f0_waiting' : Int32} (hK : er_PS e K post)  (h_x2 : x2' = nI x2) (h_x3 : x3' = nI x3) (h_x4 : x4' = nI x4) (h_x5 : x5' = nI x5) (h_f0_root : f0_root' = nI f0_root) (h_f0_wayEnd : f0_wayEnd' = nI f0_wayEnd) (h_f0_waiting : f0_waiting' = nI f0_waiting) : ∀ (n : Nat) (x6 : Nat) (x6' : Int32) (_ : x6' = nI x6) (am81 : Nat) (am82 : Nat) (am83 : Nat) (am84 : Nat) (am85 : Nat) (am86 : Nat) (am87 : Nat) (am88 : Nat) (am89 : Nat) (am810 : Nat) (am811 : Nat) (am812 : Nat) (am813 : Nat) (am814 : Nat), ef_split_174 K x2 x3 x4 x5 f0_root f0_wayEnd f0_waiting n x6 am81 am82 am83 am84 am85 am86 am87 am88 am89 am810 am811 am812 am813 am814 = true → wX_split_174 post x2' x3' x4' x5' f0_root' f0_wayEnd' f0_waiting' n x6' (eb_ar am81) (eb_ak e am82) (eb_ar am83) (eb_ar am84) (eb_ar am85) (eb_ar am86) (eb_ar am87) (eb_ar am88) (eb_ar am89) (eb_ak e am810) (eb_ar am811) (eb_ar am812) (eb_ar am813) (eb_ar am814) := by
  intro n
  induction n with
  | zero =>
    intro x6 x6' h_x6 am81 am82 am83 am84 am85 am86 am87 am88 am89 am810 am811 am812 am813 am814 h
    exact absurd (show false = true from h) Bool.false_ne_true
  | succ n ih =>
    intro x6 x6' h_x6 am81 am82 am83 am84 am85 am86 am87 am88 am89 am810 am811 am812 am813 am814 h
    have h : ef_split_174_b K x2 x3 x4 x5 f0_root f0_wayEnd f0_waiting (ef_split_174 K x2 x3 x4 x5 f0_root f0_wayEnd f0_waiting n) x6 am81 am82 am83 am84 am85 am86 am87 am88 am89 am810 am811 am812 am813 am814 = true := h
    refine eh_if (eh_le h_x6 (eh_ad h_x5 eh_n1)) h (fun h => ?_) (fun h => ?_)
    ·
     refine er_openPlace he h_f0_root h_f0_wayEnd h_f0_waiting h_x4 h_x5 h (fun f0_root_64 f0_root_64' h_f0_root_64 f0_wayEnd_65 f0_wayEnd_65' h_f0_wayEnd_65 f0_waiting_66 f0_waiting_66' h_f0_waiting_66 am2221_69 am2222_72 am2223_75 am2224_78 am2225_81 am2226_84 am2227_87 am2228_90 am2229_93 am22210_96 am22211_99 am22212_102 am22213_105 am22214_108 h => ?_) 
     refine eh_in (eh_ad (eh_ml eh_n5 h_x2) eh_n2) h (fun f1 h => ?_)
     refine eh_inf (eh_ad (eh_ml eh_n5 h_x2) eh_n2) f1 ?_
     obtain ⟨fx2, h_fx2, h⟩ := eh_fcK (eh_gk (eh_ad (eh_ml eh_n5 h_x2) eh_n2) f1) h
     obtain ⟨fx3, h_fx3, h⟩ := eh_fc (eh_gt (eh_ad (eh_ml eh_n5 h_x2) eh_n2) f1) h
     refine er_putAt he h_f0_root_64 h_f0_wayEnd_65 h_f0_waiting_66 h_x4 h_x5 h_fx2 h_fx3 h (fun f0_root_112 f0_root_112' h_f0_root_112 f0_wayEnd_113 f0_wayEnd_113' h_f0_wayEnd_113 f0_waiting_114 f0_waiting_114' h_f0_waiting_114 am2501_117 am2502_120 am2503_123 am2504_126 am2505_129 am2506_132 am2507_135 am2508_138 am2509_141 am25010_144 am25011_147 am25012_150 am25013_153 am25014_156 h => ?_) 
     refine eh_in (eh_ad (eh_ad (eh_ml eh_n6 h_x4) h_x5) eh_n1) h (fun f4 h => ?_)
     obtain ⟨g5, h⟩ := eh_g h
     refine eh_leta (eh_st (eh_ad (eh_ad (eh_ml eh_n6 h_x4) h_x5) eh_n1) f4 (eh_b8 h_x3 g5)) h (fun am2504_158 h => ?_)
     exact hK _ _ h_f0_root_112 _ _ h_f0_wayEnd_113 _ _ h_f0_waiting_114 _ _ _ _ _ _ _ _ _ _ _ _ _ _ h
    ·
     refine eh_in (eh_sb (eh_ad (eh_ml eh_n6 h_x4) h_x6) eh_n1) h (fun f6 h => ?_)
     refine eh_in (eh_ad (eh_ml eh_n6 h_x4) h_x6) h (fun f7 h => ?_)
     obtain ⟨g8, h⟩ := eh_g h
     refine eh_leta (eh_st (eh_ad (eh_ml eh_n6 h_x4) h_x6) f7 (eh_nb (eh_gt (eh_sb (eh_ad (eh_ml eh_n6 h_x4) h_x6) eh_n1) f6) g8)) h (fun am84_161 h => ?_)
     refine eh_let (eh_ad h_x6 eh_m1) h (fun x6_162 x6_162' h_x6_162 h => ?_)
     exact ih _ _ h_x6_162 _ _ _ _ _ _ _ _ _ _ _ _ _ _ h
theorem er_split_161 {e : ef_E} (he : e.1 < 80) {post : St2 → Prop} {K : ef_F17} {x2 : Nat} {x2' : Int32} {x3 : Nat} {x3' : Int32} {x4 : Nat} {x4' : Int32} {z0 : Nat} {z0' : Int32} {f0_root : Nat} {f0_root' : Int32} {f0_wayEnd : Nat} {f0_wayEnd' : Int32} {f0_waiting : Nat} {f0_waiting' : Int32} {am81 : Nat} {am82 : Nat} {am83 : Nat} {am84 : Nat} {am85 : Nat} {am86 : Nat} {am87 : Nat} {am88 : Nat} {am89 : Nat} {am810 : Nat} {am811 : Nat} {am812 : Nat} {am813 : Nat} {am814 : Nat} (h_x2 : x2' = nI x2) (h_x3 : x3' = nI x3) (h_x4 : x4' = nI x4) (h_z0 : z0' = nI z0) (h_f0_root : f0_root' = nI f0_root) (h_f0_wayEnd : f0_wayEnd' = nI f0_wayEnd) (h_f0_waiting : f0_waiting' = nI f0_waiting) (h : ef_split_161 K x2 x3 x4 z0 f0_root f0_wayEnd f0_waiting am81 am82 am83 am84 am85 am86 am87 am88 am89 am810 am811 am812 am813 am814 = true) (hK : er_PS e K post)  : wX_split_161 post x2' x3' x4' z0' f0_root' f0_wayEnd' f0_waiting' (eb_ar am81) (eb_ak e am82) (eb_ar am83) (eb_ar am84) (eb_ar am85) (eb_ar am86) (eb_ar am87) (eb_ar am88) (eb_ar am89) (eb_ak e am810) (eb_ar am811) (eb_ar am812) (eb_ar am813) (eb_ar am814) := by
  refine eh_in h_x4 h (fun f1 h => ?_)
  refine eh_let (eh_ad (eh_gt h_x4 f1) eh_n1) h (fun x6_61 x6_61' h_x6_61 h => ?_)
  refine Exists.intro 120 ?_
  exact er_split_174 he hK  h_x2 h_x3 h_x4 h_z0 h_f0_root h_f0_wayEnd h_f0_waiting 120 _ _ h_x6_61 _ _ _ _ _ _ _ _ _ _ _ _ _ _ h
theorem er_split_143 {e : ef_E} (he : e.1 < 80) {post : St2 → Prop} {K : ef_F17} {x1 : Nat} {x1' : Int32} {x2 : Nat} {x2' : Int32} {x3 : Nat} {x3' : Int32} {z0 : Nat} {z0' : Int32} {f0_root : Nat} {f0_root' : Int32} {f0_wayEnd : Nat} {f0_wayEnd' : Int32} {f0_waiting : Nat} {f0_waiting' : Int32} {am81 : Nat} {am82 : Nat} {am83 : Nat} {am84 : Nat} {am85 : Nat} {am86 : Nat} {am87 : Nat} {am88 : Nat} {am89 : Nat} {am810 : Nat} {am811 : Nat} {am812 : Nat} {am813 : Nat} {am814 : Nat} (h_x1 : x1' = nI x1) (h_x2 : x2' = nI x2) (h_x3 : x3' = nI x3) (h_z0 : z0' = nI z0) (h_f0_root : f0_root' = nI f0_root) (h_f0_wayEnd : f0_wayEnd' = nI f0_wayEnd) (h_f0_waiting : f0_waiting' = nI f0_waiting) (h : ef_split_143 K x1 x2 x3 z0 f0_root f0_wayEnd f0_waiting am81 am82 am83 am84 am85 am86 am87 am88 am89 am810 am811 am812 am813 am814 = true) (hK : er_PS e K post)  : wX_split_143 post x1' x2' x3' z0' f0_root' f0_wayEnd' f0_waiting' (eb_ar am81) (eb_ak e am82) (eb_ar am83) (eb_ar am84) (eb_ar am85) (eb_ar am86) (eb_ar am87) (eb_ar am88) (eb_ar am89) (eb_ak e am810) (eb_ar am811) (eb_ar am812) (eb_ar am813) (eb_ar am814) := by
  refine eh_if (eh_eq h_x1 eh_n0) h (fun h => ?_) (fun h => ?_)
  ·
   exact er_split_161 he h_x2 h_x3 h_z0 eh_n0 h_f0_root h_f0_wayEnd h_f0_waiting h hK 
  ·
   refine eh_in (eh_sb h_x1 eh_n1) h (fun f1 h => ?_)
   obtain ⟨fx2, h_fx2, h⟩ := eh_fc (eh_gt (eh_sb h_x1 eh_n1) f1) h
   exact er_split_161 he h_x2 h_x3 h_z0 h_fx2 h_f0_root h_f0_wayEnd h_f0_waiting h hK 
theorem er_split_109 {e : ef_E} (he : e.1 < 80) {post : St2 → Prop} {K : ef_F17} {x1 : Nat} {x1' : Int32} {x2 : Nat} {x2' : Int32} {x3 : Nat} {x3' : Int32} {f0_root : Nat} {f0_root' : Int32} {f0_wayEnd : Nat} {f0_wayEnd' : Int32} {f0_waiting : Nat} {f0_waiting' : Int32} {am81 : Nat} {am82 : Nat} {am83 : Nat} {am84 : Nat} {am85 : Nat} {am86 : Nat} {am87 : Nat} {am88 : Nat} {am89 : Nat} {am810 : Nat} {am811 : Nat} {am812 : Nat} {am813 : Nat} {am814 : Nat} (h_x1 : x1' = nI x1) (h_x2 : x2' = nI x2) (h_x3 : x3' = nI x3) (h_f0_root : f0_root' = nI f0_root) (h_f0_wayEnd : f0_wayEnd' = nI f0_wayEnd) (h_f0_waiting : f0_waiting' = nI f0_waiting) (h : ef_split_109 K x1 x2 x3 f0_root f0_wayEnd f0_waiting am81 am82 am83 am84 am85 am86 am87 am88 am89 am810 am811 am812 am813 am814 = true) (hK : er_PS e K post)  : wX_split_109 post x1' x2' x3' f0_root' f0_wayEnd' f0_waiting' (eb_ar am81) (eb_ak e am82) (eb_ar am83) (eb_ar am84) (eb_ar am85) (eb_ar am86) (eb_ar am87) (eb_ar am88) (eb_ar am89) (eb_ak e am810) (eb_ar am811) (eb_ar am812) (eb_ar am813) (eb_ar am814) := by
  refine eh_in h_x3 h (fun f1 h => ?_)
  refine eh_leta (eh_st h_x3 f1 eh_n2) h (fun am81_53 h => ?_)
  refine eh_in h_x2 h (fun f2 h => ?_)
  refine eh_leta (eh_st h_x2 f2 eh_n2) h (fun am81_55 h => ?_)
  refine eh_if (eh_eq h_x1 eh_n0) h (fun h => ?_) (fun h => ?_)
  ·
   refine er_newRoot he h_f0_root h_f0_wayEnd h_f0_waiting h_x2 h (fun r_163 r_163' h_r_163 f0_root_164 f0_root_164' h_f0_root_164 f0_wayEnd_165 f0_wayEnd_165' h_f0_wayEnd_165 f0_waiting_166 f0_waiting_166' h_f0_waiting_166 am1291_169 am1292_172 am1293_175 am1294_178 am1295_181 am1296_184 am1297_187 am1298_190 am1299_193 am12910_196 am12911_199 am12912_202 am12913_205 am12914_208 h => ?_) 
   exact er_split_143 he h_x1 h_x2 h_x3 h_r_163 h_f0_root_164 h_f0_wayEnd_165 h_f0_waiting_166 h hK 
  ·
   refine eh_in (eh_sb h_x1 eh_n1) h (fun f3 h => ?_)
   obtain ⟨fx4, h_fx4, h⟩ := eh_fc (eh_gt (eh_sb h_x1 eh_n1) f3) h
   exact er_split_143 he h_x1 h_x2 h_x3 h_fx4 h_f0_root h_f0_wayEnd h_f0_waiting h hK 
theorem er_split_71 {e : ef_E} (he : e.1 < 80) {post : St2 → Prop} {K : ef_F17} {x1 : Nat} {x1' : Int32} {x2 : Nat} {x2' : Int32} {x3 : Nat} {x3' : Int32} {f0_root : Nat} {f0_root' : Int32} {f0_wayEnd : Nat} {f0_wayEnd' : Int32} {f0_waiting : Nat} {f0_waiting' : Int32} (hK : er_PS e K post)  (h_x1 : x1' = nI x1) (h_x2 : x2' = nI x2) (h_x3 : x3' = nI x3) (h_f0_root : f0_root' = nI f0_root) (h_f0_wayEnd : f0_wayEnd' = nI f0_wayEnd) (h_f0_waiting : f0_waiting' = nI f0_waiting) : ∀ (n : Nat) (x4 : Nat) (x4' : Int32) (_ : x4' = nI x4) (am81 : Nat) (am82 : Nat) (am83 : Nat) (am84 : Nat) (am85 : Nat) (am86 : Nat) (am87 : Nat) (am88 : Nat) (am89 : Nat) (am810 : Nat) (am811 : Nat) (am812 : Nat) (am813 : Nat) (am814 : Nat), ef_split_71 K x1 x2 x3 f0_root f0_wayEnd f0_waiting n x4 am81 am82 am83 am84 am85 am86 am87 am88 am89 am810 am811 am812 am813 am814 = true → wX_split_71 post x1' x2' x3' f0_root' f0_wayEnd' f0_waiting' n x4' (eb_ar am81) (eb_ak e am82) (eb_ar am83) (eb_ar am84) (eb_ar am85) (eb_ar am86) (eb_ar am87) (eb_ar am88) (eb_ar am89) (eb_ak e am810) (eb_ar am811) (eb_ar am812) (eb_ar am813) (eb_ar am814) := by
  intro n
  induction n with
  | zero =>
    intro x4 x4' h_x4 am81 am82 am83 am84 am85 am86 am87 am88 am89 am810 am811 am812 am813 am814 h
    exact absurd (show false = true from h) Bool.false_ne_true
  | succ n ih =>
    intro x4 x4' h_x4 am81 am82 am83 am84 am85 am86 am87 am88 am89 am810 am811 am812 am813 am814 h
    have h : ef_split_71_b K x1 x2 x3 f0_root f0_wayEnd f0_waiting (ef_split_71 K x1 x2 x3 f0_root f0_wayEnd f0_waiting n) x4 am81 am82 am83 am84 am85 am86 am87 am88 am89 am810 am811 am812 am813 am814 = true := h
    refine eh_if (eh_le eh_n3 h_x4) h (fun h => ?_) (fun h => ?_)
    ·
     exact er_split_109 he h_x1 h_x2 h_x3 h_f0_root h_f0_wayEnd h_f0_waiting h hK 
    ·
     refine eh_in (eh_ad (eh_ad (eh_ml eh_n6 h_x2) eh_n3) h_x4) h (fun f1 h => ?_)
     refine eh_in (eh_ad (eh_ml eh_n6 h_x3) h_x4) h (fun f2 h => ?_)
     obtain ⟨g3, h⟩ := eh_g h
     refine eh_leta (eh_st (eh_ad (eh_ml eh_n6 h_x3) h_x4) f2 (eh_nb (eh_gt (eh_ad (eh_ad (eh_ml eh_n6 h_x2) eh_n3) h_x4) f1) g3)) h (fun am84_212 h => ?_)
     refine eh_let (eh_ad h_x4 eh_n1) h (fun x4_213 x4_213' h_x4_213 h => ?_)
     exact ih _ _ h_x4_213 _ _ _ _ _ _ _ _ _ _ _ _ _ _ h
theorem er_split_15 {e : ef_E} (he : e.1 < 80) {post : St2 → Prop} {K : ef_F17} {x1 : Nat} {x1' : Int32} {x2 : Nat} {x2' : Int32} {x3 : Nat} {x3' : Int32} (hK : er_PS e K post)  (h_x1 : x1' = nI x1) (h_x2 : x2' = nI x2) (h_x3 : x3' = nI x3) : ∀ (n : Nat) (x4 : Nat) (x4' : Int32) (_ : x4' = nI x4) (f0_root : Nat) (f0_root' : Int32) (_ : f0_root' = nI f0_root) (f0_wayEnd : Nat) (f0_wayEnd' : Int32) (_ : f0_wayEnd' = nI f0_wayEnd) (f0_waiting : Nat) (f0_waiting' : Int32) (_ : f0_waiting' = nI f0_waiting) (am81 : Nat) (am82 : Nat) (am83 : Nat) (am84 : Nat) (am85 : Nat) (am86 : Nat) (am87 : Nat) (am88 : Nat) (am89 : Nat) (am810 : Nat) (am811 : Nat) (am812 : Nat) (am813 : Nat) (am814 : Nat), ef_split_15 K x1 x2 x3 n x4 f0_root f0_wayEnd f0_waiting am81 am82 am83 am84 am85 am86 am87 am88 am89 am810 am811 am812 am813 am814 = true → wX_split_15 post x1' x2' x3' n x4' f0_root' f0_wayEnd' f0_waiting' (eb_ar am81) (eb_ak e am82) (eb_ar am83) (eb_ar am84) (eb_ar am85) (eb_ar am86) (eb_ar am87) (eb_ar am88) (eb_ar am89) (eb_ak e am810) (eb_ar am811) (eb_ar am812) (eb_ar am813) (eb_ar am814) := by
  intro n
  induction n with
  | zero =>
    intro x4 x4' h_x4 f0_root f0_root' h_f0_root f0_wayEnd f0_wayEnd' h_f0_wayEnd f0_waiting f0_waiting' h_f0_waiting am81 am82 am83 am84 am85 am86 am87 am88 am89 am810 am811 am812 am813 am814 h
    exact absurd (show false = true from h) Bool.false_ne_true
  | succ n ih =>
    intro x4 x4' h_x4 f0_root f0_root' h_f0_root f0_wayEnd f0_wayEnd' h_f0_wayEnd f0_waiting f0_waiting' h_f0_waiting am81 am82 am83 am84 am85 am86 am87 am88 am89 am810 am811 am812 am813 am814 h
    have h : ef_split_15_b K x1 x2 x3 (ef_split_15 K x1 x2 x3 n) x4 f0_root f0_wayEnd f0_waiting am81 am82 am83 am84 am85 am86 am87 am88 am89 am810 am811 am812 am813 am814 = true := h
    refine eh_if (eh_le eh_n2 h_x4) h (fun h => ?_) (fun h => ?_)
    ·
     refine er_isLeaf he h_f0_root h_f0_wayEnd h_f0_waiting h_x2 h (fun r_50 r_50' h_r_50 h => ?_) 
     refine eh_if (eh_eq h_r_50 eh_n0) h (fun h => ?_) (fun h => ?_)
     ·
      refine Exists.intro 120 ?_
      exact er_split_71 he hK  h_x1 h_x2 h_x3 h_f0_root h_f0_wayEnd h_f0_waiting 120 _ _ eh_n0 _ _ _ _ _ _ _ _ _ _ _ _ _ _ h
     ·
      exact er_split_109 he h_x1 h_x2 h_x3 h_f0_root h_f0_wayEnd h_f0_waiting h hK 
    ·
     refine eh_in (eh_ad (eh_ad (eh_ml eh_n5 h_x2) eh_n3) h_x4) h (fun f1 h => ?_)
     refine eh_inf (eh_ad (eh_ad (eh_ml eh_n5 h_x2) eh_n3) h_x4) f1 ?_
     obtain ⟨fx2, h_fx2, h⟩ := eh_fcK (eh_gk (eh_ad (eh_ad (eh_ml eh_n5 h_x2) eh_n3) h_x4) f1) h
     obtain ⟨fx3, h_fx3, h⟩ := eh_fc (eh_gt (eh_ad (eh_ad (eh_ml eh_n5 h_x2) eh_n3) h_x4) f1) h
     refine er_putAt he h_f0_root h_f0_wayEnd h_f0_waiting h_x3 h_x4 h_fx2 h_fx3 h (fun f0_root_217 f0_root_217' h_f0_root_217 f0_wayEnd_218 f0_wayEnd_218' h_f0_wayEnd_218 f0_waiting_219 f0_waiting_219' h_f0_waiting_219 am511_222 am512_225 am513_228 am514_231 am515_234 am516_237 am517_240 am518_243 am519_246 am5110_249 am5111_252 am5112_255 am5113_258 am5114_261 h => ?_) 
     refine eh_let (eh_ad h_x4 eh_n1) h (fun x4_262 x4_262' h_x4_262 h => ?_)
     exact ih _ _ h_x4_262 _ _ h_f0_root_217 _ _ h_f0_wayEnd_218 _ _ h_f0_waiting_219 _ _ _ _ _ _ _ _ _ _ _ _ _ _ h
theorem er_split {e : ef_E} (he : e.1 < 80) {post : St2 → Prop} {K : ef_F17} {f0_root : Nat} {f0_root' : Int32} {f0_wayEnd : Nat} {f0_wayEnd' : Int32} {f0_waiting : Nat} {f0_waiting' : Int32} {a1 : Nat} {a2 : Nat} {a3 : Nat} {a4 : Nat} {a5 : Nat} {a6 : Nat} {a7 : Nat} {a8 : Nat} {a9 : Nat} {a10 : Nat} {a11 : Nat} {a12 : Nat} {a13 : Nat} {a14 : Nat} {p0 : Nat} {p0' : Int32} (h_f0_root : f0_root' = nI f0_root) (h_f0_wayEnd : f0_wayEnd' = nI f0_wayEnd) (h_f0_waiting : f0_waiting' = nI f0_waiting) (h_p0 : p0' = nI p0) (h : ef_split K f0_root f0_wayEnd f0_waiting a1 a2 a3 a4 a5 a6 a7 a8 a9 a10 a11 a12 a13 a14 p0 = true) (hK : er_PS e K post)  : wpX_split post (f0_root', f0_wayEnd', f0_waiting', (eb_ar a1), (eb_ak e a2), (eb_ar a3), (eb_ar a4), (eb_ar a5), (eb_ar a6), (eb_ar a7), (eb_ar a8), (eb_ar a9), (eb_ak e a10), (eb_ar a11), (eb_ar a12), (eb_ar a13), (eb_ar a14)) p0' := by
  refine eh_in h_p0 h (fun f1 h => ?_)
  refine eh_let (eh_gt h_p0 f1) h (fun x2_2 x2_2' h_x2_2 h => ?_)
  refine er_newPage he h_f0_root h_f0_wayEnd h_f0_waiting h (fun r_3 r_3' h_r_3 f0_root_4 f0_root_4' h_f0_root_4 f0_wayEnd_5 f0_wayEnd_5' h_f0_wayEnd_5 f0_waiting_6 f0_waiting_6' h_f0_waiting_6 am81_9 am82_12 am83_15 am84_18 am85_21 am86_24 am87_27 am88_30 am89_33 am810_36 am811_39 am812_42 am813_45 am814_48 h => ?_) 
  refine Exists.intro 120 ?_
  exact er_split_15 he hK  h_p0 h_x2_2 h_r_3 120 _ _ eh_n0 _ _ h_f0_root_4 _ _ h_f0_wayEnd_5 _ _ h_f0_waiting_6 _ _ _ _ _ _ _ _ _ _ _ _ _ _ h
theorem er_put_117 {e : ef_E} (he : e.1 < 80) {post : St2 → Prop} {K : ef_F17} (hK : er_PS e K post)   : ∀ (n : Nat) (x4 : Nat) (x4' : Int32) (_ : x4' = nI x4) (f0_root : Nat) (f0_root' : Int32) (_ : f0_root' = nI f0_root) (f0_wayEnd : Nat) (f0_wayEnd' : Int32) (_ : f0_wayEnd' = nI f0_wayEnd) (f0_waiting : Nat) (f0_waiting' : Int32) (_ : f0_waiting' = nI f0_waiting) (am1141 : Nat) (am1142 : Nat) (am1143 : Nat) (am1144 : Nat) (am1145 : Nat) (am1146 : Nat) (am1147 : Nat) (am1148 : Nat) (am1149 : Nat) (am11410 : Nat) (am11411 : Nat) (am11412 : Nat) (am11413 : Nat) (am11414 : Nat), ef_put_117 K n x4 f0_root f0_wayEnd f0_waiting am1141 am1142 am1143 am1144 am1145 am1146 am1147 am1148 am1149 am11410 am11411 am11412 am11413 am11414 = true → wX_put_117 post n x4' f0_root' f0_wayEnd' f0_waiting' (eb_ar am1141) (eb_ak e am1142) (eb_ar am1143) (eb_ar am1144) (eb_ar am1145) (eb_ar am1146) (eb_ar am1147) (eb_ar am1148) (eb_ar am1149) (eb_ak e am11410) (eb_ar am11411) (eb_ar am11412) (eb_ar am11413) (eb_ar am11414) := by
  intro n
  induction n with
  | zero =>
    intro x4 x4' h_x4 f0_root f0_root' h_f0_root f0_wayEnd f0_wayEnd' h_f0_wayEnd f0_waiting f0_waiting' h_f0_waiting am1141 am1142 am1143 am1144 am1145 am1146 am1147 am1148 am1149 am11410 am11411 am11412 am11413 am11414 h
    exact absurd (show false = true from h) Bool.false_ne_true
  | succ n ih =>
    intro x4 x4' h_x4 f0_root f0_root' h_f0_root f0_wayEnd f0_wayEnd' h_f0_wayEnd f0_waiting f0_waiting' h_f0_waiting am1141 am1142 am1143 am1144 am1145 am1146 am1147 am1148 am1149 am11410 am11411 am11412 am11413 am11414 h
    have h : ef_put_117_b K (ef_put_117 K n) x4 f0_root f0_wayEnd f0_waiting am1141 am1142 am1143 am1144 am1145 am1146 am1147 am1148 am1149 am11410 am11411 am11412 am11413 am11414 = true := h
    refine eh_if (eh_lt h_x4 eh_n0) h (fun h => ?_) (fun h => ?_)
    ·
     exact hK _ _ h_f0_root _ _ h_f0_wayEnd _ _ h_f0_waiting _ _ _ _ _ _ _ _ _ _ _ _ _ _ h
    ·
     refine eh_in h_x4 h (fun f1 h => ?_)
     refine eh_in (eh_gt h_x4 f1) h (fun f2 h => ?_)
     refine eh_if (eh_eq (eh_gt (eh_gt h_x4 f1) f2) eh_n5) h (fun h => ?_) (fun h => ?_)
     ·
      refine er_split he h_f0_root h_f0_wayEnd h_f0_waiting h_x4 h (fun f0_root_197 f0_root_197' h_f0_root_197 f0_wayEnd_198 f0_wayEnd_198' h_f0_wayEnd_198 f0_waiting_199 f0_waiting_199' h_f0_waiting_199 am1411_202 am1412_205 am1413_208 am1414_211 am1415_214 am1416_217 am1417_220 am1418_223 am1419_226 am14110_229 am14111_232 am14112_235 am14113_238 am14114_241 h => ?_) 
      refine eh_let (eh_ad h_x4 eh_m1) h (fun x4_242 x4_242' h_x4_242 h => ?_)
      exact ih _ _ h_x4_242 _ _ h_f0_root_197 _ _ h_f0_wayEnd_198 _ _ h_f0_waiting_199 _ _ _ _ _ _ _ _ _ _ _ _ _ _ h
     ·
      exact hK _ _ h_f0_root _ _ h_f0_wayEnd _ _ h_f0_waiting _ _ _ _ _ _ _ _ _ _ _ _ _ _ h
theorem er_put_71 {e : ef_E} (he : e.1 < 80) {post : St2 → Prop} {K : ef_F17} {x1 : Nat} {x1' : Int32} {x2 : Nat} {x2' : Int32} {f0_root : Nat} {f0_root' : Int32} {f0_wayEnd : Nat} {f0_wayEnd' : Int32} {f0_waiting : Nat} {f0_waiting' : Int32} {am71 : Nat} {am72 : Nat} {am73 : Nat} {am74 : Nat} {am75 : Nat} {am76 : Nat} {am77 : Nat} {am78 : Nat} {am79 : Nat} {am710 : Nat} {am711 : Nat} {am712 : Nat} {am713 : Nat} {am714 : Nat} (h_x1 : x1' = ef_kv e x1) (h_x2 : x2' = nI x2) (h_f0_root : f0_root' = nI f0_root) (h_f0_wayEnd : f0_wayEnd' = nI f0_wayEnd) (h_f0_waiting : f0_waiting' = nI f0_waiting) (h : ef_put_71 K x1 x2 f0_root f0_wayEnd f0_waiting am71 am72 am73 am74 am75 am76 am77 am78 am79 am710 am711 am712 am713 am714 = true) (hK : er_PS e K post)  : wX_put_71 post x1' x2' f0_root' f0_wayEnd' f0_waiting' (eb_ar am71) (eb_ak e am72) (eb_ar am73) (eb_ar am74) (eb_ar am75) (eb_ar am76) (eb_ar am77) (eb_ar am78) (eb_ar am79) (eb_ak e am710) (eb_ar am711) (eb_ar am712) (eb_ar am713) (eb_ar am714) := by
  refine eh_let (eh_sb h_f0_wayEnd eh_n1) h (fun x4_95 x4_95' h_x4_95 h => ?_)
  refine eh_in h_x4_95 h (fun f1 h => ?_)
  refine eh_inf h_x4_95 f1 ?_
  obtain ⟨fx2, h_fx2, h⟩ := eh_fc (eh_gt h_x4_95 f1) h
  obtain ⟨fx3, h_fx3, h⟩ := eh_fc (eh_gt h_x4_95 f1) h
  refine er_openPlace he h_f0_root h_f0_wayEnd h_f0_waiting h_fx2 h_fx3 h (fun f0_root_99 f0_root_99' h_f0_root_99 f0_wayEnd_100 f0_wayEnd_100' h_f0_wayEnd_100 f0_waiting_101 f0_waiting_101' h_f0_waiting_101 am941_104 am942_107 am943_110 am944_113 am945_116 am946_119 am947_122 am948_125 am949_128 am9410_131 am9411_134 am9412_137 am9413_140 am9414_143 h => ?_) 
  refine eh_inf h_x4_95 f1 ?_
  refine eh_inf h_x4_95 f1 ?_
  obtain ⟨fx4, h_fx4, h⟩ := eh_fc (eh_gt h_x4_95 f1) h
  obtain ⟨fx5, h_fx5, h⟩ := eh_fc (eh_gt h_x4_95 f1) h
  refine er_putAt he h_f0_root_99 h_f0_wayEnd_100 h_f0_waiting_101 h_fx4 h_fx5 h_x1 h_x2 h (fun f0_root_147 f0_root_147' h_f0_root_147 f0_wayEnd_148 f0_wayEnd_148' h_f0_wayEnd_148 f0_waiting_149 f0_waiting_149' h_f0_waiting_149 am1141_152 am1142_155 am1143_158 am1144_161 am1145_164 am1146_167 am1147_170 am1148_173 am1149_176 am11410_179 am11411_182 am11412_185 am11413_188 am11414_191 h => ?_) 
  refine Exists.intro 120 ?_
  exact er_put_117 he hK   120 _ _ h_x4_95 _ _ h_f0_root_147 _ _ h_f0_wayEnd_148 _ _ h_f0_waiting_149 _ _ _ _ _ _ _ _ _ _ _ _ _ _ h
end
section
/-! refinement, printed by a program -/
theorem er_put {e : ef_E} (he : e.1 < 80) {post : St2 → Prop} {K : ef_F17} {f0_root : Nat} {f0_root' : Int32} {f0_wayEnd : Nat} {f0_wayEnd' : Int32} {f0_waiting : Nat} {f0_waiting' : Int32} {a1 : Nat} {a2 : Nat} {a3 : Nat} {a4 : Nat} {a5 : Nat} {a6 : Nat} {a7 : Nat} {a8 : Nat} {a9 : Nat} {a10 : Nat} {a11 : Nat} {a12 : Nat} {a13 : Nat} {a14 : Nat} {p0 : Nat} {p0' : Int32} {p1 : Nat} {p1' : Int32} (h_f0_root : f0_root' = nI f0_root) (h_f0_wayEnd : f0_wayEnd' = nI f0_wayEnd) (h_f0_waiting : f0_waiting' = nI f0_waiting) (h_p0 : p0' = ef_kv e p0) (h_p1 : p1' = nI p1) (h : ef_put K f0_root f0_wayEnd f0_waiting a1 a2 a3 a4 a5 a6 a7 a8 a9 a10 a11 a12 a13 a14 p0 p1 = true) (hK : er_PS e K post)  : wpX_put post (f0_root', f0_wayEnd', f0_waiting', (eb_ar a1), (eb_ak e a2), (eb_ar a3), (eb_ar a4), (eb_ar a5), (eb_ar a6), (eb_ar a7), (eb_ar a8), (eb_ar a9), (eb_ak e a10), (eb_ar a11), (eb_ar a12), (eb_ar a13), (eb_ar a14)) p0' p1' := by
  unfold wpX_put
  refine er_find he h_f0_root h_f0_wayEnd h_f0_waiting h_p0 h (fun r_1 r_1' h_r_1 f0_root_2 f0_root_2' h_f0_root_2 f0_wayEnd_3 f0_wayEnd_3' h_f0_wayEnd_3 f0_waiting_4 f0_waiting_4' h_f0_waiting_4 am21_7 am22_10 am23_13 am24_16 am25_19 am26_22 am27_25 am28_28 am29_31 am210_34 am211_37 am212_40 am213_43 am214_46 h => ?_) 
  refine er_copyWay he h_f0_root_2 h_f0_wayEnd_3 h_f0_waiting_4 h (fun f0_root_48 f0_root_48' h_f0_root_48 f0_wayEnd_49 f0_wayEnd_49' h_f0_wayEnd_49 f0_waiting_50 f0_waiting_50' h_f0_waiting_50 am71_53 am72_56 am73_59 am74_62 am75_65 am76_68 am77_71 am78_74 am79_77 am710_80 am711_83 am712_86 am713_89 am714_92 h => ?_) 
  refine eh_if (eh_eq h_r_1 eh_n0) h (fun h => ?_) (fun h => ?_)
  ·
   refine eh_if (eh_eq h_f0_wayEnd_49 eh_n0) h (fun h => ?_) (fun h => ?_)
   ·
    refine er_newPage he h_f0_root_48 h_f0_wayEnd_49 h_f0_waiting_50 h (fun r_243 r_243' h_r_243 f0_root_244 f0_root_244' h_f0_root_244 f0_wayEnd_245 f0_wayEnd_245' h_f0_wayEnd_245 f0_waiting_246 f0_waiting_246' h_f0_waiting_246 am561_249 am562_252 am563_255 am564_258 am565_261 am566_264 am567_267 am568_270 am569_273 am5610_276 am5611_279 am5612_282 am5613_285 am5614_288 h => ?_) 
    refine er_pushWay he h_r_243 h_f0_wayEnd_245 h_f0_waiting_246 h_r_243 eh_n0 h (fun f0_root_290 f0_root_290' h_f0_root_290 f0_wayEnd_291 f0_wayEnd_291' h_f0_wayEnd_291 f0_waiting_292 f0_waiting_292' h_f0_waiting_292 am681_295 am682_298 am683_301 am684_304 am685_307 am686_310 am687_313 am688_316 am689_319 am6810_322 am6811_325 am6812_328 am6813_331 am6814_334 h => ?_) 
    exact er_put_71 he h_p0 h_p1 h_f0_root_290 h_f0_wayEnd_291 h_f0_waiting_292 h hK 
   ·
    exact er_put_71 he h_p0 h_p1 h_f0_root_48 h_f0_wayEnd_49 h_f0_waiting_50 h hK 
  ·
   refine eh_in (eh_sb h_f0_wayEnd_49 eh_n1) h (fun f1 h => ?_)
   refine eh_inf (eh_sb h_f0_wayEnd_49 eh_n1) f1 ?_
   refine eh_in (eh_ad (eh_ml eh_n5 (eh_gt (eh_sb h_f0_wayEnd_49 eh_n1) f1)) (eh_gt (eh_sb h_f0_wayEnd_49 eh_n1) f1)) h (fun f2 h => ?_)
   obtain ⟨g3, h⟩ := eh_g h
   refine eh_leta (eh_st (eh_ad (eh_ml eh_n5 (eh_gt (eh_sb h_f0_wayEnd_49 eh_n1) f1)) (eh_gt (eh_sb h_f0_wayEnd_49 eh_n1) f1)) f2 (eh_s16 h_p1 g3)) h (fun am73_338 h => ?_)
   exact hK _ _ h_f0_root_48 _ _ h_f0_wayEnd_49 _ _ h_f0_waiting_50 _ _ _ _ _ _ _ _ _ _ _ _ _ _ h
theorem er_settle_2 {e : ef_E} (he : e.1 < 80) {post : St2 → Prop} {K : ef_F17} {f0_root : Nat} {f0_root' : Int32} {f0_wayEnd : Nat} {f0_wayEnd' : Int32} {f0_waiting : Nat} {f0_waiting' : Int32} (hK : er_PS e K post)  (h_f0_root : f0_root' = nI f0_root) (h_f0_wayEnd : f0_wayEnd' = nI f0_wayEnd) (h_f0_waiting : f0_waiting' = nI f0_waiting) : ∀ (n : Nat) (x1 : Nat) (x1' : Int32) (_ : x1' = nI x1) (a1 : Nat) (a2 : Nat) (a3 : Nat) (a4 : Nat) (a5 : Nat) (a6 : Nat) (a7 : Nat) (a8 : Nat) (a9 : Nat) (a10 : Nat) (a11 : Nat) (a12 : Nat) (a13 : Nat) (a14 : Nat), ef_settle_2 K f0_root f0_wayEnd f0_waiting n x1 a1 a2 a3 a4 a5 a6 a7 a8 a9 a10 a11 a12 a13 a14 = true → wX_settle_2 post f0_root' f0_wayEnd' f0_waiting' n x1' (eb_ar a1) (eb_ak e a2) (eb_ar a3) (eb_ar a4) (eb_ar a5) (eb_ar a6) (eb_ar a7) (eb_ar a8) (eb_ar a9) (eb_ak e a10) (eb_ar a11) (eb_ar a12) (eb_ar a13) (eb_ar a14) := by
  intro n
  induction n with
  | zero =>
    intro x1 x1' h_x1 a1 a2 a3 a4 a5 a6 a7 a8 a9 a10 a11 a12 a13 a14 h
    exact absurd (show false = true from h) Bool.false_ne_true
  | succ n ih =>
    intro x1 x1' h_x1 a1 a2 a3 a4 a5 a6 a7 a8 a9 a10 a11 a12 a13 a14 h
    have h : ef_settle_2_b K f0_root f0_wayEnd f0_waiting (ef_settle_2 K f0_root f0_wayEnd f0_waiting n) x1 a1 a2 a3 a4 a5 a6 a7 a8 a9 a10 a11 a12 a13 a14 = true := h
    refine eh_if (eh_le eh_n110 h_x1) h (fun h => ?_) (fun h => ?_)
    ·
     exact hK _ _ h_f0_root _ _ h_f0_wayEnd _ _ h_f0_waiting _ _ _ _ _ _ _ _ _ _ _ _ _ _ h
    ·
     refine eh_in h_x1 h (fun f1 h => ?_)
     refine eh_leta (eh_st h_x1 f1 eh_n0) h (fun a5_3 h => ?_)
     refine eh_let (eh_ad h_x1 eh_n1) h (fun x1_4 x1_4' h_x1_4 h => ?_)
     exact ih _ _ h_x1_4 _ _ _ _ _ _ _ _ _ _ _ _ _ _ h
theorem er_settle {e : ef_E} (he : e.1 < 80) {post : St2 → Prop} {K : ef_F17} {f0_root : Nat} {f0_root' : Int32} {f0_wayEnd : Nat} {f0_wayEnd' : Int32} {f0_waiting : Nat} {f0_waiting' : Int32} {a1 : Nat} {a2 : Nat} {a3 : Nat} {a4 : Nat} {a5 : Nat} {a6 : Nat} {a7 : Nat} {a8 : Nat} {a9 : Nat} {a10 : Nat} {a11 : Nat} {a12 : Nat} {a13 : Nat} {a14 : Nat} (h_f0_root : f0_root' = nI f0_root) (h_f0_wayEnd : f0_wayEnd' = nI f0_wayEnd) (h_f0_waiting : f0_waiting' = nI f0_waiting) (h : ef_settle K f0_root f0_wayEnd f0_waiting a1 a2 a3 a4 a5 a6 a7 a8 a9 a10 a11 a12 a13 a14 = true) (hK : er_PS e K post)  : wpX_settle post (f0_root', f0_wayEnd', f0_waiting', (eb_ar a1), (eb_ak e a2), (eb_ar a3), (eb_ar a4), (eb_ar a5), (eb_ar a6), (eb_ar a7), (eb_ar a8), (eb_ar a9), (eb_ak e a10), (eb_ar a11), (eb_ar a12), (eb_ar a13), (eb_ar a14)) := by
  refine Exists.intro 120 ?_
  exact er_settle_2 he hK  h_f0_root h_f0_wayEnd h_f0_waiting 120 _ _ eh_n0 _ _ _ _ _ _ _ _ _ _ _ _ _ _ h
theorem er_init_118 {e : ef_E} (he : e.1 < 80) {post : St2 → Prop} {K : ef_F17} {mc : Nat} {ms : Nat} {kc : Nat} {ks : Nat} {f0_root : Nat} {f0_root' : Int32} {f0_wayEnd : Nat} {f0_wayEnd' : Int32} {f0_waiting : Nat} {f0_waiting' : Int32} (hK : er_PS e K post)  (h_f0_root : f0_root' = nI f0_root) (h_f0_wayEnd : f0_wayEnd' = nI f0_wayEnd) (h_f0_waiting : f0_waiting' = nI f0_waiting) : ∀ (n : Nat) (x1 : Nat) (x1' : Int32) (_ : x1' = nI x1) (am7 : Nat) (am16 : Nat) (am25 : Nat) (am34 : Nat) (am42 : Nat) (am50 : Nat) (am57 : Nat) (am64 : Nat) (am71 : Nat) (am80 : Nat) (am87 : Nat) (am95 : Nat) (am103 : Nat) (am111 : Nat), ef_init_118 K f0_root f0_wayEnd f0_waiting n x1 am7 am16 am25 am34 am42 am50 am57 am64 am71 am80 am87 am95 am103 am111 = true → wX_init_118 post mc ms kc ks f0_root' f0_wayEnd' f0_waiting' n x1' (eb_ar am7) (eb_ak e am16) (eb_ar am25) (eb_ar am34) (eb_ar am42) (eb_ar am50) (eb_ar am57) (eb_ar am64) (eb_ar am71) (eb_ak e am80) (eb_ar am87) (eb_ar am95) (eb_ar am103) (eb_ar am111) := by
  intro n
  induction n with
  | zero =>
    intro x1 x1' h_x1 am7 am16 am25 am34 am42 am50 am57 am64 am71 am80 am87 am95 am103 am111 h
    exact absurd (show false = true from h) Bool.false_ne_true
  | succ n ih =>
    intro x1 x1' h_x1 am7 am16 am25 am34 am42 am50 am57 am64 am71 am80 am87 am95 am103 am111 h
    have h : ef_init_118_b K f0_root f0_wayEnd f0_waiting (ef_init_118 K f0_root f0_wayEnd f0_waiting n) x1 am7 am16 am25 am34 am42 am50 am57 am64 am71 am80 am87 am95 am103 am111 = true := h
    refine eh_if (eh_le eh_n4 h_x1) h (fun h => ?_) (fun h => ?_)
    ·
     refine eh_leta (eh_stc eh_m1) h (fun am57_59 h => ?_)
     refine eh_leta (eh_stc eh_m1) h (fun am57_61 h => ?_)
     refine eh_leta (eh_stc eh_n1) h (fun am71_63 h => ?_)
     refine er_put he eh_m1 h_f0_wayEnd h_f0_waiting (eh_ik eh_n0) eh_n1 h (fun f0_root_65 f0_root_65' h_f0_root_65 f0_wayEnd_66 f0_wayEnd_66' h_f0_wayEnd_66 f0_waiting_67 f0_waiting_67' h_f0_waiting_67 am1651_70 am1652_73 am1653_76 am1654_79 am1655_82 am1656_85 am1657_88 am1658_91 am1659_94 am16510_97 am16511_100 am16512_103 am16513_106 am16514_109 h => ?_) 
     obtain ⟨g1, h⟩ := eh_g h
     refine eh_leta (eh_stc (eh_b8 h_f0_root_65 g1)) h (fun am1657_111 h => ?_)
     refine er_settle he h_f0_root_65 h_f0_wayEnd_66 h_f0_waiting_67 h (fun f0_root_113 f0_root_113' h_f0_root_113 f0_wayEnd_114 f0_wayEnd_114' h_f0_wayEnd_114 f0_waiting_115 f0_waiting_115' h_f0_waiting_115 am1801_118 am1802_121 am1803_124 am1804_127 am1805_130 am1806_133 am1807_136 am1808_139 am1809_142 am18010_145 am18011_148 am18012_151 am18013_154 am18014_157 h => ?_) 
     exact hK _ _ h_f0_root_113 _ _ h_f0_wayEnd_114 _ _ h_f0_waiting_115 _ _ _ _ _ _ _ _ _ _ _ _ _ _ h
    ·
     refine eh_in h_x1 h (fun f2 h => ?_)
     refine eh_leta (eh_st h_x1 f2 eh_m1) h (fun am87_159 h => ?_)
     refine eh_let (eh_ad h_x1 eh_n1) h (fun x1_160 x1_160' h_x1_160 h => ?_)
     exact ih _ _ h_x1_160 _ _ _ _ _ _ _ _ _ _ _ _ _ _ h
theorem er_isHandle {e : ef_E} (he : e.1 < 80) {post : Int32 → Prop} {K : ef_F1} {f0_root : Nat} {f0_root' : Int32} {f0_wayEnd : Nat} {f0_wayEnd' : Int32} {f0_waiting : Nat} {f0_waiting' : Int32} {a1 : Nat} {a2 : Nat} {a3 : Nat} {a4 : Nat} {a5 : Nat} {a6 : Nat} {a7 : Nat} {a8 : Nat} {a9 : Nat} {a10 : Nat} {a11 : Nat} {a12 : Nat} {a13 : Nat} {a14 : Nat} {p0 : Nat} {p0' : Int32} (h_f0_root : f0_root' = nI f0_root) (h_f0_wayEnd : f0_wayEnd' = nI f0_wayEnd) (h_f0_waiting : f0_waiting' = nI f0_waiting) (h_p0 : p0' = nI p0) (h : ef_isHandle K f0_root f0_wayEnd f0_waiting a1 a2 a3 a4 a5 a6 a7 a8 a9 a10 a11 a12 a13 a14 p0 = true) (hK : er_QI K post)  : wpX_isHandle post (f0_root', f0_wayEnd', f0_waiting', (eb_ar a1), (eb_ak e a2), (eb_ar a3), (eb_ar a4), (eb_ar a5), (eb_ar a6), (eb_ar a7), (eb_ar a8), (eb_ar a9), (eb_ak e a10), (eb_ar a11), (eb_ar a12), (eb_ar a13), (eb_ar a14)) p0' := by
  refine eh_if (eh_lt h_p0 eh_n0) h (fun h => ?_) (fun h => ?_)
  ·
   exact hK _ _ eh_n0 h
  ·
   refine eh_if (eh_lt eh_n3 h_p0) h (fun h => ?_) (fun h => ?_)
   ·
    exact hK _ _ eh_n0 h
   ·
    exact hK _ _ eh_n1 h
theorem er_isName {e : ef_E} (he : e.1 < 80) {post : Int32 → Prop} {K : ef_F1} {f0_root : Nat} {f0_root' : Int32} {f0_wayEnd : Nat} {f0_wayEnd' : Int32} {f0_waiting : Nat} {f0_waiting' : Int32} {a1 : Nat} {a2 : Nat} {a3 : Nat} {a4 : Nat} {a5 : Nat} {a6 : Nat} {a7 : Nat} {a8 : Nat} {a9 : Nat} {a10 : Nat} {a11 : Nat} {a12 : Nat} {a13 : Nat} {a14 : Nat} {p0 : Nat} {p0' : Int32} (h_f0_root : f0_root' = nI f0_root) (h_f0_wayEnd : f0_wayEnd' = nI f0_wayEnd) (h_f0_waiting : f0_waiting' = nI f0_waiting) (h_p0 : p0' = ef_kv e p0) (h : ef_isName K f0_root f0_wayEnd f0_waiting a1 a2 a3 a4 a5 a6 a7 a8 a9 a10 a11 a12 a13 a14 p0 = true) (hK : er_QI K post)  : wpX_isName post (f0_root', f0_wayEnd', f0_waiting', (eb_ar a1), (eb_ak e a2), (eb_ar a3), (eb_ar a4), (eb_ar a5), (eb_ar a6), (eb_ar a7), (eb_ar a8), (eb_ar a9), (eb_ak e a10), (eb_ar a11), (eb_ar a12), (eb_ar a13), (eb_ar a14)) p0' := by
  refine eh_i3 (eh_klt he h_p0 (eh_ik eh_n0)) (eh_knlt he h_p0 (eh_ik eh_n0)) h (fun h => ?_) (fun h => ?_)
  ·
   exact hK _ _ eh_n0 h
  ·
   refine eh_i3 (eh_klt he (eh_ik eh_n99) h_p0) (eh_knlt he (eh_ik eh_n99) h_p0) h (fun h => ?_) (fun h => ?_)
   ·
    exact hK _ _ eh_n0 h
   ·
    exact hK _ _ eh_n1 h
theorem er_get {e : ef_E} (he : e.1 < 80) {post : Int32 → St2 → Prop} {K : ef_F18} {f0_root : Nat} {f0_root' : Int32} {f0_wayEnd : Nat} {f0_wayEnd' : Int32} {f0_waiting : Nat} {f0_waiting' : Int32} {a1 : Nat} {a2 : Nat} {a3 : Nat} {a4 : Nat} {a5 : Nat} {a6 : Nat} {a7 : Nat} {a8 : Nat} {a9 : Nat} {a10 : Nat} {a11 : Nat} {a12 : Nat} {a13 : Nat} {a14 : Nat} {p0 : Nat} {p0' : Int32} (h_f0_root : f0_root' = nI f0_root) (h_f0_wayEnd : f0_wayEnd' = nI f0_wayEnd) (h_f0_waiting : f0_waiting' = nI f0_waiting) (h_p0 : p0' = ef_kv e p0) (h : ef_get K f0_root f0_wayEnd f0_waiting a1 a2 a3 a4 a5 a6 a7 a8 a9 a10 a11 a12 a13 a14 p0 = true) (hK : er_PI e K post)  : wpX_get post (f0_root', f0_wayEnd', f0_waiting', (eb_ar a1), (eb_ak e a2), (eb_ar a3), (eb_ar a4), (eb_ar a5), (eb_ar a6), (eb_ar a7), (eb_ar a8), (eb_ar a9), (eb_ak e a10), (eb_ar a11), (eb_ar a12), (eb_ar a13), (eb_ar a14)) p0' := by
  unfold wpX_get
  refine er_find he h_f0_root h_f0_wayEnd h_f0_waiting h_p0 h (fun r_1 r_1' h_r_1 f0_root_2 f0_root_2' h_f0_root_2 f0_wayEnd_3 f0_wayEnd_3' h_f0_wayEnd_3 f0_waiting_4 f0_waiting_4' h_f0_waiting_4 am21_7 am22_10 am23_13 am24_16 am25_19 am26_22 am27_25 am28_28 am29_31 am210_34 am211_37 am212_40 am213_43 am214_46 h => ?_) 
  refine eh_if (eh_eq h_r_1 eh_n0) h (fun h => ?_) (fun h => ?_)
  ·
   exact hK _ _ eh_m1 _ _ h_f0_root_2 _ _ h_f0_wayEnd_3 _ _ h_f0_waiting_4 _ _ _ _ _ _ _ _ _ _ _ _ _ _ h
  ·
   refine eh_in (eh_sb h_f0_wayEnd_3 eh_n1) h (fun f1 h => ?_)
   refine eh_inf (eh_sb h_f0_wayEnd_3 eh_n1) f1 ?_
   refine eh_in (eh_ad (eh_ml eh_n5 (eh_gt (eh_sb h_f0_wayEnd_3 eh_n1) f1)) (eh_gt (eh_sb h_f0_wayEnd_3 eh_n1) f1)) h (fun f2 h => ?_)
   obtain ⟨fx3, h_fx3, h⟩ := eh_fc (eh_gt (eh_ad (eh_ml eh_n5 (eh_gt (eh_sb h_f0_wayEnd_3 eh_n1) f1)) (eh_gt (eh_sb h_f0_wayEnd_3 eh_n1) f1)) f2) h
   exact hK _ _ h_fx3 _ _ h_f0_root_2 _ _ h_f0_wayEnd_3 _ _ h_f0_waiting_4 _ _ _ _ _ _ _ _ _ _ _ _ _ _ h
theorem er_sortOf {e : ef_E} (he : e.1 < 80) {post : Int32 → St2 → Prop} {K : ef_F18} {f0_root : Nat} {f0_root' : Int32} {f0_wayEnd : Nat} {f0_wayEnd' : Int32} {f0_waiting : Nat} {f0_waiting' : Int32} {a1 : Nat} {a2 : Nat} {a3 : Nat} {a4 : Nat} {a5 : Nat} {a6 : Nat} {a7 : Nat} {a8 : Nat} {a9 : Nat} {a10 : Nat} {a11 : Nat} {a12 : Nat} {a13 : Nat} {a14 : Nat} {p0 : Nat} {p0' : Int32} (h_f0_root : f0_root' = nI f0_root) (h_f0_wayEnd : f0_wayEnd' = nI f0_wayEnd) (h_f0_waiting : f0_waiting' = nI f0_waiting) (h_p0 : p0' = nI p0) (h : ef_sortOf K f0_root f0_wayEnd f0_waiting a1 a2 a3 a4 a5 a6 a7 a8 a9 a10 a11 a12 a13 a14 p0 = true) (hK : er_PI e K post)  : wpX_sortOf post (f0_root', f0_wayEnd', f0_waiting', (eb_ar a1), (eb_ak e a2), (eb_ar a3), (eb_ar a4), (eb_ar a5), (eb_ar a6), (eb_ar a7), (eb_ar a8), (eb_ar a9), (eb_ak e a10), (eb_ar a11), (eb_ar a12), (eb_ar a13), (eb_ar a14)) p0' := by
  unfold wpX_sortOf
  obtain ⟨fx1, h_fx1, h⟩ := eh_fcK (eh_ik (eh_ml eh_n256 h_p0)) h
  refine er_get he h_f0_root h_f0_wayEnd h_f0_waiting h_fx1 h (fun r_1 r_1' h_r_1 f0_root_2 f0_root_2' h_f0_root_2 f0_wayEnd_3 f0_wayEnd_3' h_f0_wayEnd_3 f0_waiting_4 f0_waiting_4' h_f0_waiting_4 am61_7 am62_10 am63_13 am64_16 am65_19 am66_22 am67_25 am68_28 am69_31 am610_34 am611_37 am612_40 am613_43 am614_46 h => ?_) 
  obtain ⟨fx2, h_fx2, h⟩ := eh_fc (eh_an h_r_1 eh_n3) h
  exact hK _ _ h_fx2 _ _ h_f0_root_2 _ _ h_f0_wayEnd_3 _ _ h_f0_waiting_4 _ _ _ _ _ _ _ _ _ _ _ _ _ _ h
theorem er_directoryFault {e : ef_E} (he : e.1 < 80) {post : Int32 → St2 → Prop} {K : ef_F18} {f0_root : Nat} {f0_root' : Int32} {f0_wayEnd : Nat} {f0_wayEnd' : Int32} {f0_waiting : Nat} {f0_waiting' : Int32} {a1 : Nat} {a2 : Nat} {a3 : Nat} {a4 : Nat} {a5 : Nat} {a6 : Nat} {a7 : Nat} {a8 : Nat} {a9 : Nat} {a10 : Nat} {a11 : Nat} {a12 : Nat} {a13 : Nat} {a14 : Nat} {p0 : Nat} {p0' : Int32} (h_f0_root : f0_root' = nI f0_root) (h_f0_wayEnd : f0_wayEnd' = nI f0_wayEnd) (h_f0_waiting : f0_waiting' = nI f0_waiting) (h_p0 : p0' = nI p0) (h : ef_directoryFault K f0_root f0_wayEnd f0_waiting a1 a2 a3 a4 a5 a6 a7 a8 a9 a10 a11 a12 a13 a14 p0 = true) (hK : er_PI e K post)  : wpX_directoryFault post (f0_root', f0_wayEnd', f0_waiting', (eb_ar a1), (eb_ak e a2), (eb_ar a3), (eb_ar a4), (eb_ar a5), (eb_ar a6), (eb_ar a7), (eb_ar a8), (eb_ar a9), (eb_ak e a10), (eb_ar a11), (eb_ar a12), (eb_ar a13), (eb_ar a14)) p0' := by
  refine eh_in h_p0 h (fun f1 h => ?_)
  refine eh_if (eh_le eh_n0 (eh_gt h_p0 f1)) h (fun h => ?_) (fun h => ?_)
  ·
   refine eh_inf h_p0 f1 ?_
   obtain ⟨fx2, h_fx2, h⟩ := eh_fc (eh_gt h_p0 f1) h
   refine er_sortOf he h_f0_root h_f0_wayEnd h_f0_waiting h_fx2 h (fun r_4 r_4' h_r_4 f0_root_5 f0_root_5' h_f0_root_5 f0_wayEnd_6 f0_wayEnd_6' h_f0_wayEnd_6 f0_waiting_7 f0_waiting_7' h_f0_waiting_7 am191_10 am192_13 am193_16 am194_19 am195_22 am196_25 am197_28 am198_31 am199_34 am1910_37 am1911_40 am1912_43 am1913_46 am1914_49 h => ?_) 
   refine eh_if (eh_eq h_r_4 eh_n2) h (fun h => ?_) (fun h => ?_)
   ·
    exact hK _ _ eh_m4 _ _ h_f0_root_5 _ _ h_f0_wayEnd_6 _ _ h_f0_waiting_7 _ _ _ _ _ _ _ _ _ _ _ _ _ _ h
   ·
    exact hK _ _ eh_n0 _ _ h_f0_root_5 _ _ h_f0_wayEnd_6 _ _ h_f0_waiting_7 _ _ _ _ _ _ _ _ _ _ _ _ _ _ h
  ·
   exact hK _ _ eh_m3 _ _ h_f0_root _ _ h_f0_wayEnd _ _ h_f0_waiting _ _ _ _ _ _ _ _ _ _ _ _ _ _ h
theorem er_freeNode_2 {e : ef_E} (he : e.1 < 80) {post : Int32 → St2 → Prop} {K : ef_F18} (hK : er_PI e K post)   : ∀ (n : Nat) (x1 : Nat) (x1' : Int32) (_ : x1' = nI x1) (f0_root : Nat) (f0_root' : Int32) (_ : f0_root' = nI f0_root) (f0_wayEnd : Nat) (f0_wayEnd' : Int32) (_ : f0_wayEnd' = nI f0_wayEnd) (f0_waiting : Nat) (f0_waiting' : Int32) (_ : f0_waiting' = nI f0_waiting) (a1 : Nat) (a2 : Nat) (a3 : Nat) (a4 : Nat) (a5 : Nat) (a6 : Nat) (a7 : Nat) (a8 : Nat) (a9 : Nat) (a10 : Nat) (a11 : Nat) (a12 : Nat) (a13 : Nat) (a14 : Nat), ef_freeNode_2 K n x1 f0_root f0_wayEnd f0_waiting a1 a2 a3 a4 a5 a6 a7 a8 a9 a10 a11 a12 a13 a14 = true → wX_freeNode_2 post n x1' f0_root' f0_wayEnd' f0_waiting' (eb_ar a1) (eb_ak e a2) (eb_ar a3) (eb_ar a4) (eb_ar a5) (eb_ar a6) (eb_ar a7) (eb_ar a8) (eb_ar a9) (eb_ak e a10) (eb_ar a11) (eb_ar a12) (eb_ar a13) (eb_ar a14) := by
  intro n
  induction n with
  | zero =>
    intro x1 x1' h_x1 f0_root f0_root' h_f0_root f0_wayEnd f0_wayEnd' h_f0_wayEnd f0_waiting f0_waiting' h_f0_waiting a1 a2 a3 a4 a5 a6 a7 a8 a9 a10 a11 a12 a13 a14 h
    exact absurd (show false = true from h) Bool.false_ne_true
  | succ n ih =>
    intro x1 x1' h_x1 f0_root f0_root' h_f0_root f0_wayEnd f0_wayEnd' h_f0_wayEnd f0_waiting f0_waiting' h_f0_waiting a1 a2 a3 a4 a5 a6 a7 a8 a9 a10 a11 a12 a13 a14 h
    have h : ef_freeNode_2_b K (ef_freeNode_2 K n) x1 f0_root f0_wayEnd f0_waiting a1 a2 a3 a4 a5 a6 a7 a8 a9 a10 a11 a12 a13 a14 = true := h
    refine eh_if (eh_le eh_n16 h_x1) h (fun h => ?_) (fun h => ?_)
    ·
     exact hK _ _ eh_m1 _ _ h_f0_root _ _ h_f0_wayEnd _ _ h_f0_waiting _ _ _ _ _ _ _ _ _ _ _ _ _ _ h
    ·
     obtain ⟨fx1, h_fx1, h⟩ := eh_fcK (eh_ik (eh_ml eh_n256 h_x1)) h
     refine er_get he h_f0_root h_f0_wayEnd h_f0_waiting h_fx1 h (fun r_2 r_2' h_r_2 f0_root_3 f0_root_3' h_f0_root_3 f0_wayEnd_4 f0_wayEnd_4' h_f0_wayEnd_4 f0_waiting_5 f0_waiting_5' h_f0_waiting_5 am141_8 am142_11 am143_14 am144_17 am145_20 am146_23 am147_26 am148_29 am149_32 am1410_35 am1411_38 am1412_41 am1413_44 am1414_47 h => ?_) 
     refine eh_if (eh_le eh_n0 h_r_2) h (fun h => ?_) (fun h => ?_)
     ·
      refine eh_let (eh_ad h_x1 eh_n1) h (fun x1_49 x1_49' h_x1_49 h => ?_)
      exact ih _ _ h_x1_49 _ _ h_f0_root_3 _ _ h_f0_wayEnd_4 _ _ h_f0_waiting_5 _ _ _ _ _ _ _ _ _ _ _ _ _ _ h
     ·
      exact hK _ _ h_x1 _ _ h_f0_root_3 _ _ h_f0_wayEnd_4 _ _ h_f0_waiting_5 _ _ _ _ _ _ _ _ _ _ _ _ _ _ h
theorem er_freeNode {e : ef_E} (he : e.1 < 80) {post : Int32 → St2 → Prop} {K : ef_F18} {f0_root : Nat} {f0_root' : Int32} {f0_wayEnd : Nat} {f0_wayEnd' : Int32} {f0_waiting : Nat} {f0_waiting' : Int32} {a1 : Nat} {a2 : Nat} {a3 : Nat} {a4 : Nat} {a5 : Nat} {a6 : Nat} {a7 : Nat} {a8 : Nat} {a9 : Nat} {a10 : Nat} {a11 : Nat} {a12 : Nat} {a13 : Nat} {a14 : Nat} (h_f0_root : f0_root' = nI f0_root) (h_f0_wayEnd : f0_wayEnd' = nI f0_wayEnd) (h_f0_waiting : f0_waiting' = nI f0_waiting) (h : ef_freeNode K f0_root f0_wayEnd f0_waiting a1 a2 a3 a4 a5 a6 a7 a8 a9 a10 a11 a12 a13 a14 = true) (hK : er_PI e K post)  : wpX_freeNode post (f0_root', f0_wayEnd', f0_waiting', (eb_ar a1), (eb_ak e a2), (eb_ar a3), (eb_ar a4), (eb_ar a5), (eb_ar a6), (eb_ar a7), (eb_ar a8), (eb_ar a9), (eb_ak e a10), (eb_ar a11), (eb_ar a12), (eb_ar a13), (eb_ar a14)) := by
  refine Exists.intro 120 ?_
  exact er_freeNode_2 he hK   120 _ _ eh_n1 _ _ h_f0_root _ _ h_f0_wayEnd _ _ h_f0_waiting _ _ _ _ _ _ _ _ _ _ _ _ _ _ h
theorem er_make_106 {e : ef_E} (he : e.1 < 80) {post : Int32 → St2 → Prop} {K : ef_F18} {x1 : Nat} {x1' : Int32} {x3 : Nat} {x3' : Int32} {x6 : Nat} {x6' : Int32} {x7 : Nat} {x7' : Int32} {z0 : Nat} {z0' : Int32} {z1 : Nat} {z1' : Int32} {z2 : Nat} {z2' : Int32} {f0_root : Nat} {f0_root' : Int32} {f0_wayEnd : Nat} {f0_wayEnd' : Int32} {f0_waiting : Nat} {f0_waiting' : Int32} {am721 : Nat} {am722 : Nat} {am723 : Nat} {am724 : Nat} {am725 : Nat} {am726 : Nat} {am727 : Nat} {am728 : Nat} {am729 : Nat} {am7210 : Nat} {am7211 : Nat} {am7212 : Nat} {am7213 : Nat} {am7214 : Nat} (h_x1 : x1' = nI x1) (h_x3 : x3' = ef_kv e x3) (h_x6 : x6' = nI x6) (h_x7 : x7' = nI x7) (h_z0 : z0' = nI z0) (h_z1 : z1' = nI z1) (h_z2 : z2' = nI z2) (h_f0_root : f0_root' = nI f0_root) (h_f0_wayEnd : f0_wayEnd' = nI f0_wayEnd) (h_f0_waiting : f0_waiting' = nI f0_waiting) (h : ef_make_106 K x1 x3 x6 x7 z0 z1 z2 f0_root f0_wayEnd f0_waiting am721 am722 am723 am724 am725 am726 am727 am728 am729 am7210 am7211 am7212 am7213 am7214 = true) (hK : er_PI e K post)  : wX_make_106 post x1' x3' x6' x7' z0' z1' z2' f0_root' f0_wayEnd' f0_waiting' (eb_ar am721) (eb_ak e am722) (eb_ar am723) (eb_ar am724) (eb_ar am725) (eb_ar am726) (eb_ar am727) (eb_ar am728) (eb_ar am729) (eb_ak e am7210) (eb_ar am7211) (eb_ar am7212) (eb_ar am7213) (eb_ar am7214) := by
  unfold wX_make_106
  obtain ⟨fx1, h_fx1, h⟩ := eh_fcK (eh_ik h_z2) h
  obtain ⟨fx2, h_fx2, h⟩ := eh_fc (eh_ad h_z1 h_z0) h
  refine er_put he h_f0_root h_f0_wayEnd h_f0_waiting h_fx1 h_fx2 h (fun f0_root_152 f0_root_152' h_f0_root_152 f0_wayEnd_153 f0_wayEnd_153' h_f0_wayEnd_153 f0_waiting_154 f0_waiting_154' h_f0_waiting_154 am1071_157 am1072_160 am1073_163 am1074_166 am1075_169 am1076_172 am1077_175 am1078_178 am1079_181 am10710_184 am10711_187 am10712_190 am10713_193 am10714_196 h => ?_) 
  obtain ⟨fx3, h_fx3, h⟩ := eh_fcK (eh_ka2 (eh_ad (eh_ml eh_n256 h_x6) eh_n1) h_x3) h
  refine er_put he h_f0_root_152 h_f0_wayEnd_153 h_f0_waiting_154 h_fx3 h_x7 h (fun f0_root_198 f0_root_198' h_f0_root_198 f0_wayEnd_199 f0_wayEnd_199' h_f0_wayEnd_199 f0_waiting_200 f0_waiting_200' h_f0_waiting_200 am1231_203 am1232_206 am1233_209 am1234_212 am1235_215 am1236_218 am1237_221 am1238_224 am1239_227 am12310_230 am12311_233 am12312_236 am12313_239 am12314_242 h => ?_) 
  refine eh_in h_x1 h (fun f4 h => ?_)
  obtain ⟨g5, h⟩ := eh_g h
  refine eh_leta (eh_st h_x1 f4 (eh_b8 h_x7 g5)) h (fun am12311_244 h => ?_)
  exact hK _ _ eh_n0 _ _ h_f0_root_198 _ _ h_f0_wayEnd_199 _ _ h_f0_waiting_200 _ _ _ _ _ _ _ _ _ _ _ _ _ _ h
theorem er_make {e : ef_E} (he : e.1 < 80) {post : Int32 → St2 → Prop} {K : ef_F18} {f0_root : Nat} {f0_root' : Int32} {f0_wayEnd : Nat} {f0_wayEnd' : Int32} {f0_waiting : Nat} {f0_waiting' : Int32} {a1 : Nat} {a2 : Nat} {a3 : Nat} {a4 : Nat} {a5 : Nat} {a6 : Nat} {a7 : Nat} {a8 : Nat} {a9 : Nat} {a10 : Nat} {a11 : Nat} {a12 : Nat} {a13 : Nat} {a14 : Nat} {p0 : Nat} {p0' : Int32} {p1 : Nat} {p1' : Int32} {p2 : Nat} {p2' : Int32} {p3 : Nat} {p3' : Int32} (h_f0_root : f0_root' = nI f0_root) (h_f0_wayEnd : f0_wayEnd' = nI f0_wayEnd) (h_f0_waiting : f0_waiting' = nI f0_waiting) (h_p0 : p0' = nI p0) (h_p1 : p1' = nI p1) (h_p2 : p2' = ef_kv e p2) (h_p3 : p3' = nI p3) (h : ef_make K f0_root f0_wayEnd f0_waiting a1 a2 a3 a4 a5 a6 a7 a8 a9 a10 a11 a12 a13 a14 p0 p1 p2 p3 = true) (hK : er_PI e K post)  : wpX_make post (f0_root', f0_wayEnd', f0_waiting', (eb_ar a1), (eb_ak e a2), (eb_ar a3), (eb_ar a4), (eb_ar a5), (eb_ar a6), (eb_ar a7), (eb_ar a8), (eb_ar a9), (eb_ak e a10), (eb_ar a11), (eb_ar a12), (eb_ar a13), (eb_ar a14)) p0' p1' p2' p3' := by
  refine eh_if (eh_lt h_p0 eh_n1) h (fun h => ?_) (fun h => ?_)
  ·
   exact hK _ _ eh_m1 _ _ h_f0_root _ _ h_f0_wayEnd _ _ h_f0_waiting _ _ _ _ _ _ _ _ _ _ _ _ _ _ h
  ·
   refine eh_if (eh_lt eh_n3 h_p0) h (fun h => ?_) (fun h => ?_)
   ·
    exact hK _ _ eh_m1 _ _ h_f0_root _ _ h_f0_wayEnd _ _ h_f0_waiting _ _ _ _ _ _ _ _ _ _ _ _ _ _ h
   ·
    refine er_isHandle he h_f0_root h_f0_wayEnd h_f0_waiting h_p1 h (fun r_3 r_3' h_r_3 h => ?_) 
    refine eh_if (eh_eq h_r_3 eh_n0) h (fun h => ?_) (fun h => ?_)
    ·
     exact hK _ _ eh_m1 _ _ h_f0_root _ _ h_f0_wayEnd _ _ h_f0_waiting _ _ _ _ _ _ _ _ _ _ _ _ _ _ h
    ·
     refine er_isName he h_f0_root h_f0_wayEnd h_f0_waiting h_p2 h (fun r_5 r_5' h_r_5 h => ?_) 
     refine eh_if (eh_eq h_r_5 eh_n0) h (fun h => ?_) (fun h => ?_)
     ·
      exact hK _ _ eh_m1 _ _ h_f0_root _ _ h_f0_wayEnd _ _ h_f0_waiting _ _ _ _ _ _ _ _ _ _ _ _ _ _ h
     ·
      refine er_directoryFault he h_f0_root h_f0_wayEnd h_f0_waiting h_p1 h (fun r_7 r_7' h_r_7 f0_root_8 f0_root_8' h_f0_root_8 f0_wayEnd_9 f0_wayEnd_9' h_f0_wayEnd_9 f0_waiting_10 f0_waiting_10' h_f0_waiting_10 am301_13 am302_16 am303_19 am304_22 am305_25 am306_28 am307_31 am308_34 am309_37 am3010_40 am3011_43 am3012_46 am3013_49 am3014_52 h => ?_) 
      refine eh_if (eh_eq h_r_7 eh_n0) h (fun h => ?_) (fun h => ?_)
      ·
       refine eh_in h_p1 h (fun f1 h => ?_)
       refine eh_let (eh_gt h_p1 f1) h (fun x6_55 x6_55' h_x6_55 h => ?_)
       obtain ⟨fx2, h_fx2, h⟩ := eh_fcK (eh_ka2 (eh_ad (eh_ml eh_n256 h_x6_55) eh_n1) h_p2) h
       refine er_get he h_f0_root_8 h_f0_wayEnd_9 h_f0_waiting_10 h_fx2 h (fun r_56 r_56' h_r_56 f0_root_57 f0_root_57' h_f0_root_57 f0_wayEnd_58 f0_wayEnd_58' h_f0_wayEnd_58 f0_waiting_59 f0_waiting_59' h_f0_waiting_59 am621_62 am622_65 am623_68 am624_71 am625_74 am626_77 am627_80 am628_83 am629_86 am6210_89 am6211_92 am6212_95 am6213_98 am6214_101 h => ?_) 
       refine eh_if (eh_lt h_r_56 eh_n0) h (fun h => ?_) (fun h => ?_)
       ·
        refine er_freeNode he h_f0_root_57 h_f0_wayEnd_58 h_f0_waiting_59 h (fun r_103 r_103' h_r_103 f0_root_104 f0_root_104' h_f0_root_104 f0_wayEnd_105 f0_wayEnd_105' h_f0_wayEnd_105 f0_waiting_106 f0_waiting_106' h_f0_waiting_106 am721_109 am722_112 am723_115 am724_118 am725_121 am726_124 am727_127 am728_130 am729_133 am7210_136 am7211_139 am7212_142 am7213_145 am7214_148 h => ?_) 
        refine eh_if (eh_le eh_n0 h_r_103) h (fun h => ?_) (fun h => ?_)
        ·
         refine eh_if (eh_eq h_p3 eh_n0) h (fun h => ?_) (fun h => ?_)
         ·
          obtain ⟨fx3, h_fx3, h⟩ := eh_fc (eh_ml eh_n4 h_x6_55) h
          obtain ⟨fx4, h_fx4, h⟩ := eh_fc (eh_ml eh_n256 h_r_103) h
          exact er_make_106 he h_p0 h_p2 h_x6_55 h_r_103 eh_n2 h_fx3 h_fx4 h_f0_root_104 h_f0_wayEnd_105 h_f0_waiting_106 h hK 
         ·
          obtain ⟨fx5, h_fx5, h⟩ := eh_fc (eh_ml eh_n4 h_x6_55) h
          obtain ⟨fx6, h_fx6, h⟩ := eh_fc (eh_ml eh_n256 h_r_103) h
          exact er_make_106 he h_p0 h_p2 h_x6_55 h_r_103 eh_n1 h_fx5 h_fx6 h_f0_root_104 h_f0_wayEnd_105 h_f0_waiting_106 h hK 
        ·
         exact hK _ _ eh_m2 _ _ h_f0_root_104 _ _ h_f0_wayEnd_105 _ _ h_f0_waiting_106 _ _ _ _ _ _ _ _ _ _ _ _ _ _ h
       ·
        exact hK _ _ eh_m5 _ _ h_f0_root_57 _ _ h_f0_wayEnd_58 _ _ h_f0_waiting_59 _ _ _ _ _ _ _ _ _ _ _ _ _ _ h
      ·
       exact hK _ _ h_r_7 _ _ h_f0_root_8 _ _ h_f0_wayEnd_9 _ _ h_f0_waiting_10 _ _ _ _ _ _ _ _ _ _ _ _ _ _ h
theorem er_kind {e : ef_E} (he : e.1 < 80) {post : Int32 → St2 → Prop} {K : ef_F18} {f0_root : Nat} {f0_root' : Int32} {f0_wayEnd : Nat} {f0_wayEnd' : Int32} {f0_waiting : Nat} {f0_waiting' : Int32} {a1 : Nat} {a2 : Nat} {a3 : Nat} {a4 : Nat} {a5 : Nat} {a6 : Nat} {a7 : Nat} {a8 : Nat} {a9 : Nat} {a10 : Nat} {a11 : Nat} {a12 : Nat} {a13 : Nat} {a14 : Nat} {p0 : Nat} {p0' : Int32} (h_f0_root : f0_root' = nI f0_root) (h_f0_wayEnd : f0_wayEnd' = nI f0_wayEnd) (h_f0_waiting : f0_waiting' = nI f0_waiting) (h_p0 : p0' = nI p0) (h : ef_kind K f0_root f0_wayEnd f0_waiting a1 a2 a3 a4 a5 a6 a7 a8 a9 a10 a11 a12 a13 a14 p0 = true) (hK : er_PI e K post)  : wpX_kind post (f0_root', f0_wayEnd', f0_waiting', (eb_ar a1), (eb_ak e a2), (eb_ar a3), (eb_ar a4), (eb_ar a5), (eb_ar a6), (eb_ar a7), (eb_ar a8), (eb_ar a9), (eb_ak e a10), (eb_ar a11), (eb_ar a12), (eb_ar a13), (eb_ar a14)) p0' := by
  unfold wpX_kind
  refine er_isHandle he h_f0_root h_f0_wayEnd h_f0_waiting h_p0 h (fun r_1 r_1' h_r_1 h => ?_) 
  refine eh_if (eh_eq h_r_1 eh_n0) h (fun h => ?_) (fun h => ?_)
  ·
   exact hK _ _ eh_m1 _ _ h_f0_root _ _ h_f0_wayEnd _ _ h_f0_waiting _ _ _ _ _ _ _ _ _ _ _ _ _ _ h
  ·
   refine eh_in h_p0 h (fun f1 h => ?_)
   refine eh_if (eh_le eh_n0 (eh_gt h_p0 f1)) h (fun h => ?_) (fun h => ?_)
   ·
    refine eh_inf h_p0 f1 ?_
    obtain ⟨fx2, h_fx2, h⟩ := eh_fc (eh_gt h_p0 f1) h
    refine er_sortOf he h_f0_root h_f0_wayEnd h_f0_waiting h_fx2 h (fun r_6 r_6' h_r_6 f0_root_7 f0_root_7' h_f0_root_7 f0_wayEnd_8 f0_wayEnd_8' h_f0_wayEnd_8 f0_waiting_9 f0_waiting_9' h_f0_waiting_9 am301_12 am302_15 am303_18 am304_21 am305_24 am306_27 am307_30 am308_33 am309_36 am3010_39 am3011_42 am3012_45 am3013_48 am3014_51 h => ?_) 
    exact hK _ _ h_r_6 _ _ h_f0_root_7 _ _ h_f0_wayEnd_8 _ _ h_f0_waiting_9 _ _ _ _ _ _ _ _ _ _ _ _ _ _ h
   ·
    exact hK _ _ eh_n0 _ _ h_f0_root _ _ h_f0_wayEnd _ _ h_f0_waiting _ _ _ _ _ _ _ _ _ _ _ _ _ _ h
theorem er_lastKey_65 {e : ef_E} (he : e.1 < 80) {post : Int32 → Prop} {K : ef_F1} {J7 : Int32 → Int32 → Prop} {JJ : ef_F2} {x1 : Nat} {x1' : Int32} {x2 : Nat} {x2' : Int32} {x3 : Nat} {x3' : Int32} {x4 : Nat} {x4' : Int32} {f0_root : Nat} {f0_root' : Int32} {f0_wayEnd : Nat} {f0_wayEnd' : Int32} {f0_waiting : Nat} {f0_waiting' : Int32} {a1 : Nat} {a2 : Nat} {a3 : Nat} {a4 : Nat} {a5 : Nat} {a6 : Nat} {a7 : Nat} {a8 : Nat} {a9 : Nat} {a10 : Nat} {a11 : Nat} {a12 : Nat} {a13 : Nat} {a14 : Nat} (h_x1 : x1' = nI x1) (h_x2 : x2' = ef_kv e x2) (h_x3 : x3' = nI x3) (h_x4 : x4' = nI x4) (h_f0_root : f0_root' = nI f0_root) (h_f0_wayEnd : f0_wayEnd' = nI f0_wayEnd) (h_f0_waiting : f0_waiting' = nI f0_waiting) (h : ef_lastKey_65 K JJ x1 x2 x3 x4 f0_root f0_wayEnd f0_waiting a1 a2 a3 a4 a5 a6 a7 a8 a9 a10 a11 a12 a13 a14 = true) (hK : er_QK e K post) (hJ : ∀ (q0 : Nat) (s0 : Int32) (_ : s0 = ef_kv e q0) (q1 : Nat) (s1 : Int32) (_ : s1 = nI q1), JJ q0 q1 = true → J7 s0 s1) : wX_lastKey_65 post J7 x1' x2' x3' x4' f0_root' f0_wayEnd' f0_waiting' (eb_ar a1) (eb_ak e a2) (eb_ar a3) (eb_ar a4) (eb_ar a5) (eb_ar a6) (eb_ar a7) (eb_ar a8) (eb_ar a9) (eb_ak e a10) (eb_ar a11) (eb_ar a12) (eb_ar a13) (eb_ar a14) := by
  unfold wX_lastKey_65
  refine er_isLeaf he h_f0_root h_f0_wayEnd h_f0_waiting h_x3 h (fun r_5 r_5' h_r_5 h => ?_) 
  refine eh_if (eh_eq h_r_5 eh_n0) h (fun h => ?_) (fun h => ?_)
  ·
   refine eh_in (eh_ad (eh_ml eh_n6 h_x3) h_x4) h (fun f1 h => ?_)
   refine eh_let (eh_gt (eh_ad (eh_ml eh_n6 h_x3) h_x4) f1) h (fun x3_8 x3_8' h_x3_8 h => ?_)
   exact hJ _ _ h_x2 _ _ h_x3_8 h
  ·
   exact hJ _ _ h_x2 _ _ eh_m1 h
theorem er_lastKey_46 {e : ef_E} (he : e.1 < 80) {post : Int32 → Prop} {K : ef_F1} {J7 : Int32 → Int32 → Prop} {JJ : ef_F2} {x1 : Nat} {x1' : Int32} {x2 : Nat} {x2' : Int32} {x3 : Nat} {x3' : Int32} {x4 : Nat} {x4' : Int32} {f0_root : Nat} {f0_root' : Int32} {f0_wayEnd : Nat} {f0_wayEnd' : Int32} {f0_waiting : Nat} {f0_waiting' : Int32} {a1 : Nat} {a2 : Nat} {a3 : Nat} {a4 : Nat} {a5 : Nat} {a6 : Nat} {a7 : Nat} {a8 : Nat} {a9 : Nat} {a10 : Nat} {a11 : Nat} {a12 : Nat} {a13 : Nat} {a14 : Nat} (h_x1 : x1' = nI x1) (h_x2 : x2' = ef_kv e x2) (h_x3 : x3' = nI x3) (h_x4 : x4' = nI x4) (h_f0_root : f0_root' = nI f0_root) (h_f0_wayEnd : f0_wayEnd' = nI f0_wayEnd) (h_f0_waiting : f0_waiting' = nI f0_waiting) (h : ef_lastKey_46 K JJ x1 x2 x3 x4 f0_root f0_wayEnd f0_waiting a1 a2 a3 a4 a5 a6 a7 a8 a9 a10 a11 a12 a13 a14 = true) (hK : er_QK e K post) (hJ : ∀ (q0 : Nat) (s0 : Int32) (_ : s0 = ef_kv e q0) (q1 : Nat) (s1 : Int32) (_ : s1 = nI q1), JJ q0 q1 = true → J7 s0 s1) : wX_lastKey_46 post J7 x1' x2' x3' x4' f0_root' f0_wayEnd' f0_waiting' (eb_ar a1) (eb_ak e a2) (eb_ar a3) (eb_ar a4) (eb_ar a5) (eb_ar a6) (eb_ar a7) (eb_ar a8) (eb_ar a9) (eb_ak e a10) (eb_ar a11) (eb_ar a12) (eb_ar a13) (eb_ar a14) := by
  refine eh_if (eh_le h_x4 eh_n0) h (fun h => ?_) (fun h => ?_)
  ·
   exact er_lastKey_65 he h_x1 h_x2 h_x3 h_x4 h_f0_root h_f0_wayEnd h_f0_waiting h hK hJ
  ·
   refine eh_in (eh_sb (eh_ad (eh_ml eh_n5 h_x3) h_x4) eh_n1) h (fun f1 h => ?_)
   refine eh_letK (eh_gk (eh_sb (eh_ad (eh_ml eh_n5 h_x3) h_x4) eh_n1) f1) h (fun x2_10 x2_10' h_x2_10 h => ?_)
   exact er_lastKey_65 he h_x1 h_x2_10 h_x3 h_x4 h_f0_root h_f0_wayEnd h_f0_waiting h hK hJ
theorem er_lastKey_14 {e : ef_E} (he : e.1 < 80) {post : Int32 → Prop} {K : ef_F1} {J7 : Int32 → Int32 → Prop} {JJ : ef_F2} {x1 : Nat} {x1' : Int32} {x2 : Nat} {x2' : Int32} {x3 : Nat} {x3' : Int32} {f0_root : Nat} {f0_root' : Int32} {f0_wayEnd : Nat} {f0_wayEnd' : Int32} {f0_waiting : Nat} {f0_waiting' : Int32} {a1 : Nat} {a2 : Nat} {a3 : Nat} {a4 : Nat} {a5 : Nat} {a6 : Nat} {a7 : Nat} {a8 : Nat} {a9 : Nat} {a10 : Nat} {a11 : Nat} {a12 : Nat} {a13 : Nat} {a14 : Nat} (hK : er_QK e K post) (hJ : ∀ (q0 : Nat) (s0 : Int32) (_ : s0 = ef_kv e q0) (q1 : Nat) (s1 : Int32) (_ : s1 = nI q1), JJ q0 q1 = true → J7 s0 s1) (h_x1 : x1' = nI x1) (h_x2 : x2' = ef_kv e x2) (h_x3 : x3' = nI x3) (h_f0_root : f0_root' = nI f0_root) (h_f0_wayEnd : f0_wayEnd' = nI f0_wayEnd) (h_f0_waiting : f0_waiting' = nI f0_waiting) : ∀ (n : Nat) (x4 : Nat) (x4' : Int32) (_ : x4' = nI x4), ef_lastKey_14 K JJ x1 x2 x3 f0_root f0_wayEnd f0_waiting a1 a2 a3 a4 a5 a6 a7 a8 a9 a10 a11 a12 a13 a14 n x4 = true → wX_lastKey_14 post J7 x1' x2' x3' f0_root' f0_wayEnd' f0_waiting' (eb_ar a1) (eb_ak e a2) (eb_ar a3) (eb_ar a4) (eb_ar a5) (eb_ar a6) (eb_ar a7) (eb_ar a8) (eb_ar a9) (eb_ak e a10) (eb_ar a11) (eb_ar a12) (eb_ar a13) (eb_ar a14) n x4' := by
  intro n
  induction n with
  | zero =>
    intro x4 x4' h_x4 h
    exact absurd (show false = true from h) Bool.false_ne_true
  | succ n ih =>
    intro x4 x4' h_x4 h
    have h : ef_lastKey_14_b K JJ x1 x2 x3 f0_root f0_wayEnd f0_waiting a1 a2 a3 a4 a5 a6 a7 a8 a9 a10 a11 a12 a13 a14 (ef_lastKey_14 K JJ x1 x2 x3 f0_root f0_wayEnd f0_waiting a1 a2 a3 a4 a5 a6 a7 a8 a9 a10 a11 a12 a13 a14 n) x4 = true := h
    refine eh_in h_x3 h (fun f1 h => ?_)
    refine eh_if (eh_le (eh_gt h_x3 f1) h_x4) h (fun h => ?_) (fun h => ?_)
    ·
     exact er_lastKey_46 he h_x1 h_x2 h_x3 h_x4 h_f0_root h_f0_wayEnd h_f0_waiting h hK hJ
    ·
     refine eh_in (eh_ad (eh_ml eh_n5 h_x3) h_x4) h (fun f2 h => ?_)
     refine eh_i3 (eh_klt he (eh_ik h_x1) (eh_gk (eh_ad (eh_ml eh_n5 h_x3) h_x4) f2)) (eh_knlt he (eh_ik h_x1) (eh_gk (eh_ad (eh_ml eh_n5 h_x3) h_x4) f2)) h (fun h => ?_) (fun h => ?_)
     ·
      exact er_lastKey_46 he h_x1 h_x2 h_x3 h_x4 h_f0_root h_f0_wayEnd h_f0_waiting h hK hJ
     ·
      refine eh_let (eh_ad h_x4 eh_n1) h (fun x4_13 x4_13' h_x4_13 h => ?_)
      exact ih _ _ h_x4_13 h
theorem er_lastKey_7 {e : ef_E} (he : e.1 < 80) {post : Int32 → Prop} {K : ef_F1} {x1 : Nat} {x1' : Int32} {f0_root : Nat} {f0_root' : Int32} {f0_wayEnd : Nat} {f0_wayEnd' : Int32} {f0_waiting : Nat} {f0_waiting' : Int32} {a1 : Nat} {a2 : Nat} {a3 : Nat} {a4 : Nat} {a5 : Nat} {a6 : Nat} {a7 : Nat} {a8 : Nat} {a9 : Nat} {a10 : Nat} {a11 : Nat} {a12 : Nat} {a13 : Nat} {a14 : Nat} (hK : er_QK e K post)  (h_x1 : x1' = nI x1) (h_f0_root : f0_root' = nI f0_root) (h_f0_wayEnd : f0_wayEnd' = nI f0_wayEnd) (h_f0_waiting : f0_waiting' = nI f0_waiting) : ∀ (n : Nat) (x2 : Nat) (x2' : Int32) (_ : x2' = ef_kv e x2) (x3 : Nat) (x3' : Int32) (_ : x3' = nI x3), ef_lastKey_7 K x1 f0_root f0_wayEnd f0_waiting a1 a2 a3 a4 a5 a6 a7 a8 a9 a10 a11 a12 a13 a14 n x2 x3 = true → wX_lastKey_7 post x1' f0_root' f0_wayEnd' f0_waiting' (eb_ar a1) (eb_ak e a2) (eb_ar a3) (eb_ar a4) (eb_ar a5) (eb_ar a6) (eb_ar a7) (eb_ar a8) (eb_ar a9) (eb_ak e a10) (eb_ar a11) (eb_ar a12) (eb_ar a13) (eb_ar a14) n x2' x3' := by
  intro n
  induction n with
  | zero =>
    intro x2 x2' h_x2 x3 x3' h_x3 h
    exact absurd (show false = true from h) Bool.false_ne_true
  | succ n ih =>
    intro x2 x2' h_x2 x3 x3' h_x3 h
    have h : ef_lastKey_7_b K x1 f0_root f0_wayEnd f0_waiting a1 a2 a3 a4 a5 a6 a7 a8 a9 a10 a11 a12 a13 a14 (ef_lastKey_7 K x1 f0_root f0_wayEnd f0_waiting a1 a2 a3 a4 a5 a6 a7 a8 a9 a10 a11 a12 a13 a14 n) x2 x3 = true := h
    refine eh_if (eh_lt h_x3 eh_n0) h (fun h => ?_) (fun h => ?_)
    ·
     exact hK _ _ h_x2 h
    ·
     refine Exists.intro 120 ?_
     exact er_lastKey_14 he hK ih h_x1 h_x2 h_x3 h_f0_root h_f0_wayEnd h_f0_waiting 120 _ _ eh_n0 h
theorem er_lastKey {e : ef_E} (he : e.1 < 80) {post : Int32 → Prop} {K : ef_F1} {f0_root : Nat} {f0_root' : Int32} {f0_wayEnd : Nat} {f0_wayEnd' : Int32} {f0_waiting : Nat} {f0_waiting' : Int32} {a1 : Nat} {a2 : Nat} {a3 : Nat} {a4 : Nat} {a5 : Nat} {a6 : Nat} {a7 : Nat} {a8 : Nat} {a9 : Nat} {a10 : Nat} {a11 : Nat} {a12 : Nat} {a13 : Nat} {a14 : Nat} {p0 : Nat} {p0' : Int32} (h_f0_root : f0_root' = nI f0_root) (h_f0_wayEnd : f0_wayEnd' = nI f0_wayEnd) (h_f0_waiting : f0_waiting' = nI f0_waiting) (h_p0 : p0' = nI p0) (h : ef_lastKey K f0_root f0_wayEnd f0_waiting a1 a2 a3 a4 a5 a6 a7 a8 a9 a10 a11 a12 a13 a14 p0 = true) (hK : er_QK e K post)  : wpX_lastKey post (f0_root', f0_wayEnd', f0_waiting', (eb_ar a1), (eb_ak e a2), (eb_ar a3), (eb_ar a4), (eb_ar a5), (eb_ar a6), (eb_ar a7), (eb_ar a8), (eb_ar a9), (eb_ak e a10), (eb_ar a11), (eb_ar a12), (eb_ar a13), (eb_ar a14)) p0' := by
  refine Exists.intro 120 ?_
  exact er_lastKey_7 he hK  h_p0 h_f0_root h_f0_wayEnd h_f0_waiting 120 _ _ (eh_ik eh_m1) _ _ h_f0_root h
theorem er_stretchAt {e : ef_E} (he : e.1 < 80) {post : Int32 → Prop} {K : ef_F1} {f0_root : Nat} {f0_root' : Int32} {f0_wayEnd : Nat} {f0_wayEnd' : Int32} {f0_waiting : Nat} {f0_waiting' : Int32} {a1 : Nat} {a2 : Nat} {a3 : Nat} {a4 : Nat} {a5 : Nat} {a6 : Nat} {a7 : Nat} {a8 : Nat} {a9 : Nat} {a10 : Nat} {a11 : Nat} {a12 : Nat} {a13 : Nat} {a14 : Nat} {p0 : Nat} {p0' : Int32} {p1 : Nat} {p1' : Int32} (h_f0_root : f0_root' = nI f0_root) (h_f0_wayEnd : f0_wayEnd' = nI f0_wayEnd) (h_f0_waiting : f0_waiting' = nI f0_waiting) (h_p0 : p0' = nI p0) (h_p1 : p1' = nI p1) (h : ef_stretchAt K f0_root f0_wayEnd f0_waiting a1 a2 a3 a4 a5 a6 a7 a8 a9 a10 a11 a12 a13 a14 p0 p1 = true) (hK : er_QK e K post)  : wpX_stretchAt post (f0_root', f0_wayEnd', f0_waiting', (eb_ar a1), (eb_ak e a2), (eb_ar a3), (eb_ar a4), (eb_ar a5), (eb_ar a6), (eb_ar a7), (eb_ar a8), (eb_ar a9), (eb_ak e a10), (eb_ar a11), (eb_ar a12), (eb_ar a13), (eb_ar a14)) p0' p1' := by
  unfold wpX_stretchAt
  obtain ⟨fx1, h_fx1, h⟩ := eh_fc (eh_ad (eh_ad (eh_ml eh_n256 h_p0) eh_n128) h_p1) h
  refine er_lastKey he h_f0_root h_f0_wayEnd h_f0_waiting h_fx1 h (fun r_1 r_1' h_r_1 h => ?_) 
  refine eh_i3 (eh_klt he h_r_1 (eh_ik (eh_ad (eh_ml eh_n256 h_p0) eh_n128))) (eh_knlt he h_r_1 (eh_ik (eh_ad (eh_ml eh_n256 h_p0) eh_n128))) h (fun h => ?_) (fun h => ?_)
  ·
   exact hK _ _ (eh_ik eh_m1) h
  ·
   exact hK _ _ h_r_1 h
theorem er_placeOf {e : ef_E} (he : e.1 < 80) {post : Int32 → St2 → Prop} {K : ef_F18} {f0_root : Nat} {f0_root' : Int32} {f0_wayEnd : Nat} {f0_wayEnd' : Int32} {f0_waiting : Nat} {f0_waiting' : Int32} {a1 : Nat} {a2 : Nat} {a3 : Nat} {a4 : Nat} {a5 : Nat} {a6 : Nat} {a7 : Nat} {a8 : Nat} {a9 : Nat} {a10 : Nat} {a11 : Nat} {a12 : Nat} {a13 : Nat} {a14 : Nat} {p0 : Nat} {p0' : Int32} {p1 : Nat} {p1' : Int32} (h_f0_root : f0_root' = nI f0_root) (h_f0_wayEnd : f0_wayEnd' = nI f0_wayEnd) (h_f0_waiting : f0_waiting' = nI f0_waiting) (h_p0 : p0' = nI p0) (h_p1 : p1' = nI p1) (h : ef_placeOf K f0_root f0_wayEnd f0_waiting a1 a2 a3 a4 a5 a6 a7 a8 a9 a10 a11 a12 a13 a14 p0 p1 = true) (hK : er_PI e K post)  : wpX_placeOf post (f0_root', f0_wayEnd', f0_waiting', (eb_ar a1), (eb_ak e a2), (eb_ar a3), (eb_ar a4), (eb_ar a5), (eb_ar a6), (eb_ar a7), (eb_ar a8), (eb_ar a9), (eb_ak e a10), (eb_ar a11), (eb_ar a12), (eb_ar a13), (eb_ar a14)) p0' p1' := by
  unfold wpX_placeOf
  refine er_stretchAt he h_f0_root h_f0_wayEnd h_f0_waiting h_p0 h_p1 h (fun r_1 r_1' h_r_1 h => ?_) 
  refine eh_i3 (eh_kle he (eh_ik eh_n0) h_r_1) (eh_knle he (eh_ik eh_n0) h_r_1) h (fun h => ?_) (fun h => ?_)
  ·
   refine er_get he h_f0_root h_f0_wayEnd h_f0_waiting h_r_1 h (fun r_3 r_3' h_r_3 f0_root_4 f0_root_4' h_f0_root_4 f0_wayEnd_5 f0_wayEnd_5' h_f0_wayEnd_5 f0_waiting_6 f0_waiting_6' h_f0_waiting_6 am151_9 am152_12 am153_15 am154_18 am155_21 am156_24 am157_27 am158_30 am159_33 am1510_36 am1511_39 am1512_42 am1513_45 am1514_48 h => ?_) 
   obtain ⟨g1, h⟩ := eh_g h
   refine eh_let (eh_sb (eh_ad (eh_ad (eh_ml eh_n256 h_p0) eh_n128) h_p1) (eh_k2i h_r_1 g1)) h (fun x5_49 x5_49' h_x5_49 h => ?_)
   refine eh_if (eh_le (eh_an h_r_3 eh_n15) h_x5_49) h (fun h => ?_) (fun h => ?_)
   ·
    exact hK _ _ eh_m1 _ _ h_f0_root_4 _ _ h_f0_wayEnd_5 _ _ h_f0_waiting_6 _ _ _ _ _ _ _ _ _ _ _ _ _ _ h
   ·
    obtain ⟨g2, h⟩ := eh_g h
    obtain ⟨fx3, h_fx3, h⟩ := eh_fc (eh_ad (eh_sr4 h_r_3 g2) h_x5_49) h
    exact hK _ _ h_fx3 _ _ h_f0_root_4 _ _ h_f0_wayEnd_5 _ _ h_f0_waiting_6 _ _ _ _ _ _ _ _ _ _ _ _ _ _ h
  ·
   exact hK _ _ eh_m1 _ _ h_f0_root _ _ h_f0_wayEnd _ _ h_f0_waiting _ _ _ _ _ _ _ _ _ _ _ _ _ _ h
theorem er_nextKey_69 {e : ef_E} (he : e.1 < 80) {post : Int32 → Prop} {K : ef_F1} {J7 : Int32 → Int32 → Prop} {JJ : ef_F2} {x1 : Nat} {x1' : Int32} {x2 : Nat} {x2' : Int32} {x3 : Nat} {x3' : Int32} {x4 : Nat} {x4' : Int32} {f0_root : Nat} {f0_root' : Int32} {f0_wayEnd : Nat} {f0_wayEnd' : Int32} {f0_waiting : Nat} {f0_waiting' : Int32} {a1 : Nat} {a2 : Nat} {a3 : Nat} {a4 : Nat} {a5 : Nat} {a6 : Nat} {a7 : Nat} {a8 : Nat} {a9 : Nat} {a10 : Nat} {a11 : Nat} {a12 : Nat} {a13 : Nat} {a14 : Nat} (h_x1 : x1' = ef_kv e x1) (h_x2 : x2' = ef_kv e x2) (h_x3 : x3' = nI x3) (h_x4 : x4' = nI x4) (h_f0_root : f0_root' = nI f0_root) (h_f0_wayEnd : f0_wayEnd' = nI f0_wayEnd) (h_f0_waiting : f0_waiting' = nI f0_waiting) (h : ef_nextKey_69 K JJ x1 x2 x3 x4 f0_root f0_wayEnd f0_waiting a1 a2 a3 a4 a5 a6 a7 a8 a9 a10 a11 a12 a13 a14 = true) (hK : er_QK e K post) (hJ : ∀ (q0 : Nat) (s0 : Int32) (_ : s0 = ef_kv e q0) (q1 : Nat) (s1 : Int32) (_ : s1 = nI q1), JJ q0 q1 = true → J7 s0 s1) : wX_nextKey_69 post J7 x1' x2' x3' x4' f0_root' f0_wayEnd' f0_waiting' (eb_ar a1) (eb_ak e a2) (eb_ar a3) (eb_ar a4) (eb_ar a5) (eb_ar a6) (eb_ar a7) (eb_ar a8) (eb_ar a9) (eb_ak e a10) (eb_ar a11) (eb_ar a12) (eb_ar a13) (eb_ar a14) := by
  unfold wX_nextKey_69
  refine er_isLeaf he h_f0_root h_f0_wayEnd h_f0_waiting h_x3 h (fun r_6 r_6' h_r_6 h => ?_) 
  refine eh_if (eh_eq h_r_6 eh_n0) h (fun h => ?_) (fun h => ?_)
  ·
   refine eh_in (eh_ad (eh_ml eh_n6 h_x3) h_x4) h (fun f1 h => ?_)
   refine eh_let (eh_gt (eh_ad (eh_ml eh_n6 h_x3) h_x4) f1) h (fun x3_9 x3_9' h_x3_9 h => ?_)
   exact hJ _ _ h_x2 _ _ h_x3_9 h
  ·
   exact hJ _ _ h_x2 _ _ eh_m1 h
theorem er_nextKey_46 {e : ef_E} (he : e.1 < 80) {post : Int32 → Prop} {K : ef_F1} {J7 : Int32 → Int32 → Prop} {JJ : ef_F2} {x1 : Nat} {x1' : Int32} {x2 : Nat} {x2' : Int32} {x3 : Nat} {x3' : Int32} {x4 : Nat} {x4' : Int32} {f0_root : Nat} {f0_root' : Int32} {f0_wayEnd : Nat} {f0_wayEnd' : Int32} {f0_waiting : Nat} {f0_waiting' : Int32} {a1 : Nat} {a2 : Nat} {a3 : Nat} {a4 : Nat} {a5 : Nat} {a6 : Nat} {a7 : Nat} {a8 : Nat} {a9 : Nat} {a10 : Nat} {a11 : Nat} {a12 : Nat} {a13 : Nat} {a14 : Nat} (h_x1 : x1' = ef_kv e x1) (h_x2 : x2' = ef_kv e x2) (h_x3 : x3' = nI x3) (h_x4 : x4' = nI x4) (h_f0_root : f0_root' = nI f0_root) (h_f0_wayEnd : f0_wayEnd' = nI f0_wayEnd) (h_f0_waiting : f0_waiting' = nI f0_waiting) (h : ef_nextKey_46 K JJ x1 x2 x3 x4 f0_root f0_wayEnd f0_waiting a1 a2 a3 a4 a5 a6 a7 a8 a9 a10 a11 a12 a13 a14 = true) (hK : er_QK e K post) (hJ : ∀ (q0 : Nat) (s0 : Int32) (_ : s0 = ef_kv e q0) (q1 : Nat) (s1 : Int32) (_ : s1 = nI q1), JJ q0 q1 = true → J7 s0 s1) : wX_nextKey_46 post J7 x1' x2' x3' x4' f0_root' f0_wayEnd' f0_waiting' (eb_ar a1) (eb_ak e a2) (eb_ar a3) (eb_ar a4) (eb_ar a5) (eb_ar a6) (eb_ar a7) (eb_ar a8) (eb_ar a9) (eb_ak e a10) (eb_ar a11) (eb_ar a12) (eb_ar a13) (eb_ar a14) := by
  refine eh_in h_x3 h (fun f1 h => ?_)
  refine eh_if (eh_le (eh_gt h_x3 f1) h_x4) h (fun h => ?_) (fun h => ?_)
  ·
   exact er_nextKey_69 he h_x1 h_x2 h_x3 h_x4 h_f0_root h_f0_wayEnd h_f0_waiting h hK hJ
  ·
   refine eh_in (eh_ad (eh_ml eh_n5 h_x3) h_x4) h (fun f2 h => ?_)
   refine eh_letK (eh_gk (eh_ad (eh_ml eh_n5 h_x3) h_x4) f2) h (fun x2_11 x2_11' h_x2_11 h => ?_)
   exact er_nextKey_69 he h_x1 h_x2_11 h_x3 h_x4 h_f0_root h_f0_wayEnd h_f0_waiting h hK hJ
theorem er_nextKey_14 {e : ef_E} (he : e.1 < 80) {post : Int32 → Prop} {K : ef_F1} {J7 : Int32 → Int32 → Prop} {JJ : ef_F2} {x1 : Nat} {x1' : Int32} {x2 : Nat} {x2' : Int32} {x3 : Nat} {x3' : Int32} {f0_root : Nat} {f0_root' : Int32} {f0_wayEnd : Nat} {f0_wayEnd' : Int32} {f0_waiting : Nat} {f0_waiting' : Int32} {a1 : Nat} {a2 : Nat} {a3 : Nat} {a4 : Nat} {a5 : Nat} {a6 : Nat} {a7 : Nat} {a8 : Nat} {a9 : Nat} {a10 : Nat} {a11 : Nat} {a12 : Nat} {a13 : Nat} {a14 : Nat} (hK : er_QK e K post) (hJ : ∀ (q0 : Nat) (s0 : Int32) (_ : s0 = ef_kv e q0) (q1 : Nat) (s1 : Int32) (_ : s1 = nI q1), JJ q0 q1 = true → J7 s0 s1) (h_x1 : x1' = ef_kv e x1) (h_x2 : x2' = ef_kv e x2) (h_x3 : x3' = nI x3) (h_f0_root : f0_root' = nI f0_root) (h_f0_wayEnd : f0_wayEnd' = nI f0_wayEnd) (h_f0_waiting : f0_waiting' = nI f0_waiting) : ∀ (n : Nat) (x4 : Nat) (x4' : Int32) (_ : x4' = nI x4), ef_nextKey_14 K JJ x1 x2 x3 f0_root f0_wayEnd f0_waiting a1 a2 a3 a4 a5 a6 a7 a8 a9 a10 a11 a12 a13 a14 n x4 = true → wX_nextKey_14 post J7 x1' x2' x3' f0_root' f0_wayEnd' f0_waiting' (eb_ar a1) (eb_ak e a2) (eb_ar a3) (eb_ar a4) (eb_ar a5) (eb_ar a6) (eb_ar a7) (eb_ar a8) (eb_ar a9) (eb_ak e a10) (eb_ar a11) (eb_ar a12) (eb_ar a13) (eb_ar a14) n x4' := by
  intro n
  induction n with
  | zero =>
    intro x4 x4' h_x4 h
    exact absurd (show false = true from h) Bool.false_ne_true
  | succ n ih =>
    intro x4 x4' h_x4 h
    have h : ef_nextKey_14_b K JJ x1 x2 x3 f0_root f0_wayEnd f0_waiting a1 a2 a3 a4 a5 a6 a7 a8 a9 a10 a11 a12 a13 a14 (ef_nextKey_14 K JJ x1 x2 x3 f0_root f0_wayEnd f0_waiting a1 a2 a3 a4 a5 a6 a7 a8 a9 a10 a11 a12 a13 a14 n) x4 = true := h
    refine eh_in h_x3 h (fun f1 h => ?_)
    refine eh_if (eh_le (eh_gt h_x3 f1) h_x4) h (fun h => ?_) (fun h => ?_)
    ·
     exact er_nextKey_46 he h_x1 h_x2 h_x3 h_x4 h_f0_root h_f0_wayEnd h_f0_waiting h hK hJ
    ·
     refine eh_in (eh_ad (eh_ml eh_n5 h_x3) h_x4) h (fun f2 h => ?_)
     refine eh_i3 (eh_klt he h_x1 (eh_gk (eh_ad (eh_ml eh_n5 h_x3) h_x4) f2)) (eh_knlt he h_x1 (eh_gk (eh_ad (eh_ml eh_n5 h_x3) h_x4) f2)) h (fun h => ?_) (fun h => ?_)
     ·
      exact er_nextKey_46 he h_x1 h_x2 h_x3 h_x4 h_f0_root h_f0_wayEnd h_f0_waiting h hK hJ
     ·
      refine eh_let (eh_ad h_x4 eh_n1) h (fun x4_14 x4_14' h_x4_14 h => ?_)
      exact ih _ _ h_x4_14 h
theorem er_nextKey_7 {e : ef_E} (he : e.1 < 80) {post : Int32 → Prop} {K : ef_F1} {x1 : Nat} {x1' : Int32} {f0_root : Nat} {f0_root' : Int32} {f0_wayEnd : Nat} {f0_wayEnd' : Int32} {f0_waiting : Nat} {f0_waiting' : Int32} {a1 : Nat} {a2 : Nat} {a3 : Nat} {a4 : Nat} {a5 : Nat} {a6 : Nat} {a7 : Nat} {a8 : Nat} {a9 : Nat} {a10 : Nat} {a11 : Nat} {a12 : Nat} {a13 : Nat} {a14 : Nat} (hK : er_QK e K post)  (h_x1 : x1' = ef_kv e x1) (h_f0_root : f0_root' = nI f0_root) (h_f0_wayEnd : f0_wayEnd' = nI f0_wayEnd) (h_f0_waiting : f0_waiting' = nI f0_waiting) : ∀ (n : Nat) (x2 : Nat) (x2' : Int32) (_ : x2' = ef_kv e x2) (x3 : Nat) (x3' : Int32) (_ : x3' = nI x3), ef_nextKey_7 K x1 f0_root f0_wayEnd f0_waiting a1 a2 a3 a4 a5 a6 a7 a8 a9 a10 a11 a12 a13 a14 n x2 x3 = true → wX_nextKey_7 post x1' f0_root' f0_wayEnd' f0_waiting' (eb_ar a1) (eb_ak e a2) (eb_ar a3) (eb_ar a4) (eb_ar a5) (eb_ar a6) (eb_ar a7) (eb_ar a8) (eb_ar a9) (eb_ak e a10) (eb_ar a11) (eb_ar a12) (eb_ar a13) (eb_ar a14) n x2' x3' := by
  intro n
  induction n with
  | zero =>
    intro x2 x2' h_x2 x3 x3' h_x3 h
    exact absurd (show false = true from h) Bool.false_ne_true
  | succ n ih =>
    intro x2 x2' h_x2 x3 x3' h_x3 h
    have h : ef_nextKey_7_b K x1 f0_root f0_wayEnd f0_waiting a1 a2 a3 a4 a5 a6 a7 a8 a9 a10 a11 a12 a13 a14 (ef_nextKey_7 K x1 f0_root f0_wayEnd f0_waiting a1 a2 a3 a4 a5 a6 a7 a8 a9 a10 a11 a12 a13 a14 n) x2 x3 = true := h
    refine eh_if (eh_lt h_x3 eh_n0) h (fun h => ?_) (fun h => ?_)
    ·
     exact hK _ _ h_x2 h
    ·
     refine Exists.intro 120 ?_
     exact er_nextKey_14 he hK ih h_x1 h_x2 h_x3 h_f0_root h_f0_wayEnd h_f0_waiting 120 _ _ eh_n0 h
theorem er_nextKey {e : ef_E} (he : e.1 < 80) {post : Int32 → Prop} {K : ef_F1} {f0_root : Nat} {f0_root' : Int32} {f0_wayEnd : Nat} {f0_wayEnd' : Int32} {f0_waiting : Nat} {f0_waiting' : Int32} {a1 : Nat} {a2 : Nat} {a3 : Nat} {a4 : Nat} {a5 : Nat} {a6 : Nat} {a7 : Nat} {a8 : Nat} {a9 : Nat} {a10 : Nat} {a11 : Nat} {a12 : Nat} {a13 : Nat} {a14 : Nat} {p0 : Nat} {p0' : Int32} (h_f0_root : f0_root' = nI f0_root) (h_f0_wayEnd : f0_wayEnd' = nI f0_wayEnd) (h_f0_waiting : f0_waiting' = nI f0_waiting) (h_p0 : p0' = ef_kv e p0) (h : ef_nextKey K f0_root f0_wayEnd f0_waiting a1 a2 a3 a4 a5 a6 a7 a8 a9 a10 a11 a12 a13 a14 p0 = true) (hK : er_QK e K post)  : wpX_nextKey post (f0_root', f0_wayEnd', f0_waiting', (eb_ar a1), (eb_ak e a2), (eb_ar a3), (eb_ar a4), (eb_ar a5), (eb_ar a6), (eb_ar a7), (eb_ar a8), (eb_ar a9), (eb_ak e a10), (eb_ar a11), (eb_ar a12), (eb_ar a13), (eb_ar a14)) p0' := by
  refine Exists.intro 120 ?_
  exact er_nextKey_7 he hK  h_p0 h_f0_root h_f0_wayEnd h_f0_waiting 120 _ _ (eh_ik eh_m1) _ _ h_f0_root h
theorem er_entriesOf_12 {e : ef_E} (he : e.1 < 80) {post : Int32 → Prop} {K : ef_F1} {x1 : Nat} {x1' : Int32} {f0_root : Nat} {f0_root' : Int32} {f0_wayEnd : Nat} {f0_wayEnd' : Int32} {f0_waiting : Nat} {f0_waiting' : Int32} {a1 : Nat} {a2 : Nat} {a3 : Nat} {a4 : Nat} {a5 : Nat} {a6 : Nat} {a7 : Nat} {a8 : Nat} {a9 : Nat} {a10 : Nat} {a11 : Nat} {a12 : Nat} {a13 : Nat} {a14 : Nat} (hK : er_QI K post)  (h_x1 : x1' = nI x1) (h_f0_root : f0_root' = nI f0_root) (h_f0_wayEnd : f0_wayEnd' = nI f0_wayEnd) (h_f0_waiting : f0_waiting' = nI f0_waiting) : ∀ (n : Nat) (x2 : Nat) (x2' : Int32) (_ : x2' = nI x2) (x3 : Nat) (x3' : Int32) (_ : x3' = ef_kv e x3), ef_entriesOf_12 K x1 f0_root f0_wayEnd f0_waiting a1 a2 a3 a4 a5 a6 a7 a8 a9 a10 a11 a12 a13 a14 n x2 x3 = true → wX_entriesOf_12 post x1' f0_root' f0_wayEnd' f0_waiting' (eb_ar a1) (eb_ak e a2) (eb_ar a3) (eb_ar a4) (eb_ar a5) (eb_ar a6) (eb_ar a7) (eb_ar a8) (eb_ar a9) (eb_ak e a10) (eb_ar a11) (eb_ar a12) (eb_ar a13) (eb_ar a14) n x2' x3' := by
  intro n
  induction n with
  | zero =>
    intro x2 x2' h_x2 x3 x3' h_x3 h
    exact absurd (show false = true from h) Bool.false_ne_true
  | succ n ih =>
    intro x2 x2' h_x2 x3 x3' h_x3 h
    have h : ef_entriesOf_12_b K x1 f0_root f0_wayEnd f0_waiting a1 a2 a3 a4 a5 a6 a7 a8 a9 a10 a11 a12 a13 a14 (ef_entriesOf_12 K x1 f0_root f0_wayEnd f0_waiting a1 a2 a3 a4 a5 a6 a7 a8 a9 a10 a11 a12 a13 a14 n) x2 x3 = true := h
    refine eh_i3 (eh_klt he h_x3 (eh_ik eh_n0)) (eh_knlt he h_x3 (eh_ik eh_n0)) h (fun h => ?_) (fun h => ?_)
    ·
     exact hK _ _ h_x2 h
    ·
     refine eh_i3 (eh_kle he (eh_ik (eh_ad (eh_ml eh_n256 h_x1) eh_n128)) h_x3) (eh_knle he (eh_ik (eh_ad (eh_ml eh_n256 h_x1) eh_n128)) h_x3) h (fun h => ?_) (fun h => ?_)
     ·
      exact hK _ _ h_x2 h
     ·
      refine eh_let (eh_ad h_x2 eh_n1) h (fun x2_4 x2_4' h_x2_4 h => ?_)
      refine er_nextKey he h_f0_root h_f0_wayEnd h_f0_waiting h_x3 h (fun r_5 r_5' h_r_5 h => ?_) 
      exact ih _ _ h_x2_4 _ _ h_r_5 h
theorem er_entriesOf {e : ef_E} (he : e.1 < 80) {post : Int32 → Prop} {K : ef_F1} {f0_root : Nat} {f0_root' : Int32} {f0_wayEnd : Nat} {f0_wayEnd' : Int32} {f0_waiting : Nat} {f0_waiting' : Int32} {a1 : Nat} {a2 : Nat} {a3 : Nat} {a4 : Nat} {a5 : Nat} {a6 : Nat} {a7 : Nat} {a8 : Nat} {a9 : Nat} {a10 : Nat} {a11 : Nat} {a12 : Nat} {a13 : Nat} {a14 : Nat} {p0 : Nat} {p0' : Int32} (h_f0_root : f0_root' = nI f0_root) (h_f0_wayEnd : f0_wayEnd' = nI f0_wayEnd) (h_f0_waiting : f0_waiting' = nI f0_waiting) (h_p0 : p0' = nI p0) (h : ef_entriesOf K f0_root f0_wayEnd f0_waiting a1 a2 a3 a4 a5 a6 a7 a8 a9 a10 a11 a12 a13 a14 p0 = true) (hK : er_QI K post)  : wpX_entriesOf post (f0_root', f0_wayEnd', f0_waiting', (eb_ar a1), (eb_ak e a2), (eb_ar a3), (eb_ar a4), (eb_ar a5), (eb_ar a6), (eb_ar a7), (eb_ar a8), (eb_ar a9), (eb_ak e a10), (eb_ar a11), (eb_ar a12), (eb_ar a13), (eb_ar a14)) p0' := by
  unfold wpX_entriesOf
  obtain ⟨fx1, h_fx1, h⟩ := eh_fcK (eh_ik (eh_ml eh_n256 h_p0)) h
  refine er_nextKey he h_f0_root h_f0_wayEnd h_f0_waiting h_fx1 h (fun r_1 r_1' h_r_1 h => ?_) 
  refine Exists.intro 120 ?_
  exact er_entriesOf_12 he hK  h_p0 h_f0_root h_f0_wayEnd h_f0_waiting 120 _ _ eh_n0 _ _ h_r_1 h
theorem er_size_50 {e : ef_E} (he : e.1 < 80) {post : Int32 → St2 → Prop} {K : ef_F18} {x1 : Nat} {x1' : Int32} (hK : er_PI e K post)  (h_x1 : x1' = nI x1) : ∀ (n : Nat) (x2 : Nat) (x2' : Int32) (_ : x2' = nI x2) (x3 : Nat) (x3' : Int32) (_ : x3' = nI x3) (f0_root : Nat) (f0_root' : Int32) (_ : f0_root' = nI f0_root) (f0_wayEnd : Nat) (f0_wayEnd' : Int32) (_ : f0_wayEnd' = nI f0_wayEnd) (f0_waiting : Nat) (f0_waiting' : Int32) (_ : f0_waiting' = nI f0_waiting) (am281 : Nat) (am282 : Nat) (am283 : Nat) (am284 : Nat) (am285 : Nat) (am286 : Nat) (am287 : Nat) (am288 : Nat) (am289 : Nat) (am2810 : Nat) (am2811 : Nat) (am2812 : Nat) (am2813 : Nat) (am2814 : Nat), ef_size_50 K x1 n x2 x3 f0_root f0_wayEnd f0_waiting am281 am282 am283 am284 am285 am286 am287 am288 am289 am2810 am2811 am2812 am2813 am2814 = true → wX_size_50 post x1' n x2' x3' f0_root' f0_wayEnd' f0_waiting' (eb_ar am281) (eb_ak e am282) (eb_ar am283) (eb_ar am284) (eb_ar am285) (eb_ar am286) (eb_ar am287) (eb_ar am288) (eb_ar am289) (eb_ak e am2810) (eb_ar am2811) (eb_ar am2812) (eb_ar am2813) (eb_ar am2814) := by
  intro n
  induction n with
  | zero =>
    intro x2 x2' h_x2 x3 x3' h_x3 f0_root f0_root' h_f0_root f0_wayEnd f0_wayEnd' h_f0_wayEnd f0_waiting f0_waiting' h_f0_waiting am281 am282 am283 am284 am285 am286 am287 am288 am289 am2810 am2811 am2812 am2813 am2814 h
    exact absurd (show false = true from h) Bool.false_ne_true
  | succ n ih =>
    intro x2 x2' h_x2 x3 x3' h_x3 f0_root f0_root' h_f0_root f0_wayEnd f0_wayEnd' h_f0_wayEnd f0_waiting f0_waiting' h_f0_waiting am281 am282 am283 am284 am285 am286 am287 am288 am289 am2810 am2811 am2812 am2813 am2814 h
    have h : ef_size_50_b K x1 (ef_size_50 K x1 n) x2 x3 f0_root f0_wayEnd f0_waiting am281 am282 am283 am284 am285 am286 am287 am288 am289 am2810 am2811 am2812 am2813 am2814 = true := h
    refine eh_if (eh_le eh_n8 h_x3) h (fun h => ?_) (fun h => ?_)
    ·
     exact hK _ _ h_x2 _ _ h_f0_root _ _ h_f0_wayEnd _ _ h_f0_waiting _ _ _ _ _ _ _ _ _ _ _ _ _ _ h
    ·
     refine eh_in h_x1 h (fun f1 h => ?_)
     obtain ⟨fx2, h_fx2, h⟩ := eh_fc (eh_gt h_x1 f1) h
     refine er_placeOf he h_f0_root h_f0_wayEnd h_f0_waiting h_fx2 h_x3 h (fun r_55 r_55' h_r_55 f0_root_56 f0_root_56' h_f0_root_56 f0_wayEnd_57 f0_wayEnd_57' h_f0_wayEnd_57 f0_waiting_58 f0_waiting_58' h_f0_waiting_58 am641_61 am642_64 am643_67 am644_70 am645_73 am646_76 am647_79 am648_82 am649_85 am6410_88 am6411_91 am6412_94 am6413_97 am6414_100 h => ?_) 
     refine eh_if (eh_lt h_r_55 eh_n0) h (fun h => ?_) (fun h => ?_)
     ·
      refine eh_let (eh_ad h_x3 eh_n1) h (fun x3_102 x3_102' h_x3_102 h => ?_)
      exact ih _ _ h_x2 _ _ h_x3_102 _ _ h_f0_root_56 _ _ h_f0_wayEnd_57 _ _ h_f0_waiting_58 _ _ _ _ _ _ _ _ _ _ _ _ _ _ h
     ·
      refine eh_let (eh_ad h_x2 eh_n1) h (fun x2_103 x2_103' h_x2_103 h => ?_)
      refine eh_let (eh_ad h_x3 eh_n1) h (fun x3_104 x3_104' h_x3_104 h => ?_)
      exact ih _ _ h_x2_103 _ _ h_x3_104 _ _ h_f0_root_56 _ _ h_f0_wayEnd_57 _ _ h_f0_waiting_58 _ _ _ _ _ _ _ _ _ _ _ _ _ _ h
theorem er_size {e : ef_E} (he : e.1 < 80) {post : Int32 → St2 → Prop} {K : ef_F18} {f0_root : Nat} {f0_root' : Int32} {f0_wayEnd : Nat} {f0_wayEnd' : Int32} {f0_waiting : Nat} {f0_waiting' : Int32} {a1 : Nat} {a2 : Nat} {a3 : Nat} {a4 : Nat} {a5 : Nat} {a6 : Nat} {a7 : Nat} {a8 : Nat} {a9 : Nat} {a10 : Nat} {a11 : Nat} {a12 : Nat} {a13 : Nat} {a14 : Nat} {p0 : Nat} {p0' : Int32} (h_f0_root : f0_root' = nI f0_root) (h_f0_wayEnd : f0_wayEnd' = nI f0_wayEnd) (h_f0_waiting : f0_waiting' = nI f0_waiting) (h_p0 : p0' = nI p0) (h : ef_size K f0_root f0_wayEnd f0_waiting a1 a2 a3 a4 a5 a6 a7 a8 a9 a10 a11 a12 a13 a14 p0 = true) (hK : er_PI e K post)  : wpX_size post (f0_root', f0_wayEnd', f0_waiting', (eb_ar a1), (eb_ak e a2), (eb_ar a3), (eb_ar a4), (eb_ar a5), (eb_ar a6), (eb_ar a7), (eb_ar a8), (eb_ar a9), (eb_ak e a10), (eb_ar a11), (eb_ar a12), (eb_ar a13), (eb_ar a14)) p0' := by
  unfold wpX_size
  refine er_isHandle he h_f0_root h_f0_wayEnd h_f0_waiting h_p0 h (fun r_1 r_1' h_r_1 h => ?_) 
  refine eh_if (eh_eq h_r_1 eh_n0) h (fun h => ?_) (fun h => ?_)
  ·
   exact hK _ _ eh_m1 _ _ h_f0_root _ _ h_f0_wayEnd _ _ h_f0_waiting _ _ _ _ _ _ _ _ _ _ _ _ _ _ h
  ·
   refine eh_in h_p0 h (fun f1 h => ?_)
   refine eh_if (eh_le eh_n0 (eh_gt h_p0 f1)) h (fun h => ?_) (fun h => ?_)
   ·
    refine eh_inf h_p0 f1 ?_
    obtain ⟨fx2, h_fx2, h⟩ := eh_fc (eh_gt h_p0 f1) h
    refine er_sortOf he h_f0_root h_f0_wayEnd h_f0_waiting h_fx2 h (fun r_6 r_6' h_r_6 f0_root_7 f0_root_7' h_f0_root_7 f0_wayEnd_8 f0_wayEnd_8' h_f0_wayEnd_8 f0_waiting_9 f0_waiting_9' h_f0_waiting_9 am281_12 am282_15 am283_18 am284_21 am285_24 am286_27 am287_30 am288_33 am289_36 am2810_39 am2811_42 am2812_45 am2813_48 am2814_51 h => ?_) 
    refine eh_if (eh_eq h_r_6 eh_n1) h (fun h => ?_) (fun h => ?_)
    ·
     refine eh_inf h_p0 f1 ?_
     obtain ⟨fx3, h_fx3, h⟩ := eh_fc (eh_gt h_p0 f1) h
     refine er_entriesOf he h_f0_root_7 h_f0_wayEnd_8 h_f0_waiting_9 h_fx3 h (fun r_106 r_106' h_r_106 h => ?_) 
     exact hK _ _ h_r_106 _ _ h_f0_root_7 _ _ h_f0_wayEnd_8 _ _ h_f0_waiting_9 _ _ _ _ _ _ _ _ _ _ _ _ _ _ h
    ·
     refine Exists.intro 120 ?_
     exact er_size_50 he hK  h_p0 120 _ _ eh_n0 _ _ eh_n0 _ _ h_f0_root_7 _ _ h_f0_wayEnd_8 _ _ h_f0_waiting_9 _ _ _ _ _ _ _ _ _ _ _ _ _ _ h
   ·
    exact hK _ _ eh_n0 _ _ h_f0_root _ _ h_f0_wayEnd _ _ h_f0_waiting _ _ _ _ _ _ _ _ _ _ _ _ _ _ h
theorem er_writeRoot {e : ef_E} (he : e.1 < 80) {post : St2 → Prop} {K : ef_F17} {f0_root : Nat} {f0_root' : Int32} {f0_wayEnd : Nat} {f0_wayEnd' : Int32} {f0_waiting : Nat} {f0_waiting' : Int32} {a1 : Nat} {a2 : Nat} {a3 : Nat} {a4 : Nat} {a5 : Nat} {a6 : Nat} {a7 : Nat} {a8 : Nat} {a9 : Nat} {a10 : Nat} {a11 : Nat} {a12 : Nat} {a13 : Nat} {a14 : Nat} {p0 : Nat} {p0' : Int32} (h_f0_root : f0_root' = nI f0_root) (h_f0_wayEnd : f0_wayEnd' = nI f0_wayEnd) (h_f0_waiting : f0_waiting' = nI f0_waiting) (h_p0 : p0' = nI p0) (h : ef_writeRoot K f0_root f0_wayEnd f0_waiting a1 a2 a3 a4 a5 a6 a7 a8 a9 a10 a11 a12 a13 a14 p0 = true) (hK : er_PS e K post)  : wpX_writeRoot post (f0_root', f0_wayEnd', f0_waiting', (eb_ar a1), (eb_ak e a2), (eb_ar a3), (eb_ar a4), (eb_ar a5), (eb_ar a6), (eb_ar a7), (eb_ar a8), (eb_ar a9), (eb_ak e a10), (eb_ar a11), (eb_ar a12), (eb_ar a13), (eb_ar a14)) p0' := by
  unfold wpX_writeRoot
  refine er_validPlace he h_f0_root h_f0_wayEnd h_f0_waiting h (fun r_1 r_1' h_r_1 h => ?_) 
  refine eh_let (eh_sb eh_n1 h_r_1) h (fun x3_2 x3_2' h_x3_2 h => ?_)
  refine eh_in h_x3_2 h (fun f1 h => ?_)
  obtain ⟨g2, h⟩ := eh_g h
  refine eh_leta (eh_st h_x3_2 f1 (eh_nz h_p0 g2)) h (fun a9_4 h => ?_)
  refine eh_inf h_x3_2 f1 ?_
  obtain ⟨g3, h⟩ := eh_g h
  refine eh_leta (eh_st h_x3_2 f1 (eh_b8 h_f0_root g3)) h (fun a7_6 h => ?_)
  refine eh_in h_r_1 h (fun f4 h => ?_)
  refine eh_inf h_x3_2 f1 ?_
  refine eh_leta (eh_st h_x3_2 f1 (eh_ad (eh_gt h_r_1 f4) eh_n1)) h (fun a8_9 h => ?_)
  exact hK _ _ h_f0_root _ _ h_f0_wayEnd _ _ h_f0_waiting _ _ _ _ _ _ _ _ _ _ _ _ _ _ h
theorem er_save {e : ef_E} (he : e.1 < 80) {post : Int32 → St2 → Prop} {K : ef_F18} {f0_root : Nat} {f0_root' : Int32} {f0_wayEnd : Nat} {f0_wayEnd' : Int32} {f0_waiting : Nat} {f0_waiting' : Int32} {a1 : Nat} {a2 : Nat} {a3 : Nat} {a4 : Nat} {a5 : Nat} {a6 : Nat} {a7 : Nat} {a8 : Nat} {a9 : Nat} {a10 : Nat} {a11 : Nat} {a12 : Nat} {a13 : Nat} {a14 : Nat} (h_f0_root : f0_root' = nI f0_root) (h_f0_wayEnd : f0_wayEnd' = nI f0_wayEnd) (h_f0_waiting : f0_waiting' = nI f0_waiting) (h : ef_save K f0_root f0_wayEnd f0_waiting a1 a2 a3 a4 a5 a6 a7 a8 a9 a10 a11 a12 a13 a14 = true) (hK : er_PI e K post)  : wpX_save post (f0_root', f0_wayEnd', f0_waiting', (eb_ar a1), (eb_ak e a2), (eb_ar a3), (eb_ar a4), (eb_ar a5), (eb_ar a6), (eb_ar a7), (eb_ar a8), (eb_ar a9), (eb_ak e a10), (eb_ar a11), (eb_ar a12), (eb_ar a13), (eb_ar a14)) := by
  unfold wpX_save
  refine er_writeRoot he h_f0_root h_f0_wayEnd h_f0_waiting eh_n1 h (fun f0_root_2 f0_root_2' h_f0_root_2 f0_wayEnd_3 f0_wayEnd_3' h_f0_wayEnd_3 f0_waiting_4 f0_waiting_4' h_f0_waiting_4 am21_7 am22_10 am23_13 am24_16 am25_19 am26_22 am27_25 am28_28 am29_31 am210_34 am211_37 am212_40 am213_43 am214_46 h => ?_) 
  refine er_settle he h_f0_root_2 h_f0_wayEnd_3 h_f0_waiting_4 h (fun f0_root_48 f0_root_48' h_f0_root_48 f0_wayEnd_49 f0_wayEnd_49' h_f0_wayEnd_49 f0_waiting_50 f0_waiting_50' h_f0_waiting_50 am61_53 am62_56 am63_59 am64_62 am65_65 am66_68 am67_71 am68_74 am69_77 am610_80 am611_83 am612_86 am613_89 am614_92 h => ?_) 
  refine er_validPlace he h_f0_root_48 h_f0_wayEnd_49 h_f0_waiting_50 h (fun r_93 r_93' h_r_93 h => ?_) 
  refine eh_in h_r_93 h (fun f1 h => ?_)
  obtain ⟨fx2, h_fx2, h⟩ := eh_fc (eh_gt h_r_93 f1) h
  exact hK _ _ h_fx2 _ _ h_f0_root_48 _ _ h_f0_wayEnd_49 _ _ h_f0_waiting_50 _ _ _ _ _ _ _ _ _ _ _ _ _ _ h
theorem er_fileFault {e : ef_E} (he : e.1 < 80) {post : Int32 → St2 → Prop} {K : ef_F18} {f0_root : Nat} {f0_root' : Int32} {f0_wayEnd : Nat} {f0_wayEnd' : Int32} {f0_waiting : Nat} {f0_waiting' : Int32} {a1 : Nat} {a2 : Nat} {a3 : Nat} {a4 : Nat} {a5 : Nat} {a6 : Nat} {a7 : Nat} {a8 : Nat} {a9 : Nat} {a10 : Nat} {a11 : Nat} {a12 : Nat} {a13 : Nat} {a14 : Nat} {p0 : Nat} {p0' : Int32} (h_f0_root : f0_root' = nI f0_root) (h_f0_wayEnd : f0_wayEnd' = nI f0_wayEnd) (h_f0_waiting : f0_waiting' = nI f0_waiting) (h_p0 : p0' = nI p0) (h : ef_fileFault K f0_root f0_wayEnd f0_waiting a1 a2 a3 a4 a5 a6 a7 a8 a9 a10 a11 a12 a13 a14 p0 = true) (hK : er_PI e K post)  : wpX_fileFault post (f0_root', f0_wayEnd', f0_waiting', (eb_ar a1), (eb_ak e a2), (eb_ar a3), (eb_ar a4), (eb_ar a5), (eb_ar a6), (eb_ar a7), (eb_ar a8), (eb_ar a9), (eb_ak e a10), (eb_ar a11), (eb_ar a12), (eb_ar a13), (eb_ar a14)) p0' := by
  refine eh_in h_p0 h (fun f1 h => ?_)
  refine eh_if (eh_le eh_n0 (eh_gt h_p0 f1)) h (fun h => ?_) (fun h => ?_)
  ·
   refine eh_inf h_p0 f1 ?_
   obtain ⟨fx2, h_fx2, h⟩ := eh_fc (eh_gt h_p0 f1) h
   refine er_sortOf he h_f0_root h_f0_wayEnd h_f0_waiting h_fx2 h (fun r_4 r_4' h_r_4 f0_root_5 f0_root_5' h_f0_root_5 f0_wayEnd_6 f0_wayEnd_6' h_f0_wayEnd_6 f0_waiting_7 f0_waiting_7' h_f0_waiting_7 am191_10 am192_13 am193_16 am194_19 am195_22 am196_25 am197_28 am198_31 am199_34 am1910_37 am1911_40 am1912_43 am1913_46 am1914_49 h => ?_) 
   refine eh_if (eh_eq h_r_4 eh_n1) h (fun h => ?_) (fun h => ?_)
   ·
    exact hK _ _ eh_m4 _ _ h_f0_root_5 _ _ h_f0_wayEnd_6 _ _ h_f0_waiting_7 _ _ _ _ _ _ _ _ _ _ _ _ _ _ h
   ·
    exact hK _ _ eh_n0 _ _ h_f0_root_5 _ _ h_f0_wayEnd_6 _ _ h_f0_waiting_7 _ _ _ _ _ _ _ _ _ _ _ _ _ _ h
  ·
   exact hK _ _ eh_m3 _ _ h_f0_root _ _ h_f0_wayEnd _ _ h_f0_waiting _ _ _ _ _ _ _ _ _ _ _ _ _ _ h
theorem er_blocksIn_23 {e : ef_E} (he : e.1 < 80) {post : Int64 → St2 → Prop} {K : ef_F18} {J7 : Int64 → Int32 → Int32 → Int32 → (Nat → Int32) → (Nat → Int32) → (Nat → Int32) → (Nat → Int32) → (Nat → Int32) → (Nat → Int32) → (Nat → Int32) → (Nat → Int32) → (Nat → Int32) → (Nat → Int32) → (Nat → Int32) → (Nat → Int32) → (Nat → Int32) → (Nat → Int32) → Prop} {JJ : ef_F18} {x4 : Nat} {x4' : Int32} {f0_root : Nat} {f0_root' : Int32} {f0_wayEnd : Nat} {f0_wayEnd' : Int32} {f0_waiting : Nat} {f0_waiting' : Int32} {am151 : Nat} {am152 : Nat} {am153 : Nat} {am154 : Nat} {am155 : Nat} {am156 : Nat} {am157 : Nat} {am158 : Nat} {am159 : Nat} {am1510 : Nat} {am1511 : Nat} {am1512 : Nat} {am1513 : Nat} {am1514 : Nat} (hK : er_PL e K post) (hJ : ∀ (q0 : Nat) (s0 : Int64) (_ : s0 = lN q0) (q1 : Nat) (s1 : Int32) (_ : s1 = nI q1) (q2 : Nat) (s2 : Int32) (_ : s2 = nI q2) (q3 : Nat) (s3 : Int32) (_ : s3 = nI q3) (q4 : Nat) (q5 : Nat) (q6 : Nat) (q7 : Nat) (q8 : Nat) (q9 : Nat) (q10 : Nat) (q11 : Nat) (q12 : Nat) (q13 : Nat) (q14 : Nat) (q15 : Nat) (q16 : Nat) (q17 : Nat), JJ q0 q1 q2 q3 q4 q5 q6 q7 q8 q9 q10 q11 q12 q13 q14 q15 q16 q17 = true → J7 s0 s1 s2 s3 (eb_ar q4) (eb_ak e q5) (eb_ar q6) (eb_ar q7) (eb_ar q8) (eb_ar q9) (eb_ar q10) (eb_ar q11) (eb_ar q12) (eb_ak e q13) (eb_ar q14) (eb_ar q15) (eb_ar q16) (eb_ar q17)) (h_x4 : x4' = nI x4) (h_f0_root : f0_root' = nI f0_root) (h_f0_wayEnd : f0_wayEnd' = nI f0_wayEnd) (h_f0_waiting : f0_waiting' = nI f0_waiting) : ∀ (n : Nat) (x2 : Nat) (x2' : Int64) (_ : x2' = lN x2) (x5 : Nat) (x5' : Int32) (_ : x5' = nI x5), ef_blocksIn_23 K JJ x4 f0_root f0_wayEnd f0_waiting am151 am152 am153 am154 am155 am156 am157 am158 am159 am1510 am1511 am1512 am1513 am1514 n x2 x5 = true → wX_blocksIn_23 post J7 x4' f0_root' f0_wayEnd' f0_waiting' (eb_ar am151) (eb_ak e am152) (eb_ar am153) (eb_ar am154) (eb_ar am155) (eb_ar am156) (eb_ar am157) (eb_ar am158) (eb_ar am159) (eb_ak e am1510) (eb_ar am1511) (eb_ar am1512) (eb_ar am1513) (eb_ar am1514) n x2' x5' := by
  intro n
  induction n with
  | zero =>
    intro x2 x2' h_x2 x5 x5' h_x5 h
    exact absurd (show false = true from h) Bool.false_ne_true
  | succ n ih =>
    intro x2 x2' h_x2 x5 x5' h_x5 h
    have h : ef_blocksIn_23_b K JJ x4 f0_root f0_wayEnd f0_waiting am151 am152 am153 am154 am155 am156 am157 am158 am159 am1510 am1511 am1512 am1513 am1514 (ef_blocksIn_23 K JJ x4 f0_root f0_wayEnd f0_waiting am151 am152 am153 am154 am155 am156 am157 am158 am159 am1510 am1511 am1512 am1513 am1514 n) x2 x5 = true := h
    refine eh_in h_x4 h (fun f1 h => ?_)
    refine eh_if (eh_le (eh_gt h_x4 f1) h_x5) h (fun h => ?_) (fun h => ?_)
    ·
     exact hJ _ _ h_x2 _ _ h_f0_root _ _ h_f0_wayEnd _ _ h_f0_waiting _ _ _ _ _ _ _ _ _ _ _ _ _ _ h
    ·
     refine eh_in (eh_ad (eh_ml eh_n5 h_x4) h_x5) h (fun f2 h => ?_)
     obtain ⟨g3, h⟩ := eh_g h
     refine eh_i3 (eh_kle he (eh_ik eh_n128) (eh_kb he (eh_gk (eh_ad (eh_ml eh_n5 h_x4) h_x5) f2) g3)) (eh_knle he (eh_ik eh_n128) (eh_kb he (eh_gk (eh_ad (eh_ml eh_n5 h_x4) h_x5) f2) g3)) h (fun h => ?_) (fun h => ?_)
     ·
      refine eh_inf (eh_ad (eh_ml eh_n5 h_x4) h_x5) f2 ?_
      refine eh_let (eh_gt (eh_ad (eh_ml eh_n5 h_x4) h_x5) f2) h (fun x6_99 x6_99' h_x6_99 h => ?_)
      obtain ⟨g4, h⟩ := eh_g h
      obtain ⟨g5, h⟩ := eh_g h
      obtain ⟨g6, h⟩ := eh_g h
      refine eh_letL (eh_lo h_x2 (eh_mk (eh_an h_x6_99 eh_n15) (eh_sr4 h_x6_99 g5) g4 g6)) h (fun x2_100 x2_100' h_x2_100 h => ?_)
      refine eh_let (eh_ad h_x5 eh_n1) h (fun x5_101 x5_101' h_x5_101 h => ?_)
      exact ih _ _ h_x2_100 _ _ h_x5_101 h
     ·
      refine eh_let (eh_ad h_x5 eh_n1) h (fun x5_102 x5_102' h_x5_102 h => ?_)
      exact ih _ _ h_x2 _ _ h_x5_102 h
theorem er_blocksIn_7 {e : ef_E} (he : e.1 < 80) {post : Int64 → St2 → Prop} {K : ef_F18} (hK : er_PL e K post)   : ∀ (n : Nat) (x2 : Nat) (x2' : Int64) (_ : x2' = lN x2) (f0_root : Nat) (f0_root' : Int32) (_ : f0_root' = nI f0_root) (f0_wayEnd : Nat) (f0_wayEnd' : Int32) (_ : f0_wayEnd' = nI f0_wayEnd) (f0_waiting : Nat) (f0_waiting' : Int32) (_ : f0_waiting' = nI f0_waiting) (am41 : Nat) (am42 : Nat) (am43 : Nat) (am44 : Nat) (am45 : Nat) (am46 : Nat) (am47 : Nat) (am48 : Nat) (am49 : Nat) (am410 : Nat) (am411 : Nat) (am412 : Nat) (am413 : Nat) (am414 : Nat), ef_blocksIn_7 K n x2 f0_root f0_wayEnd f0_waiting am41 am42 am43 am44 am45 am46 am47 am48 am49 am410 am411 am412 am413 am414 = true → wX_blocksIn_7 post n x2' f0_root' f0_wayEnd' f0_waiting' (eb_ar am41) (eb_ak e am42) (eb_ar am43) (eb_ar am44) (eb_ar am45) (eb_ar am46) (eb_ar am47) (eb_ar am48) (eb_ar am49) (eb_ak e am410) (eb_ar am411) (eb_ar am412) (eb_ar am413) (eb_ar am414) := by
  intro n
  induction n with
  | zero =>
    intro x2 x2' h_x2 f0_root f0_root' h_f0_root f0_wayEnd f0_wayEnd' h_f0_wayEnd f0_waiting f0_waiting' h_f0_waiting am41 am42 am43 am44 am45 am46 am47 am48 am49 am410 am411 am412 am413 am414 h
    exact absurd (show false = true from h) Bool.false_ne_true
  | succ n ih =>
    intro x2 x2' h_x2 f0_root f0_root' h_f0_root f0_wayEnd f0_wayEnd' h_f0_wayEnd f0_waiting f0_waiting' h_f0_waiting am41 am42 am43 am44 am45 am46 am47 am48 am49 am410 am411 am412 am413 am414 h
    have h : ef_blocksIn_7_b K (ef_blocksIn_7 K n) x2 f0_root f0_wayEnd f0_waiting am41 am42 am43 am44 am45 am46 am47 am48 am49 am410 am411 am412 am413 am414 = true := h
    refine eh_if (eh_le h_f0_waiting eh_n0) h (fun h => ?_) (fun h => ?_)
    ·
     exact hK _ _ h_x2 _ _ h_f0_root _ _ h_f0_wayEnd _ _ h_f0_waiting _ _ _ _ _ _ _ _ _ _ _ _ _ _ h
    ·
     refine er_walk he h_f0_root h_f0_wayEnd h_f0_waiting h (fun r_48 r_48' h_r_48 f0_root_49 f0_root_49' h_f0_root_49 f0_wayEnd_50 f0_wayEnd_50' h_f0_wayEnd_50 f0_waiting_51 f0_waiting_51' h_f0_waiting_51 am151_54 am152_57 am153_60 am154_63 am155_66 am156_69 am157_72 am158_75 am159_78 am1510_81 am1511_84 am1512_87 am1513_90 am1514_93 h => ?_) 
     refine Exists.intro 120 ?_
     exact er_blocksIn_23 he hK ih h_r_48 h_f0_root_49 h_f0_wayEnd_50 h_f0_waiting_51 120 _ _ h_x2 _ _ eh_n0 h
end
section
/-! refinement, printed by a program -/
theorem er_blocksIn {e : ef_E} (he : e.1 < 80) {post : Int64 → St2 → Prop} {K : ef_F18} {f0_root : Nat} {f0_root' : Int32} {f0_wayEnd : Nat} {f0_wayEnd' : Int32} {f0_waiting : Nat} {f0_waiting' : Int32} {a1 : Nat} {a2 : Nat} {a3 : Nat} {a4 : Nat} {a5 : Nat} {a6 : Nat} {a7 : Nat} {a8 : Nat} {a9 : Nat} {a10 : Nat} {a11 : Nat} {a12 : Nat} {a13 : Nat} {a14 : Nat} {p0 : Nat} {p0' : Int32} (h_f0_root : f0_root' = nI f0_root) (h_f0_wayEnd : f0_wayEnd' = nI f0_wayEnd) (h_f0_waiting : f0_waiting' = nI f0_waiting) (h_p0 : p0' = nI p0) (h : ef_blocksIn K f0_root f0_wayEnd f0_waiting a1 a2 a3 a4 a5 a6 a7 a8 a9 a10 a11 a12 a13 a14 p0 = true) (hK : er_PL e K post)  : wpX_blocksIn post (f0_root', f0_wayEnd', f0_waiting', (eb_ar a1), (eb_ak e a2), (eb_ar a3), (eb_ar a4), (eb_ar a5), (eb_ar a6), (eb_ar a7), (eb_ar a8), (eb_ar a9), (eb_ak e a10), (eb_ar a11), (eb_ar a12), (eb_ar a13), (eb_ar a14)) p0' := by
  unfold wpX_blocksIn
  refine er_startWalk he h_f0_root h_f0_wayEnd h_f0_waiting h_p0 h (fun f0_root_2 f0_root_2' h_f0_root_2 f0_wayEnd_3 f0_wayEnd_3' h_f0_wayEnd_3 f0_waiting_4 f0_waiting_4' h_f0_waiting_4 am41_7 am42_10 am43_13 am44_16 am45_19 am46_22 am47_25 am48_28 am49_31 am410_34 am411_37 am412_40 am413_43 am414_46 h => ?_) 
  refine Exists.intro 120 ?_
  exact er_blocksIn_7 he hK   120 _ _ eh_l0 _ _ h_f0_root_2 _ _ h_f0_wayEnd_3 _ _ h_f0_waiting_4 _ _ _ _ _ _ _ _ _ _ _ _ _ _ h
theorem er_bitsIn_5 {e : ef_E} (he : e.1 < 80) {post : Int32 → Prop} {K : ef_F1} {x1 : Nat} {x1' : Int64} {f0_root : Nat} {f0_root' : Int32} {f0_wayEnd : Nat} {f0_wayEnd' : Int32} {f0_waiting : Nat} {f0_waiting' : Int32} {a1 : Nat} {a2 : Nat} {a3 : Nat} {a4 : Nat} {a5 : Nat} {a6 : Nat} {a7 : Nat} {a8 : Nat} {a9 : Nat} {a10 : Nat} {a11 : Nat} {a12 : Nat} {a13 : Nat} {a14 : Nat} (hK : er_QI K post)  (h_x1 : x1' = lN x1) (h_f0_root : f0_root' = nI f0_root) (h_f0_wayEnd : f0_wayEnd' = nI f0_wayEnd) (h_f0_waiting : f0_waiting' = nI f0_waiting) : ∀ (n : Nat) (x3 : Nat) (x3' : Int32) (_ : x3' = nI x3) (x4 : Nat) (x4' : Int32) (_ : x4' = nI x4), ef_bitsIn_5 K x1 f0_root f0_wayEnd f0_waiting a1 a2 a3 a4 a5 a6 a7 a8 a9 a10 a11 a12 a13 a14 n x3 x4 = true → wX_bitsIn_5 post x1' f0_root' f0_wayEnd' f0_waiting' (eb_ar a1) (eb_ak e a2) (eb_ar a3) (eb_ar a4) (eb_ar a5) (eb_ar a6) (eb_ar a7) (eb_ar a8) (eb_ar a9) (eb_ak e a10) (eb_ar a11) (eb_ar a12) (eb_ar a13) (eb_ar a14) n x3' x4' := by
  intro n
  induction n with
  | zero =>
    intro x3 x3' h_x3 x4 x4' h_x4 h
    exact absurd (show false = true from h) Bool.false_ne_true
  | succ n ih =>
    intro x3 x3' h_x3 x4 x4' h_x4 h
    have h : ef_bitsIn_5_b K x1 f0_root f0_wayEnd f0_waiting a1 a2 a3 a4 a5 a6 a7 a8 a9 a10 a11 a12 a13 a14 (ef_bitsIn_5 K x1 f0_root f0_wayEnd f0_waiting a1 a2 a3 a4 a5 a6 a7 a8 a9 a10 a11 a12 a13 a14 n) x3 x4 = true := h
    refine eh_if (eh_le eh_n48 h_x4) h (fun h => ?_) (fun h => ?_)
    ·
     exact hK _ _ h_x3 h
    ·
     obtain ⟨g1, h⟩ := eh_g h
     refine eh_let (eh_ad h_x3 (eh_bti h_x1 h_x4 g1)) h (fun x3_2 x3_2' h_x3_2 h => ?_)
     refine eh_let (eh_ad h_x4 eh_n1) h (fun x4_3 x4_3' h_x4_3 h => ?_)
     exact ih _ _ h_x3_2 _ _ h_x4_3 h
theorem er_bitsIn {e : ef_E} (he : e.1 < 80) {post : Int32 → Prop} {K : ef_F1} {f0_root : Nat} {f0_root' : Int32} {f0_wayEnd : Nat} {f0_wayEnd' : Int32} {f0_waiting : Nat} {f0_waiting' : Int32} {a1 : Nat} {a2 : Nat} {a3 : Nat} {a4 : Nat} {a5 : Nat} {a6 : Nat} {a7 : Nat} {a8 : Nat} {a9 : Nat} {a10 : Nat} {a11 : Nat} {a12 : Nat} {a13 : Nat} {a14 : Nat} {p0 : Nat} {p0' : Int64} (h_f0_root : f0_root' = nI f0_root) (h_f0_wayEnd : f0_wayEnd' = nI f0_wayEnd) (h_f0_waiting : f0_waiting' = nI f0_waiting) (h_p0 : p0' = lN p0) (h : ef_bitsIn K f0_root f0_wayEnd f0_waiting a1 a2 a3 a4 a5 a6 a7 a8 a9 a10 a11 a12 a13 a14 p0 = true) (hK : er_QI K post)  : wpX_bitsIn post (f0_root', f0_wayEnd', f0_waiting', (eb_ar a1), (eb_ak e a2), (eb_ar a3), (eb_ar a4), (eb_ar a5), (eb_ar a6), (eb_ar a7), (eb_ar a8), (eb_ar a9), (eb_ak e a10), (eb_ar a11), (eb_ar a12), (eb_ar a13), (eb_ar a14)) p0' := by
  refine Exists.intro 120 ?_
  exact er_bitsIn_5 he hK  h_p0 h_f0_root h_f0_wayEnd h_f0_waiting 120 _ _ eh_n0 _ _ eh_n0 h
theorem er_lengthenWay_43 {e : ef_E} (he : e.1 < 80) {post : St2 → Prop} {K : ef_F17} (hK : er_PS e K post)   : ∀ (n : Nat) (x2 : Nat) (x2' : Int32) (_ : x2' = nI x2) (f0_root : Nat) (f0_root' : Int32) (_ : f0_root' = nI f0_root) (f0_wayEnd : Nat) (f0_wayEnd' : Int32) (_ : f0_wayEnd' = nI f0_wayEnd) (f0_waiting : Nat) (f0_waiting' : Int32) (_ : f0_waiting' = nI f0_waiting) (a1 : Nat) (a2 : Nat) (a3 : Nat) (a4 : Nat) (a5 : Nat) (a6 : Nat) (a7 : Nat) (a8 : Nat) (a9 : Nat) (a10 : Nat) (a11 : Nat) (a12 : Nat) (a13 : Nat) (a14 : Nat), ef_lengthenWay_43 K n x2 f0_root f0_wayEnd f0_waiting a1 a2 a3 a4 a5 a6 a7 a8 a9 a10 a11 a12 a13 a14 = true → wX_lengthenWay_43 post n x2' f0_root' f0_wayEnd' f0_waiting' (eb_ar a1) (eb_ak e a2) (eb_ar a3) (eb_ar a4) (eb_ar a5) (eb_ar a6) (eb_ar a7) (eb_ar a8) (eb_ar a9) (eb_ak e a10) (eb_ar a11) (eb_ar a12) (eb_ar a13) (eb_ar a14) := by
  intro n
  induction n with
  | zero =>
    intro x2 x2' h_x2 f0_root f0_root' h_f0_root f0_wayEnd f0_wayEnd' h_f0_wayEnd f0_waiting f0_waiting' h_f0_waiting a1 a2 a3 a4 a5 a6 a7 a8 a9 a10 a11 a12 a13 a14 h
    exact absurd (show false = true from h) Bool.false_ne_true
  | succ n ih =>
    intro x2 x2' h_x2 f0_root f0_root' h_f0_root f0_wayEnd f0_wayEnd' h_f0_wayEnd f0_waiting f0_waiting' h_f0_waiting a1 a2 a3 a4 a5 a6 a7 a8 a9 a10 a11 a12 a13 a14 h
    have h : ef_lengthenWay_43_b K (ef_lengthenWay_43 K n) x2 f0_root f0_wayEnd f0_waiting a1 a2 a3 a4 a5 a6 a7 a8 a9 a10 a11 a12 a13 a14 = true := h
    unfold wX_lengthenWay_43
    refine er_isLeaf he h_f0_root h_f0_wayEnd h_f0_waiting h_x2 h (fun r_8 r_8' h_r_8 h => ?_) 
    refine eh_if (eh_eq h_r_8 eh_n0) h (fun h => ?_) (fun h => ?_)
    ·
     refine eh_in h_x2 h (fun f1 h => ?_)
     obtain ⟨fx2, h_fx2, h⟩ := eh_fc (eh_gt h_x2 f1) h
     refine er_pushWay he h_f0_root h_f0_wayEnd h_f0_waiting h_x2 h_fx2 h (fun f0_root_59 f0_root_59' h_f0_root_59 f0_wayEnd_60 f0_wayEnd_60' h_f0_wayEnd_60 f0_waiting_61 f0_waiting_61' h_f0_waiting_61 am591_64 am592_67 am593_70 am594_73 am595_76 am596_79 am597_82 am598_85 am599_88 am5910_91 am5911_94 am5912_97 am5913_100 am5914_103 h => ?_) 
     refine eh_inf h_x2 f1 ?_
     refine eh_in (eh_ad (eh_ml eh_n6 h_x2) (eh_gt h_x2 f1)) h (fun f3 h => ?_)
     refine eh_let (eh_gt (eh_ad (eh_ml eh_n6 h_x2) (eh_gt h_x2 f1)) f3) h (fun x2_106 x2_106' h_x2_106 h => ?_)
     exact ih _ _ h_x2_106 _ _ h_f0_root_59 _ _ h_f0_wayEnd_60 _ _ h_f0_waiting_61 _ _ _ _ _ _ _ _ _ _ _ _ _ _ h
    ·
     refine eh_in h_x2 h (fun f4 h => ?_)
     obtain ⟨fx5, h_fx5, h⟩ := eh_fc (eh_sb (eh_gt h_x2 f4) eh_n1) h
     refine er_pushWay he h_f0_root h_f0_wayEnd h_f0_waiting h_x2 h_fx5 h (fun f0_root_12 f0_root_12' h_f0_root_12 f0_wayEnd_13 f0_wayEnd_13' h_f0_wayEnd_13 f0_waiting_14 f0_waiting_14' h_f0_waiting_14 am921_17 am922_20 am923_23 am924_26 am925_29 am926_32 am927_35 am928_38 am929_41 am9210_44 am9211_47 am9212_50 am9213_53 am9214_56 h => ?_) 
     exact hK _ _ h_f0_root_12 _ _ h_f0_wayEnd_13 _ _ h_f0_waiting_14 _ _ _ _ _ _ _ _ _ _ _ _ _ _ h
theorem er_lengthenWay {e : ef_E} (he : e.1 < 80) {post : St2 → Prop} {K : ef_F17} {f0_root : Nat} {f0_root' : Int32} {f0_wayEnd : Nat} {f0_wayEnd' : Int32} {f0_waiting : Nat} {f0_waiting' : Int32} {a1 : Nat} {a2 : Nat} {a3 : Nat} {a4 : Nat} {a5 : Nat} {a6 : Nat} {a7 : Nat} {a8 : Nat} {a9 : Nat} {a10 : Nat} {a11 : Nat} {a12 : Nat} {a13 : Nat} {a14 : Nat} (h_f0_root : f0_root' = nI f0_root) (h_f0_wayEnd : f0_wayEnd' = nI f0_wayEnd) (h_f0_waiting : f0_waiting' = nI f0_waiting) (h : ef_lengthenWay K f0_root f0_wayEnd f0_waiting a1 a2 a3 a4 a5 a6 a7 a8 a9 a10 a11 a12 a13 a14 = true) (hK : er_PS e K post)  : wpX_lengthenWay post (f0_root', f0_wayEnd', f0_waiting', (eb_ar a1), (eb_ak e a2), (eb_ar a3), (eb_ar a4), (eb_ar a5), (eb_ar a6), (eb_ar a7), (eb_ar a8), (eb_ar a9), (eb_ak e a10), (eb_ar a11), (eb_ar a12), (eb_ar a13), (eb_ar a14)) := by
  refine eh_in (eh_sb h_f0_wayEnd eh_n1) h (fun f1 h => ?_)
  refine eh_let (eh_gt (eh_sb h_f0_wayEnd eh_n1) f1) h (fun x1_2 x1_2' h_x1_2 h => ?_)
  refine er_isLeaf he h_f0_root h_f0_wayEnd h_f0_waiting h_x1_2 h (fun r_3 r_3' h_r_3 h => ?_) 
  refine eh_if (eh_eq h_r_3 eh_n0) h (fun h => ?_) (fun h => ?_)
  ·
   refine eh_inf (eh_sb h_f0_wayEnd eh_n1) f1 ?_
   refine eh_in (eh_ad (eh_ml eh_n6 h_x1_2) (eh_gt (eh_sb h_f0_wayEnd eh_n1) f1)) h (fun f2 h => ?_)
   refine eh_let (eh_gt (eh_ad (eh_ml eh_n6 h_x1_2) (eh_gt (eh_sb h_f0_wayEnd eh_n1) f1)) f2) h (fun x2_7 x2_7' h_x2_7 h => ?_)
   refine Exists.intro 120 ?_
   exact er_lengthenWay_43 he hK   120 _ _ h_x2_7 _ _ h_f0_root _ _ h_f0_wayEnd _ _ h_f0_waiting _ _ _ _ _ _ _ _ _ _ _ _ _ _ h
  ·
   exact hK _ _ h_f0_root _ _ h_f0_wayEnd _ _ h_f0_waiting _ _ _ _ _ _ _ _ _ _ _ _ _ _ h
theorem er_closePlace_13 {e : ef_E} (he : e.1 < 80) {post : St2 → Prop} {K : ef_F17} {x1 : Nat} {x1' : Int32} {f0_root : Nat} {f0_root' : Int32} {f0_wayEnd : Nat} {f0_wayEnd' : Int32} {f0_waiting : Nat} {f0_waiting' : Int32} (hK : er_PS e K post)  (h_x1 : x1' = nI x1) (h_f0_root : f0_root' = nI f0_root) (h_f0_wayEnd : f0_wayEnd' = nI f0_wayEnd) (h_f0_waiting : f0_waiting' = nI f0_waiting) : ∀ (n : Nat) (x3 : Nat) (x3' : Int32) (_ : x3' = nI x3) (a1 : Nat) (a2 : Nat) (a3 : Nat) (a4 : Nat) (a5 : Nat) (a6 : Nat) (a7 : Nat) (a8 : Nat) (a9 : Nat) (a10 : Nat) (a11 : Nat) (a12 : Nat) (a13 : Nat) (a14 : Nat), ef_closePlace_13 K x1 f0_root f0_wayEnd f0_waiting n x3 a1 a2 a3 a4 a5 a6 a7 a8 a9 a10 a11 a12 a13 a14 = true → wX_closePlace_13 post x1' f0_root' f0_wayEnd' f0_waiting' n x3' (eb_ar a1) (eb_ak e a2) (eb_ar a3) (eb_ar a4) (eb_ar a5) (eb_ar a6) (eb_ar a7) (eb_ar a8) (eb_ar a9) (eb_ak e a10) (eb_ar a11) (eb_ar a12) (eb_ar a13) (eb_ar a14) := by
  intro n
  induction n with
  | zero =>
    intro x3 x3' h_x3 a1 a2 a3 a4 a5 a6 a7 a8 a9 a10 a11 a12 a13 a14 h
    exact absurd (show false = true from h) Bool.false_ne_true
  | succ n ih =>
    intro x3 x3' h_x3 a1 a2 a3 a4 a5 a6 a7 a8 a9 a10 a11 a12 a13 a14 h
    have h : ef_closePlace_13_b K x1 f0_root f0_wayEnd f0_waiting (ef_closePlace_13 K x1 f0_root f0_wayEnd f0_waiting n) x3 a1 a2 a3 a4 a5 a6 a7 a8 a9 a10 a11 a12 a13 a14 = true := h
    refine eh_in h_x1 h (fun f1 h => ?_)
    refine eh_if (eh_le (eh_gt h_x1 f1) h_x3) h (fun h => ?_) (fun h => ?_)
    ·
     exact hK _ _ h_f0_root _ _ h_f0_wayEnd _ _ h_f0_waiting _ _ _ _ _ _ _ _ _ _ _ _ _ _ h
    ·
     refine eh_in (eh_ad (eh_ad (eh_ml eh_n5 h_x1) h_x3) eh_n1) h (fun f2 h => ?_)
     refine eh_in (eh_ad (eh_ml eh_n5 h_x1) h_x3) h (fun f3 h => ?_)
     obtain ⟨g4, h⟩ := eh_g h
     refine eh_letaK (eh_sk (eh_ad (eh_ml eh_n5 h_x1) h_x3) f3 (eh_kns he (eh_gk (eh_ad (eh_ad (eh_ml eh_n5 h_x1) h_x3) eh_n1) f2) g4)) h (fun a2_8 h => ?_)
     refine eh_inf (eh_ad (eh_ad (eh_ml eh_n5 h_x1) h_x3) eh_n1) f2 ?_
     refine eh_inf (eh_ad (eh_ml eh_n5 h_x1) h_x3) f3 ?_
     obtain ⟨g5, h⟩ := eh_g h
     refine eh_leta (eh_st (eh_ad (eh_ml eh_n5 h_x1) h_x3) f3 (eh_ns (eh_gt (eh_ad (eh_ad (eh_ml eh_n5 h_x1) h_x3) eh_n1) f2) g5)) h (fun a3_11 h => ?_)
     refine eh_let (eh_ad h_x3 eh_n1) h (fun x3_12 x3_12' h_x3_12 h => ?_)
     exact ih _ _ h_x3_12 _ _ _ _ _ _ _ _ _ _ _ _ _ _ h
theorem er_closePlace {e : ef_E} (he : e.1 < 80) {post : St2 → Prop} {K : ef_F17} {f0_root : Nat} {f0_root' : Int32} {f0_wayEnd : Nat} {f0_wayEnd' : Int32} {f0_waiting : Nat} {f0_waiting' : Int32} {a1 : Nat} {a2 : Nat} {a3 : Nat} {a4 : Nat} {a5 : Nat} {a6 : Nat} {a7 : Nat} {a8 : Nat} {a9 : Nat} {a10 : Nat} {a11 : Nat} {a12 : Nat} {a13 : Nat} {a14 : Nat} {p0 : Nat} {p0' : Int32} {p1 : Nat} {p1' : Int32} (h_f0_root : f0_root' = nI f0_root) (h_f0_wayEnd : f0_wayEnd' = nI f0_wayEnd) (h_f0_waiting : f0_waiting' = nI f0_waiting) (h_p0 : p0' = nI p0) (h_p1 : p1' = nI p1) (h : ef_closePlace K f0_root f0_wayEnd f0_waiting a1 a2 a3 a4 a5 a6 a7 a8 a9 a10 a11 a12 a13 a14 p0 p1 = true) (hK : er_PS e K post)  : wpX_closePlace post (f0_root', f0_wayEnd', f0_waiting', (eb_ar a1), (eb_ak e a2), (eb_ar a3), (eb_ar a4), (eb_ar a5), (eb_ar a6), (eb_ar a7), (eb_ar a8), (eb_ar a9), (eb_ak e a10), (eb_ar a11), (eb_ar a12), (eb_ar a13), (eb_ar a14)) p0' p1' := by
  refine eh_in h_p0 h (fun f1 h => ?_)
  refine eh_inf h_p0 f1 ?_
  obtain ⟨g2, h⟩ := eh_g h
  refine eh_leta (eh_st h_p0 f1 (eh_b8 (eh_sb (eh_gt h_p0 f1) eh_n1) g2)) h (fun a1_3 h => ?_)
  refine Exists.intro 120 ?_
  exact er_closePlace_13 he hK  h_p0 h_f0_root h_f0_wayEnd h_f0_waiting 120 _ _ h_p1 _ _ _ _ _ _ _ _ _ _ _ _ _ _ h
theorem er_takeFromRight_187 {e : ef_E} (he : e.1 < 80) {post : St2 → Prop} {K : ef_F17} {x4 : Nat} {x4' : Int32} {f0_root : Nat} {f0_root' : Int32} {f0_wayEnd : Nat} {f0_wayEnd' : Int32} {f0_waiting : Nat} {f0_waiting' : Int32} {am1261 : Nat} {am1262 : Nat} {am1263 : Nat} {am1264 : Nat} {am1265 : Nat} {am1266 : Nat} {am1267 : Nat} {am1268 : Nat} {am1269 : Nat} {am12610 : Nat} {am12611 : Nat} {am12612 : Nat} {am12613 : Nat} {am12614 : Nat} (h_x4 : x4' = nI x4) (h_f0_root : f0_root' = nI f0_root) (h_f0_wayEnd : f0_wayEnd' = nI f0_wayEnd) (h_f0_waiting : f0_waiting' = nI f0_waiting) (h : ef_takeFromRight_187 K x4 f0_root f0_wayEnd f0_waiting am1261 am1262 am1263 am1264 am1265 am1266 am1267 am1268 am1269 am12610 am12611 am12612 am12613 am12614 = true) (hK : er_PS e K post)  : wX_takeFromRight_187 post x4' f0_root' f0_wayEnd' f0_waiting' (eb_ar am1261) (eb_ak e am1262) (eb_ar am1263) (eb_ar am1264) (eb_ar am1265) (eb_ar am1266) (eb_ar am1267) (eb_ar am1268) (eb_ar am1269) (eb_ak e am12610) (eb_ar am12611) (eb_ar am12612) (eb_ar am12613) (eb_ar am12614) := by
  unfold wX_takeFromRight_187
  refine er_closePlace he h_f0_root h_f0_wayEnd h_f0_waiting h_x4 eh_n0 h (fun f0_root_111 f0_root_111' h_f0_root_111 f0_wayEnd_112 f0_wayEnd_112' h_f0_wayEnd_112 f0_waiting_113 f0_waiting_113' h_f0_waiting_113 am1911_116 am1912_119 am1913_122 am1914_125 am1915_128 am1916_131 am1917_134 am1918_137 am1919_140 am19110_143 am19111_146 am19112_149 am19113_152 am19114_155 h => ?_) 
  exact hK _ _ h_f0_root_111 _ _ h_f0_wayEnd_112 _ _ h_f0_waiting_113 _ _ _ _ _ _ _ _ _ _ _ _ _ _ h
theorem er_takeFromRight_141 {e : ef_E} (he : e.1 < 80) {post : St2 → Prop} {K : ef_F17} {x4 : Nat} {x4' : Int32} {f0_root : Nat} {f0_root' : Int32} {f0_wayEnd : Nat} {f0_wayEnd' : Int32} {f0_waiting : Nat} {f0_waiting' : Int32} (hK : er_PS e K post)  (h_x4 : x4' = nI x4) (h_f0_root : f0_root' = nI f0_root) (h_f0_wayEnd : f0_wayEnd' = nI f0_wayEnd) (h_f0_waiting : f0_waiting' = nI f0_waiting) : ∀ (n : Nat) (x6 : Nat) (x6' : Int32) (_ : x6' = nI x6) (am1261 : Nat) (am1262 : Nat) (am1263 : Nat) (am1264 : Nat) (am1265 : Nat) (am1266 : Nat) (am1267 : Nat) (am1268 : Nat) (am1269 : Nat) (am12610 : Nat) (am12611 : Nat) (am12612 : Nat) (am12613 : Nat) (am12614 : Nat), ef_takeFromRight_141 K x4 f0_root f0_wayEnd f0_waiting n x6 am1261 am1262 am1263 am1264 am1265 am1266 am1267 am1268 am1269 am12610 am12611 am12612 am12613 am12614 = true → wX_takeFromRight_141 post x4' f0_root' f0_wayEnd' f0_waiting' n x6' (eb_ar am1261) (eb_ak e am1262) (eb_ar am1263) (eb_ar am1264) (eb_ar am1265) (eb_ar am1266) (eb_ar am1267) (eb_ar am1268) (eb_ar am1269) (eb_ak e am12610) (eb_ar am12611) (eb_ar am12612) (eb_ar am12613) (eb_ar am12614) := by
  intro n
  induction n with
  | zero =>
    intro x6 x6' h_x6 am1261 am1262 am1263 am1264 am1265 am1266 am1267 am1268 am1269 am12610 am12611 am12612 am12613 am12614 h
    exact absurd (show false = true from h) Bool.false_ne_true
  | succ n ih =>
    intro x6 x6' h_x6 am1261 am1262 am1263 am1264 am1265 am1266 am1267 am1268 am1269 am12610 am12611 am12612 am12613 am12614 h
    have h : ef_takeFromRight_141_b K x4 f0_root f0_wayEnd f0_waiting (ef_takeFromRight_141 K x4 f0_root f0_wayEnd f0_waiting n) x6 am1261 am1262 am1263 am1264 am1265 am1266 am1267 am1268 am1269 am12610 am12611 am12612 am12613 am12614 = true := h
    refine eh_in h_x4 h (fun f1 h => ?_)
    refine eh_if (eh_le (eh_gt h_x4 f1) h_x6) h (fun h => ?_) (fun h => ?_)
    ·
     exact er_takeFromRight_187 he h_x4 h_f0_root h_f0_wayEnd h_f0_waiting h hK 
    ·
     refine eh_in (eh_ad (eh_ad (eh_ml eh_n6 h_x4) h_x6) eh_n1) h (fun f2 h => ?_)
     refine eh_in (eh_ad (eh_ml eh_n6 h_x4) h_x6) h (fun f3 h => ?_)
     obtain ⟨g4, h⟩ := eh_g h
     refine eh_leta (eh_st (eh_ad (eh_ml eh_n6 h_x4) h_x6) f3 (eh_nb (eh_gt (eh_ad (eh_ad (eh_ml eh_n6 h_x4) h_x6) eh_n1) f2) g4)) h (fun am1264_160 h => ?_)
     refine eh_let (eh_ad h_x6 eh_n1) h (fun x6_161 x6_161' h_x6_161 h => ?_)
     exact ih _ _ h_x6_161 _ _ _ _ _ _ _ _ _ _ _ _ _ _ h
theorem er_takeFromRight_94 {e : ef_E} (he : e.1 < 80) {post : St2 → Prop} {K : ef_F17} {x1 : Nat} {x1' : Int32} {x2 : Nat} {x2' : Int32} {x3 : Nat} {x3' : Int32} {x4 : Nat} {x4' : Int32} {f0_root : Nat} {f0_root' : Int32} {f0_wayEnd : Nat} {f0_wayEnd' : Int32} {f0_waiting : Nat} {f0_waiting' : Int32} {am591 : Nat} {am592 : Nat} {am593 : Nat} {am594 : Nat} {am595 : Nat} {am596 : Nat} {am597 : Nat} {am598 : Nat} {am599 : Nat} {am5910 : Nat} {am5911 : Nat} {am5912 : Nat} {am5913 : Nat} {am5914 : Nat} (h_x1 : x1' = nI x1) (h_x2 : x2' = nI x2) (h_x3 : x3' = nI x3) (h_x4 : x4' = nI x4) (h_f0_root : f0_root' = nI f0_root) (h_f0_wayEnd : f0_wayEnd' = nI f0_wayEnd) (h_f0_waiting : f0_waiting' = nI f0_waiting) (h : ef_takeFromRight_94 K x1 x2 x3 x4 f0_root f0_wayEnd f0_waiting am591 am592 am593 am594 am595 am596 am597 am598 am599 am5910 am5911 am5912 am5913 am5914 = true) (hK : er_PS e K post)  : wX_takeFromRight_94 post x1' x2' x3' x4' f0_root' f0_wayEnd' f0_waiting' (eb_ar am591) (eb_ak e am592) (eb_ar am593) (eb_ar am594) (eb_ar am595) (eb_ar am596) (eb_ar am597) (eb_ar am598) (eb_ar am599) (eb_ak e am5910) (eb_ar am5911) (eb_ar am5912) (eb_ar am5913) (eb_ar am5914) := by
  refine eh_in h_x3 h (fun f1 h => ?_)
  refine eh_inf h_x3 f1 ?_
  obtain ⟨g2, h⟩ := eh_g h
  refine eh_leta (eh_st h_x3 f1 (eh_b8 (eh_ad (eh_gt h_x3 f1) eh_n1) g2)) h (fun am591_59 h => ?_)
  refine eh_in (eh_ml eh_n5 h_x4) h (fun f3 h => ?_)
  refine eh_inf (eh_ml eh_n5 h_x4) f3 ?_
  obtain ⟨fx4, h_fx4, h⟩ := eh_fcK (eh_gk (eh_ml eh_n5 h_x4) f3) h
  obtain ⟨fx5, h_fx5, h⟩ := eh_fc (eh_gt (eh_ml eh_n5 h_x4) f3) h
  refine er_putAt he h_f0_root h_f0_wayEnd h_f0_waiting h_x1 h_x2 h_fx4 h_fx5 h (fun f0_root_63 f0_root_63' h_f0_root_63 f0_wayEnd_64 f0_wayEnd_64' h_f0_wayEnd_64 f0_waiting_65 f0_waiting_65' h_f0_waiting_65 am1261_68 am1262_71 am1263_74 am1264_77 am1265_80 am1266_83 am1267_86 am1268_89 am1269_92 am12610_95 am12611_98 am12612_101 am12613_104 am12614_107 h => ?_) 
  refine er_isLeaf he h_f0_root_63 h_f0_wayEnd_64 h_f0_waiting_65 h_x4 h (fun r_108 r_108' h_r_108 h => ?_) 
  refine eh_if (eh_eq h_r_108 eh_n0) h (fun h => ?_) (fun h => ?_)
  ·
   refine Exists.intro 120 ?_
   exact er_takeFromRight_141 he hK  h_x4 h_f0_root_63 h_f0_wayEnd_64 h_f0_waiting_65 120 _ _ eh_n0 _ _ _ _ _ _ _ _ _ _ _ _ _ _ h
  ·
   exact er_takeFromRight_187 he h_x4 h_f0_root_63 h_f0_wayEnd_64 h_f0_waiting_65 h hK 
theorem er_takeFromRight {e : ef_E} (he : e.1 < 80) {post : St2 → Prop} {K : ef_F17} {f0_root : Nat} {f0_root' : Int32} {f0_wayEnd : Nat} {f0_wayEnd' : Int32} {f0_waiting : Nat} {f0_waiting' : Int32} {a1 : Nat} {a2 : Nat} {a3 : Nat} {a4 : Nat} {a5 : Nat} {a6 : Nat} {a7 : Nat} {a8 : Nat} {a9 : Nat} {a10 : Nat} {a11 : Nat} {a12 : Nat} {a13 : Nat} {a14 : Nat} {p0 : Nat} {p0' : Int32} {p1 : Nat} {p1' : Int32} (h_f0_root : f0_root' = nI f0_root) (h_f0_wayEnd : f0_wayEnd' = nI f0_wayEnd) (h_f0_waiting : f0_waiting' = nI f0_waiting) (h_p0 : p0' = nI p0) (h_p1 : p1' = nI p1) (h : ef_takeFromRight K f0_root f0_wayEnd f0_waiting a1 a2 a3 a4 a5 a6 a7 a8 a9 a10 a11 a12 a13 a14 p0 p1 = true) (hK : er_PS e K post)  : wpX_takeFromRight post (f0_root', f0_wayEnd', f0_waiting', (eb_ar a1), (eb_ak e a2), (eb_ar a3), (eb_ar a4), (eb_ar a5), (eb_ar a6), (eb_ar a7), (eb_ar a8), (eb_ar a9), (eb_ak e a10), (eb_ar a11), (eb_ar a12), (eb_ar a13), (eb_ar a14)) p0' p1' := by
  refine eh_in (eh_ad (eh_ml eh_n6 h_p0) h_p1) h (fun f1 h => ?_)
  refine eh_let (eh_gt (eh_ad (eh_ml eh_n6 h_p0) h_p1) f1) h (fun x3_2 x3_2' h_x3_2 h => ?_)
  refine eh_in (eh_ad (eh_ad (eh_ml eh_n6 h_p0) h_p1) eh_n1) h (fun f2 h => ?_)
  refine eh_let (eh_gt (eh_ad (eh_ad (eh_ml eh_n6 h_p0) h_p1) eh_n1) f2) h (fun x4_4 x4_4' h_x4_4 h => ?_)
  refine eh_in h_x3_2 h (fun f3 h => ?_)
  refine eh_let (eh_gt h_x3_2 f3) h (fun x5_6 x5_6' h_x5_6 h => ?_)
  refine eh_in (eh_ad (eh_ml eh_n5 h_p0) h_p1) h (fun f4 h => ?_)
  refine eh_inf (eh_ad (eh_ml eh_n5 h_p0) h_p1) f4 ?_
  obtain ⟨fx5, h_fx5, h⟩ := eh_fcK (eh_gk (eh_ad (eh_ml eh_n5 h_p0) h_p1) f4) h
  obtain ⟨fx6, h_fx6, h⟩ := eh_fc (eh_gt (eh_ad (eh_ml eh_n5 h_p0) h_p1) f4) h
  refine er_putAt he h_f0_root h_f0_wayEnd h_f0_waiting h_x3_2 h_x5_6 h_fx5 h_fx6 h (fun f0_root_10 f0_root_10' h_f0_root_10 f0_wayEnd_11 f0_wayEnd_11' h_f0_wayEnd_11 f0_waiting_12 f0_waiting_12' h_f0_waiting_12 am591_15 am592_18 am593_21 am594_24 am595_27 am596_30 am597_33 am598_36 am599_39 am5910_42 am5911_45 am5912_48 am5913_51 am5914_54 h => ?_) 
  refine er_isLeaf he h_f0_root_10 h_f0_wayEnd_11 h_f0_waiting_12 h_x3_2 h (fun r_55 r_55' h_r_55 h => ?_) 
  refine eh_if (eh_eq h_r_55 eh_n0) h (fun h => ?_) (fun h => ?_)
  ·
   refine eh_in (eh_ml eh_n6 h_x4_4) h (fun f7 h => ?_)
   refine eh_in (eh_ad (eh_ad (eh_ml eh_n6 h_x3_2) h_x5_6) eh_n1) h (fun f8 h => ?_)
   obtain ⟨g9, h⟩ := eh_g h
   refine eh_leta (eh_st (eh_ad (eh_ad (eh_ml eh_n6 h_x3_2) h_x5_6) eh_n1) f8 (eh_nb (eh_gt (eh_ml eh_n6 h_x4_4) f7) g9)) h (fun am594_164 h => ?_)
   exact er_takeFromRight_94 he h_p0 h_p1 h_x3_2 h_x4_4 h_f0_root_10 h_f0_wayEnd_11 h_f0_waiting_12 h hK 
  ·
   exact er_takeFromRight_94 he h_p0 h_p1 h_x3_2 h_x4_4 h_f0_root_10 h_f0_wayEnd_11 h_f0_waiting_12 h hK 
theorem er_takeFromLeft_113 {e : ef_E} (he : e.1 < 80) {post : St2 → Prop} {K : ef_F17} {x1 : Nat} {x1' : Int32} {x2 : Nat} {x2' : Int32} {x3 : Nat} {x3' : Int32} {x4 : Nat} {x4' : Int32} {x5 : Nat} {x5' : Int32} {f0_root : Nat} {f0_root' : Int32} {f0_wayEnd : Nat} {f0_wayEnd' : Int32} {f0_waiting : Nat} {f0_waiting' : Int32} {a1 : Nat} {a2 : Nat} {a3 : Nat} {a4 : Nat} {a5 : Nat} {a6 : Nat} {a7 : Nat} {a8 : Nat} {a9 : Nat} {a10 : Nat} {a11 : Nat} {a12 : Nat} {a13 : Nat} {a14 : Nat} (h_x1 : x1' = nI x1) (h_x2 : x2' = nI x2) (h_x3 : x3' = nI x3) (h_x4 : x4' = nI x4) (h_x5 : x5' = nI x5) (h_f0_root : f0_root' = nI f0_root) (h_f0_wayEnd : f0_wayEnd' = nI f0_wayEnd) (h_f0_waiting : f0_waiting' = nI f0_waiting) (h : ef_takeFromLeft_113 K x1 x2 x3 x4 x5 f0_root f0_wayEnd f0_waiting a1 a2 a3 a4 a5 a6 a7 a8 a9 a10 a11 a12 a13 a14 = true) (hK : er_PS e K post)  : wX_takeFromLeft_113 post x1' x2' x3' x4' x5' f0_root' f0_wayEnd' f0_waiting' (eb_ar a1) (eb_ak e a2) (eb_ar a3) (eb_ar a4) (eb_ar a5) (eb_ar a6) (eb_ar a7) (eb_ar a8) (eb_ar a9) (eb_ak e a10) (eb_ar a11) (eb_ar a12) (eb_ar a13) (eb_ar a14) := by
  unfold wX_takeFromLeft_113
  refine er_openPlace he h_f0_root h_f0_wayEnd h_f0_waiting h_x3 eh_n0 h (fun f0_root_10 f0_root_10' h_f0_root_10 f0_wayEnd_11 f0_wayEnd_11' h_f0_wayEnd_11 f0_waiting_12 f0_waiting_12' h_f0_waiting_12 am1161_15 am1162_18 am1163_21 am1164_24 am1165_27 am1166_30 am1167_33 am1168_36 am1169_39 am11610_42 am11611_45 am11612_48 am11613_51 am11614_54 h => ?_) 
  refine eh_in (eh_sb (eh_ad (eh_ml eh_n5 h_x1) h_x2) eh_n1) h (fun f1 h => ?_)
  refine eh_inf (eh_sb (eh_ad (eh_ml eh_n5 h_x1) h_x2) eh_n1) f1 ?_
  obtain ⟨fx2, h_fx2, h⟩ := eh_fcK (eh_gk (eh_sb (eh_ad (eh_ml eh_n5 h_x1) h_x2) eh_n1) f1) h
  obtain ⟨fx3, h_fx3, h⟩ := eh_fc (eh_gt (eh_sb (eh_ad (eh_ml eh_n5 h_x1) h_x2) eh_n1) f1) h
  refine er_putAt he h_f0_root_10 h_f0_wayEnd_11 h_f0_waiting_12 h_x3 eh_n0 h_fx2 h_fx3 h (fun f0_root_58 f0_root_58' h_f0_root_58 f0_wayEnd_59 f0_wayEnd_59' h_f0_wayEnd_59 f0_waiting_60 f0_waiting_60' h_f0_waiting_60 am1461_63 am1462_66 am1463_69 am1464_72 am1465_75 am1466_78 am1467_81 am1468_84 am1469_87 am14610_90 am14611_93 am14612_96 am14613_99 am14614_102 h => ?_) 
  refine eh_in (eh_sb (eh_ad (eh_ml eh_n5 h_x4) h_x5) eh_n1) h (fun f4 h => ?_)
  refine eh_inf (eh_sb (eh_ad (eh_ml eh_n5 h_x4) h_x5) eh_n1) f4 ?_
  obtain ⟨fx5, h_fx5, h⟩ := eh_fc (eh_sb h_x2 eh_n1) h
  obtain ⟨fx6, h_fx6, h⟩ := eh_fcK (eh_gk (eh_sb (eh_ad (eh_ml eh_n5 h_x4) h_x5) eh_n1) f4) h
  obtain ⟨fx7, h_fx7, h⟩ := eh_fc (eh_gt (eh_sb (eh_ad (eh_ml eh_n5 h_x4) h_x5) eh_n1) f4) h
  refine er_putAt he h_f0_root_58 h_f0_wayEnd_59 h_f0_waiting_60 h_x1 h_fx5 h_fx6 h_fx7 h (fun f0_root_106 f0_root_106' h_f0_root_106 f0_wayEnd_107 f0_wayEnd_107' h_f0_wayEnd_107 f0_waiting_108 f0_waiting_108' h_f0_waiting_108 am1821_111 am1822_114 am1823_117 am1824_120 am1825_123 am1826_126 am1827_129 am1828_132 am1829_135 am18210_138 am18211_141 am18212_144 am18213_147 am18214_150 h => ?_) 
  refine eh_in h_x4 h (fun f8 h => ?_)
  refine eh_inf h_x4 f8 ?_
  obtain ⟨g9, h⟩ := eh_g h
  refine eh_leta (eh_st h_x4 f8 (eh_b8 (eh_sb (eh_gt h_x4 f8) eh_n1) g9)) h (fun am1821_153 h => ?_)
  exact hK _ _ h_f0_root_106 _ _ h_f0_wayEnd_107 _ _ h_f0_waiting_108 _ _ _ _ _ _ _ _ _ _ _ _ _ _ h
theorem er_takeFromLeft_54 {e : ef_E} (he : e.1 < 80) {post : St2 → Prop} {K : ef_F17} {x1 : Nat} {x1' : Int32} {x2 : Nat} {x2' : Int32} {x3 : Nat} {x3' : Int32} {x4 : Nat} {x4' : Int32} {x5 : Nat} {x5' : Int32} {f0_root : Nat} {f0_root' : Int32} {f0_wayEnd : Nat} {f0_wayEnd' : Int32} {f0_waiting : Nat} {f0_waiting' : Int32} (hK : er_PS e K post)  (h_x1 : x1' = nI x1) (h_x2 : x2' = nI x2) (h_x3 : x3' = nI x3) (h_x4 : x4' = nI x4) (h_x5 : x5' = nI x5) (h_f0_root : f0_root' = nI f0_root) (h_f0_wayEnd : f0_wayEnd' = nI f0_wayEnd) (h_f0_waiting : f0_waiting' = nI f0_waiting) : ∀ (n : Nat) (x6 : Nat) (x6' : Int32) (_ : x6' = nI x6) (a1 : Nat) (a2 : Nat) (a3 : Nat) (a4 : Nat) (a5 : Nat) (a6 : Nat) (a7 : Nat) (a8 : Nat) (a9 : Nat) (a10 : Nat) (a11 : Nat) (a12 : Nat) (a13 : Nat) (a14 : Nat), ef_takeFromLeft_54 K x1 x2 x3 x4 x5 f0_root f0_wayEnd f0_waiting n x6 a1 a2 a3 a4 a5 a6 a7 a8 a9 a10 a11 a12 a13 a14 = true → wX_takeFromLeft_54 post x1' x2' x3' x4' x5' f0_root' f0_wayEnd' f0_waiting' n x6' (eb_ar a1) (eb_ak e a2) (eb_ar a3) (eb_ar a4) (eb_ar a5) (eb_ar a6) (eb_ar a7) (eb_ar a8) (eb_ar a9) (eb_ak e a10) (eb_ar a11) (eb_ar a12) (eb_ar a13) (eb_ar a14) := by
  intro n
  induction n with
  | zero =>
    intro x6 x6' h_x6 a1 a2 a3 a4 a5 a6 a7 a8 a9 a10 a11 a12 a13 a14 h
    exact absurd (show false = true from h) Bool.false_ne_true
  | succ n ih =>
    intro x6 x6' h_x6 a1 a2 a3 a4 a5 a6 a7 a8 a9 a10 a11 a12 a13 a14 h
    have h : ef_takeFromLeft_54_b K x1 x2 x3 x4 x5 f0_root f0_wayEnd f0_waiting (ef_takeFromLeft_54 K x1 x2 x3 x4 x5 f0_root f0_wayEnd f0_waiting n) x6 a1 a2 a3 a4 a5 a6 a7 a8 a9 a10 a11 a12 a13 a14 = true := h
    refine eh_if (eh_le h_x6 eh_n0) h (fun h => ?_) (fun h => ?_)
    ·
     refine eh_in (eh_ad (eh_ml eh_n6 h_x4) h_x5) h (fun f1 h => ?_)
     refine eh_in (eh_ml eh_n6 h_x3) h (fun f2 h => ?_)
     obtain ⟨g3, h⟩ := eh_g h
     refine eh_leta (eh_st (eh_ml eh_n6 h_x3) f2 (eh_nb (eh_gt (eh_ad (eh_ml eh_n6 h_x4) h_x5) f1) g3)) h (fun a4_159 h => ?_)
     exact er_takeFromLeft_113 he h_x1 h_x2 h_x3 h_x4 h_x5 h_f0_root h_f0_wayEnd h_f0_waiting h hK 
    ·
     refine eh_in (eh_sb (eh_ad (eh_ml eh_n6 h_x3) h_x6) eh_n1) h (fun f4 h => ?_)
     refine eh_in (eh_ad (eh_ml eh_n6 h_x3) h_x6) h (fun f5 h => ?_)
     obtain ⟨g6, h⟩ := eh_g h
     refine eh_leta (eh_st (eh_ad (eh_ml eh_n6 h_x3) h_x6) f5 (eh_nb (eh_gt (eh_sb (eh_ad (eh_ml eh_n6 h_x3) h_x6) eh_n1) f4) g6)) h (fun a4_162 h => ?_)
     refine eh_let (eh_ad h_x6 eh_m1) h (fun x6_163 x6_163' h_x6_163 h => ?_)
     exact ih _ _ h_x6_163 _ _ _ _ _ _ _ _ _ _ _ _ _ _ h
theorem er_takeFromLeft {e : ef_E} (he : e.1 < 80) {post : St2 → Prop} {K : ef_F17} {f0_root : Nat} {f0_root' : Int32} {f0_wayEnd : Nat} {f0_wayEnd' : Int32} {f0_waiting : Nat} {f0_waiting' : Int32} {a1 : Nat} {a2 : Nat} {a3 : Nat} {a4 : Nat} {a5 : Nat} {a6 : Nat} {a7 : Nat} {a8 : Nat} {a9 : Nat} {a10 : Nat} {a11 : Nat} {a12 : Nat} {a13 : Nat} {a14 : Nat} {p0 : Nat} {p0' : Int32} {p1 : Nat} {p1' : Int32} (h_f0_root : f0_root' = nI f0_root) (h_f0_wayEnd : f0_wayEnd' = nI f0_wayEnd) (h_f0_waiting : f0_waiting' = nI f0_waiting) (h_p0 : p0' = nI p0) (h_p1 : p1' = nI p1) (h : ef_takeFromLeft K f0_root f0_wayEnd f0_waiting a1 a2 a3 a4 a5 a6 a7 a8 a9 a10 a11 a12 a13 a14 p0 p1 = true) (hK : er_PS e K post)  : wpX_takeFromLeft post (f0_root', f0_wayEnd', f0_waiting', (eb_ar a1), (eb_ak e a2), (eb_ar a3), (eb_ar a4), (eb_ar a5), (eb_ar a6), (eb_ar a7), (eb_ar a8), (eb_ar a9), (eb_ak e a10), (eb_ar a11), (eb_ar a12), (eb_ar a13), (eb_ar a14)) p0' p1' := by
  refine eh_in (eh_ad (eh_ml eh_n6 h_p0) h_p1) h (fun f1 h => ?_)
  refine eh_let (eh_gt (eh_ad (eh_ml eh_n6 h_p0) h_p1) f1) h (fun x3_2 x3_2' h_x3_2 h => ?_)
  refine eh_in (eh_sb (eh_ad (eh_ml eh_n6 h_p0) h_p1) eh_n1) h (fun f2 h => ?_)
  refine eh_let (eh_gt (eh_sb (eh_ad (eh_ml eh_n6 h_p0) h_p1) eh_n1) f2) h (fun x4_4 x4_4' h_x4_4 h => ?_)
  refine eh_in h_x4_4 h (fun f3 h => ?_)
  refine eh_let (eh_gt h_x4_4 f3) h (fun x5_6 x5_6' h_x5_6 h => ?_)
  refine er_isLeaf he h_f0_root h_f0_wayEnd h_f0_waiting h_x3_2 h (fun r_7 r_7' h_r_7 h => ?_) 
  refine eh_if (eh_eq h_r_7 eh_n0) h (fun h => ?_) (fun h => ?_)
  ·
   refine eh_in h_x3_2 h (fun f4 h => ?_)
   refine eh_let (eh_ad (eh_gt h_x3_2 f4) eh_n1) h (fun x6_155 x6_155' h_x6_155 h => ?_)
   refine Exists.intro 120 ?_
   exact er_takeFromLeft_54 he hK  h_p0 h_p1 h_x3_2 h_x4_4 h_x5_6 h_f0_root h_f0_wayEnd h_f0_waiting 120 _ _ h_x6_155 _ _ _ _ _ _ _ _ _ _ _ _ _ _ h
  ·
   exact er_takeFromLeft_113 he h_p0 h_p1 h_x3_2 h_x4_4 h_x5_6 h_f0_root h_f0_wayEnd h_f0_waiting h hK 
theorem er_melt_208 {e : ef_E} (he : e.1 < 80) {post : St2 → Prop} {K : ef_F17} {x1 : Nat} {x1' : Int32} {x4 : Nat} {x4' : Int32} {f0_root : Nat} {f0_root' : Int32} {f0_wayEnd : Nat} {f0_wayEnd' : Int32} {f0_waiting : Nat} {f0_waiting' : Int32} (hK : er_PS e K post)  (h_x1 : x1' = nI x1) (h_x4 : x4' = nI x4) (h_f0_root : f0_root' = nI f0_root) (h_f0_wayEnd : f0_wayEnd' = nI f0_wayEnd) (h_f0_waiting : f0_waiting' = nI f0_waiting) : ∀ (n : Nat) (x6 : Nat) (x6' : Int32) (_ : x6' = nI x6) (am2001 : Nat) (am2002 : Nat) (am2003 : Nat) (am2004 : Nat) (am2005 : Nat) (am2006 : Nat) (am2007 : Nat) (am2008 : Nat) (am2009 : Nat) (am20010 : Nat) (am20011 : Nat) (am20012 : Nat) (am20013 : Nat) (am20014 : Nat), ef_melt_208 K x1 x4 f0_root f0_wayEnd f0_waiting n x6 am2001 am2002 am2003 am2004 am2005 am2006 am2007 am2008 am2009 am20010 am20011 am20012 am20013 am20014 = true → wX_melt_208 post x1' x4' f0_root' f0_wayEnd' f0_waiting' n x6' (eb_ar am2001) (eb_ak e am2002) (eb_ar am2003) (eb_ar am2004) (eb_ar am2005) (eb_ar am2006) (eb_ar am2007) (eb_ar am2008) (eb_ar am2009) (eb_ak e am20010) (eb_ar am20011) (eb_ar am20012) (eb_ar am20013) (eb_ar am20014) := by
  intro n
  induction n with
  | zero =>
    intro x6 x6' h_x6 am2001 am2002 am2003 am2004 am2005 am2006 am2007 am2008 am2009 am20010 am20011 am20012 am20013 am20014 h
    exact absurd (show false = true from h) Bool.false_ne_true
  | succ n ih =>
    intro x6 x6' h_x6 am2001 am2002 am2003 am2004 am2005 am2006 am2007 am2008 am2009 am20010 am20011 am20012 am20013 am20014 h
    have h : ef_melt_208_b K x1 x4 f0_root f0_wayEnd f0_waiting (ef_melt_208 K x1 x4 f0_root f0_wayEnd f0_waiting n) x6 am2001 am2002 am2003 am2004 am2005 am2006 am2007 am2008 am2009 am20010 am20011 am20012 am20013 am20014 = true := h
    refine eh_in h_x1 h (fun f1 h => ?_)
    refine eh_if (eh_lt (eh_gt h_x1 f1) h_x6) h (fun h => ?_) (fun h => ?_)
    ·
     refine eh_in h_x4 h (fun f2 h => ?_)
     refine eh_leta (eh_st h_x4 f2 eh_n0) h (fun am2005_112 h => ?_)
     exact hK _ _ h_f0_root _ _ h_f0_wayEnd _ _ h_f0_waiting _ _ _ _ _ _ _ _ _ _ _ _ _ _ h
    ·
     refine eh_in (eh_ad (eh_ad (eh_ml eh_n6 h_x1) h_x6) eh_n1) h (fun f3 h => ?_)
     refine eh_in (eh_ad (eh_ml eh_n6 h_x1) h_x6) h (fun f4 h => ?_)
     obtain ⟨g5, h⟩ := eh_g h
     refine eh_leta (eh_st (eh_ad (eh_ml eh_n6 h_x1) h_x6) f4 (eh_nb (eh_gt (eh_ad (eh_ad (eh_ml eh_n6 h_x1) h_x6) eh_n1) f3) g5)) h (fun am2004_115 h => ?_)
     refine eh_let (eh_ad h_x6 eh_n1) h (fun x6_116 x6_116' h_x6_116 h => ?_)
     exact ih _ _ h_x6_116 _ _ _ _ _ _ _ _ _ _ _ _ _ _ h
theorem er_melt_178 {e : ef_E} (he : e.1 < 80) {post : St2 → Prop} {K : ef_F17} {x1 : Nat} {x1' : Int32} {x2 : Nat} {x2' : Int32} {x3 : Nat} {x3' : Int32} {x4 : Nat} {x4' : Int32} {x5 : Nat} {x5' : Int32} {f0_root : Nat} {f0_root' : Int32} {f0_wayEnd : Nat} {f0_wayEnd' : Int32} {f0_waiting : Nat} {f0_waiting' : Int32} {am591 : Nat} {am592 : Nat} {am593 : Nat} {am594 : Nat} {am595 : Nat} {am596 : Nat} {am597 : Nat} {am598 : Nat} {am599 : Nat} {am5910 : Nat} {am5911 : Nat} {am5912 : Nat} {am5913 : Nat} {am5914 : Nat} (h_x1 : x1' = nI x1) (h_x2 : x2' = nI x2) (h_x3 : x3' = nI x3) (h_x4 : x4' = nI x4) (h_x5 : x5' = nI x5) (h_f0_root : f0_root' = nI f0_root) (h_f0_wayEnd : f0_wayEnd' = nI f0_wayEnd) (h_f0_waiting : f0_waiting' = nI f0_waiting) (h : ef_melt_178 K x1 x2 x3 x4 x5 f0_root f0_wayEnd f0_waiting am591 am592 am593 am594 am595 am596 am597 am598 am599 am5910 am5911 am5912 am5913 am5914 = true) (hK : er_PS e K post)  : wX_melt_178 post x1' x2' x3' x4' x5' f0_root' f0_wayEnd' f0_waiting' (eb_ar am591) (eb_ak e am592) (eb_ar am593) (eb_ar am594) (eb_ar am595) (eb_ar am596) (eb_ar am597) (eb_ar am598) (eb_ar am599) (eb_ak e am5910) (eb_ar am5911) (eb_ar am5912) (eb_ar am5913) (eb_ar am5914) := by
  refine eh_in h_x4 h (fun f1 h => ?_)
  refine eh_in h_x3 h (fun f2 h => ?_)
  obtain ⟨g3, h⟩ := eh_g h
  refine eh_leta (eh_st h_x3 f2 (eh_b8 (eh_ad (eh_ad h_x5 eh_n1) (eh_gt h_x4 f1)) g3)) h (fun am591_61 h => ?_)
  refine er_closePlace he h_f0_root h_f0_wayEnd h_f0_waiting h_x1 h_x2 h (fun f0_root_63 f0_root_63' h_f0_root_63 f0_wayEnd_64 f0_wayEnd_64' h_f0_wayEnd_64 f0_waiting_65 f0_waiting_65' h_f0_waiting_65 am2001_68 am2002_71 am2003_74 am2004_77 am2005_80 am2006_83 am2007_86 am2008_89 am2009_92 am20010_95 am20011_98 am20012_101 am20013_104 am20014_107 h => ?_) 
  refine eh_let (eh_ad h_x2 eh_n1) h (fun x6_108 x6_108' h_x6_108 h => ?_)
  refine Exists.intro 120 ?_
  exact er_melt_208 he hK  h_x1 h_x4 h_f0_root_63 h_f0_wayEnd_64 h_f0_waiting_65 120 _ _ h_x6_108 _ _ _ _ _ _ _ _ _ _ _ _ _ _ h
theorem er_melt_130 {e : ef_E} (he : e.1 < 80) {post : St2 → Prop} {K : ef_F17} {x1 : Nat} {x1' : Int32} {x2 : Nat} {x2' : Int32} {x3 : Nat} {x3' : Int32} {x4 : Nat} {x4' : Int32} {x5 : Nat} {x5' : Int32} {f0_root : Nat} {f0_root' : Int32} {f0_wayEnd : Nat} {f0_wayEnd' : Int32} {f0_waiting : Nat} {f0_waiting' : Int32} (hK : er_PS e K post)  (h_x1 : x1' = nI x1) (h_x2 : x2' = nI x2) (h_x3 : x3' = nI x3) (h_x4 : x4' = nI x4) (h_x5 : x5' = nI x5) (h_f0_root : f0_root' = nI f0_root) (h_f0_wayEnd : f0_wayEnd' = nI f0_wayEnd) (h_f0_waiting : f0_waiting' = nI f0_waiting) : ∀ (n : Nat) (x6 : Nat) (x6' : Int32) (_ : x6' = nI x6) (am591 : Nat) (am592 : Nat) (am593 : Nat) (am594 : Nat) (am595 : Nat) (am596 : Nat) (am597 : Nat) (am598 : Nat) (am599 : Nat) (am5910 : Nat) (am5911 : Nat) (am5912 : Nat) (am5913 : Nat) (am5914 : Nat), ef_melt_130 K x1 x2 x3 x4 x5 f0_root f0_wayEnd f0_waiting n x6 am591 am592 am593 am594 am595 am596 am597 am598 am599 am5910 am5911 am5912 am5913 am5914 = true → wX_melt_130 post x1' x2' x3' x4' x5' f0_root' f0_wayEnd' f0_waiting' n x6' (eb_ar am591) (eb_ak e am592) (eb_ar am593) (eb_ar am594) (eb_ar am595) (eb_ar am596) (eb_ar am597) (eb_ar am598) (eb_ar am599) (eb_ak e am5910) (eb_ar am5911) (eb_ar am5912) (eb_ar am5913) (eb_ar am5914) := by
  intro n
  induction n with
  | zero =>
    intro x6 x6' h_x6 am591 am592 am593 am594 am595 am596 am597 am598 am599 am5910 am5911 am5912 am5913 am5914 h
    exact absurd (show false = true from h) Bool.false_ne_true
  | succ n ih =>
    intro x6 x6' h_x6 am591 am592 am593 am594 am595 am596 am597 am598 am599 am5910 am5911 am5912 am5913 am5914 h
    have h : ef_melt_130_b K x1 x2 x3 x4 x5 f0_root f0_wayEnd f0_waiting (ef_melt_130 K x1 x2 x3 x4 x5 f0_root f0_wayEnd f0_waiting n) x6 am591 am592 am593 am594 am595 am596 am597 am598 am599 am5910 am5911 am5912 am5913 am5914 = true := h
    refine eh_in h_x4 h (fun f1 h => ?_)
    refine eh_if (eh_lt (eh_gt h_x4 f1) h_x6) h (fun h => ?_) (fun h => ?_)
    ·
     exact er_melt_178 he h_x1 h_x2 h_x3 h_x4 h_x5 h_f0_root h_f0_wayEnd h_f0_waiting h hK 
    ·
     refine eh_in (eh_ad (eh_ml eh_n6 h_x4) h_x6) h (fun f2 h => ?_)
     refine eh_in (eh_ad (eh_ad (eh_ad (eh_ml eh_n6 h_x3) h_x5) eh_n1) h_x6) h (fun f3 h => ?_)
     obtain ⟨g4, h⟩ := eh_g h
     refine eh_leta (eh_st (eh_ad (eh_ad (eh_ad (eh_ml eh_n6 h_x3) h_x5) eh_n1) h_x6) f3 (eh_nb (eh_gt (eh_ad (eh_ml eh_n6 h_x4) h_x6) f2) g4)) h (fun am594_121 h => ?_)
     refine eh_let (eh_ad h_x6 eh_n1) h (fun x6_122 x6_122' h_x6_122 h => ?_)
     exact ih _ _ h_x6_122 _ _ _ _ _ _ _ _ _ _ _ _ _ _ h
theorem er_melt_65 {e : ef_E} (he : e.1 < 80) {post : St2 → Prop} {K : ef_F17} {x1 : Nat} {x1' : Int32} {x2 : Nat} {x2' : Int32} {x3 : Nat} {x3' : Int32} {x4 : Nat} {x4' : Int32} {x5 : Nat} {x5' : Int32} (hK : er_PS e K post)  (h_x1 : x1' = nI x1) (h_x2 : x2' = nI x2) (h_x3 : x3' = nI x3) (h_x4 : x4' = nI x4) (h_x5 : x5' = nI x5) : ∀ (n : Nat) (x6 : Nat) (x6' : Int32) (_ : x6' = nI x6) (f0_root : Nat) (f0_root' : Int32) (_ : f0_root' = nI f0_root) (f0_wayEnd : Nat) (f0_wayEnd' : Int32) (_ : f0_wayEnd' = nI f0_wayEnd) (f0_waiting : Nat) (f0_waiting' : Int32) (_ : f0_waiting' = nI f0_waiting) (am591 : Nat) (am592 : Nat) (am593 : Nat) (am594 : Nat) (am595 : Nat) (am596 : Nat) (am597 : Nat) (am598 : Nat) (am599 : Nat) (am5910 : Nat) (am5911 : Nat) (am5912 : Nat) (am5913 : Nat) (am5914 : Nat), ef_melt_65 K x1 x2 x3 x4 x5 n x6 f0_root f0_wayEnd f0_waiting am591 am592 am593 am594 am595 am596 am597 am598 am599 am5910 am5911 am5912 am5913 am5914 = true → wX_melt_65 post x1' x2' x3' x4' x5' n x6' f0_root' f0_wayEnd' f0_waiting' (eb_ar am591) (eb_ak e am592) (eb_ar am593) (eb_ar am594) (eb_ar am595) (eb_ar am596) (eb_ar am597) (eb_ar am598) (eb_ar am599) (eb_ak e am5910) (eb_ar am5911) (eb_ar am5912) (eb_ar am5913) (eb_ar am5914) := by
  intro n
  induction n with
  | zero =>
    intro x6 x6' h_x6 f0_root f0_root' h_f0_root f0_wayEnd f0_wayEnd' h_f0_wayEnd f0_waiting f0_waiting' h_f0_waiting am591 am592 am593 am594 am595 am596 am597 am598 am599 am5910 am5911 am5912 am5913 am5914 h
    exact absurd (show false = true from h) Bool.false_ne_true
  | succ n ih =>
    intro x6 x6' h_x6 f0_root f0_root' h_f0_root f0_wayEnd f0_wayEnd' h_f0_wayEnd f0_waiting f0_waiting' h_f0_waiting am591 am592 am593 am594 am595 am596 am597 am598 am599 am5910 am5911 am5912 am5913 am5914 h
    have h : ef_melt_65_b K x1 x2 x3 x4 x5 (ef_melt_65 K x1 x2 x3 x4 x5 n) x6 f0_root f0_wayEnd f0_waiting am591 am592 am593 am594 am595 am596 am597 am598 am599 am5910 am5911 am5912 am5913 am5914 = true := h
    refine eh_in h_x4 h (fun f1 h => ?_)
    refine eh_if (eh_le (eh_gt h_x4 f1) h_x6) h (fun h => ?_) (fun h => ?_)
    ·
     refine er_isLeaf he h_f0_root h_f0_wayEnd h_f0_waiting h_x3 h (fun r_57 r_57' h_r_57 h => ?_) 
     refine eh_if (eh_eq h_r_57 eh_n0) h (fun h => ?_) (fun h => ?_)
     ·
      refine Exists.intro 120 ?_
      exact er_melt_130 he hK  h_x1 h_x2 h_x3 h_x4 h_x5 h_f0_root h_f0_wayEnd h_f0_waiting 120 _ _ eh_n0 _ _ _ _ _ _ _ _ _ _ _ _ _ _ h
     ·
      exact er_melt_178 he h_x1 h_x2 h_x3 h_x4 h_x5 h_f0_root h_f0_wayEnd h_f0_waiting h hK 
    ·
     refine eh_in (eh_ad (eh_ml eh_n5 h_x4) h_x6) h (fun f2 h => ?_)
     refine eh_inf (eh_ad (eh_ml eh_n5 h_x4) h_x6) f2 ?_
     obtain ⟨fx3, h_fx3, h⟩ := eh_fc (eh_ad (eh_ad h_x5 eh_n1) h_x6) h
     obtain ⟨fx4, h_fx4, h⟩ := eh_fcK (eh_gk (eh_ad (eh_ml eh_n5 h_x4) h_x6) f2) h
     obtain ⟨fx5, h_fx5, h⟩ := eh_fc (eh_gt (eh_ad (eh_ml eh_n5 h_x4) h_x6) f2) h
     refine er_putAt he h_f0_root h_f0_wayEnd h_f0_waiting h_x3 h_fx3 h_fx4 h_fx5 h (fun f0_root_126 f0_root_126' h_f0_root_126 f0_wayEnd_127 f0_wayEnd_127' h_f0_wayEnd_127 f0_waiting_128 f0_waiting_128' h_f0_waiting_128 am1101_131 am1102_134 am1103_137 am1104_140 am1105_143 am1106_146 am1107_149 am1108_152 am1109_155 am11010_158 am11011_161 am11012_164 am11013_167 am11014_170 h => ?_) 
     refine eh_let (eh_ad h_x6 eh_n1) h (fun x6_171 x6_171' h_x6_171 h => ?_)
     exact ih _ _ h_x6_171 _ _ h_f0_root_126 _ _ h_f0_wayEnd_127 _ _ h_f0_waiting_128 _ _ _ _ _ _ _ _ _ _ _ _ _ _ h
theorem er_melt {e : ef_E} (he : e.1 < 80) {post : St2 → Prop} {K : ef_F17} {f0_root : Nat} {f0_root' : Int32} {f0_wayEnd : Nat} {f0_wayEnd' : Int32} {f0_waiting : Nat} {f0_waiting' : Int32} {a1 : Nat} {a2 : Nat} {a3 : Nat} {a4 : Nat} {a5 : Nat} {a6 : Nat} {a7 : Nat} {a8 : Nat} {a9 : Nat} {a10 : Nat} {a11 : Nat} {a12 : Nat} {a13 : Nat} {a14 : Nat} {p0 : Nat} {p0' : Int32} {p1 : Nat} {p1' : Int32} (h_f0_root : f0_root' = nI f0_root) (h_f0_wayEnd : f0_wayEnd' = nI f0_wayEnd) (h_f0_waiting : f0_waiting' = nI f0_waiting) (h_p0 : p0' = nI p0) (h_p1 : p1' = nI p1) (h : ef_melt K f0_root f0_wayEnd f0_waiting a1 a2 a3 a4 a5 a6 a7 a8 a9 a10 a11 a12 a13 a14 p0 p1 = true) (hK : er_PS e K post)  : wpX_melt post (f0_root', f0_wayEnd', f0_waiting', (eb_ar a1), (eb_ak e a2), (eb_ar a3), (eb_ar a4), (eb_ar a5), (eb_ar a6), (eb_ar a7), (eb_ar a8), (eb_ar a9), (eb_ak e a10), (eb_ar a11), (eb_ar a12), (eb_ar a13), (eb_ar a14)) p0' p1' := by
  refine eh_in (eh_ad (eh_ml eh_n6 h_p0) h_p1) h (fun f1 h => ?_)
  refine eh_let (eh_gt (eh_ad (eh_ml eh_n6 h_p0) h_p1) f1) h (fun x3_2 x3_2' h_x3_2 h => ?_)
  refine eh_in (eh_ad (eh_ad (eh_ml eh_n6 h_p0) h_p1) eh_n1) h (fun f2 h => ?_)
  refine eh_let (eh_gt (eh_ad (eh_ad (eh_ml eh_n6 h_p0) h_p1) eh_n1) f2) h (fun x4_4 x4_4' h_x4_4 h => ?_)
  refine eh_in h_x3_2 h (fun f3 h => ?_)
  refine eh_let (eh_gt h_x3_2 f3) h (fun x5_6 x5_6' h_x5_6 h => ?_)
  refine eh_in (eh_ad (eh_ml eh_n5 h_p0) h_p1) h (fun f4 h => ?_)
  refine eh_inf (eh_ad (eh_ml eh_n5 h_p0) h_p1) f4 ?_
  obtain ⟨fx5, h_fx5, h⟩ := eh_fcK (eh_gk (eh_ad (eh_ml eh_n5 h_p0) h_p1) f4) h
  obtain ⟨fx6, h_fx6, h⟩ := eh_fc (eh_gt (eh_ad (eh_ml eh_n5 h_p0) h_p1) f4) h
  refine er_putAt he h_f0_root h_f0_wayEnd h_f0_waiting h_x3_2 h_x5_6 h_fx5 h_fx6 h (fun f0_root_10 f0_root_10' h_f0_root_10 f0_wayEnd_11 f0_wayEnd_11' h_f0_wayEnd_11 f0_waiting_12 f0_waiting_12' h_f0_waiting_12 am591_15 am592_18 am593_21 am594_24 am595_27 am596_30 am597_33 am598_36 am599_39 am5910_42 am5911_45 am5912_48 am5913_51 am5914_54 h => ?_) 
  refine Exists.intro 120 ?_
  exact er_melt_65 he hK  h_p0 h_p1 h_x3_2 h_x4_4 h_x5_6 120 _ _ eh_n0 _ _ h_f0_root_10 _ _ h_f0_wayEnd_11 _ _ h_f0_waiting_12 _ _ _ _ _ _ _ _ _ _ _ _ _ _ h
theorem er_refill_165 {e : ef_E} (he : e.1 < 80) {post : St2 → Prop} {K : ef_F17} {z0 : Nat} {z0' : Int32} {z1 : Nat} {z1' : Int32} {f0_root : Nat} {f0_root' : Int32} {f0_wayEnd : Nat} {f0_wayEnd' : Int32} {f0_waiting : Nat} {f0_waiting' : Int32} {am1201 : Nat} {am1202 : Nat} {am1203 : Nat} {am1204 : Nat} {am1205 : Nat} {am1206 : Nat} {am1207 : Nat} {am1208 : Nat} {am1209 : Nat} {am12010 : Nat} {am12011 : Nat} {am12012 : Nat} {am12013 : Nat} {am12014 : Nat} (h_z0 : z0' = nI z0) (h_z1 : z1' = nI z1) (h_f0_root : f0_root' = nI f0_root) (h_f0_wayEnd : f0_wayEnd' = nI f0_wayEnd) (h_f0_waiting : f0_waiting' = nI f0_waiting) (h : ef_refill_165 K z0 z1 f0_root f0_wayEnd f0_waiting am1201 am1202 am1203 am1204 am1205 am1206 am1207 am1208 am1209 am12010 am12011 am12012 am12013 am12014 = true) (hK : er_PS e K post)  : wX_refill_165 post z0' z1' f0_root' f0_wayEnd' f0_waiting' (eb_ar am1201) (eb_ak e am1202) (eb_ar am1203) (eb_ar am1204) (eb_ar am1205) (eb_ar am1206) (eb_ar am1207) (eb_ar am1208) (eb_ar am1209) (eb_ak e am12010) (eb_ar am12011) (eb_ar am12012) (eb_ar am12013) (eb_ar am12014) := by
  unfold wX_refill_165
  refine er_melt he h_f0_root h_f0_wayEnd h_f0_waiting h_z1 h_z0 h (fun f0_root_154 f0_root_154' h_f0_root_154 f0_wayEnd_155 f0_wayEnd_155' h_f0_wayEnd_155 f0_waiting_156 f0_waiting_156' h_f0_waiting_156 am1651_159 am1652_162 am1653_165 am1654_168 am1655_171 am1656_174 am1657_177 am1658_180 am1659_183 am16510_186 am16511_189 am16512_192 am16513_195 am16514_198 h => ?_) 
  exact hK _ _ h_f0_root_154 _ _ h_f0_wayEnd_155 _ _ h_f0_waiting_156 _ _ _ _ _ _ _ _ _ _ _ _ _ _ h
theorem er_refill_105 {e : ef_E} (he : e.1 < 80) {post : St2 → Prop} {K : ef_F17} {x2 : Nat} {x2' : Int32} {x3 : Nat} {x3' : Int32} {x4 : Nat} {x4' : Int32} {z0 : Nat} {z0' : Int32} {f0_root : Nat} {f0_root' : Int32} {f0_wayEnd : Nat} {f0_wayEnd' : Int32} {f0_waiting : Nat} {f0_waiting' : Int32} {a1 : Nat} {a2 : Nat} {a3 : Nat} {a4 : Nat} {a5 : Nat} {a6 : Nat} {a7 : Nat} {a8 : Nat} {a9 : Nat} {a10 : Nat} {a11 : Nat} {a12 : Nat} {a13 : Nat} {a14 : Nat} (h_x2 : x2' = nI x2) (h_x3 : x3' = nI x3) (h_x4 : x4' = nI x4) (h_z0 : z0' = nI z0) (h_f0_root : f0_root' = nI f0_root) (h_f0_wayEnd : f0_wayEnd' = nI f0_wayEnd) (h_f0_waiting : f0_waiting' = nI f0_waiting) (h : ef_refill_105 K x2 x3 x4 z0 f0_root f0_wayEnd f0_waiting a1 a2 a3 a4 a5 a6 a7 a8 a9 a10 a11 a12 a13 a14 = true) (hK : er_PS e K post)  : wX_refill_105 post x2' x3' x4' z0' f0_root' f0_wayEnd' f0_waiting' (eb_ar a1) (eb_ak e a2) (eb_ar a3) (eb_ar a4) (eb_ar a5) (eb_ar a6) (eb_ar a7) (eb_ar a8) (eb_ar a9) (eb_ak e a10) (eb_ar a11) (eb_ar a12) (eb_ar a13) (eb_ar a14) := by
  refine eh_in (eh_ad (eh_ml eh_n6 h_x2) h_z0) h (fun f1 h => ?_)
  obtain ⟨fx2, h_fx2, h⟩ := eh_fc (eh_gt (eh_ad (eh_ml eh_n6 h_x2) h_z0) f1) h
  refine er_freshCopy he h_f0_root h_f0_wayEnd h_f0_waiting h_fx2 h (fun r_9 r_9' h_r_9 f0_root_10 f0_root_10' h_f0_root_10 f0_wayEnd_11 f0_wayEnd_11' h_f0_wayEnd_11 f0_waiting_12 f0_waiting_12' h_f0_waiting_12 am1201_15 am1202_18 am1203_21 am1204_24 am1205_27 am1206_30 am1207_33 am1208_36 am1209_39 am12010_42 am12011_45 am12012_48 am12013_51 am12014_54 h => ?_) 
  refine eh_inf (eh_ad (eh_ml eh_n6 h_x2) h_z0) f1 ?_
  obtain ⟨g3, h⟩ := eh_g h
  refine eh_leta (eh_st (eh_ad (eh_ml eh_n6 h_x2) h_z0) f1 (eh_b8 h_r_9 g3)) h (fun am1204_56 h => ?_)
  refine eh_in h_r_9 h (fun f4 h => ?_)
  refine eh_if (eh_lt eh_n2 (eh_gt h_r_9 f4)) h (fun h => ?_) (fun h => ?_)
  ·
   refine eh_if (eh_eq h_x4 eh_n0) h (fun h => ?_) (fun h => ?_)
   ·
    refine er_takeFromRight he h_f0_root_10 h_f0_wayEnd_11 h_f0_waiting_12 h_x2 h_x3 h (fun f0_root_61 f0_root_61' h_f0_root_61 f0_wayEnd_62 f0_wayEnd_62' h_f0_wayEnd_62 f0_waiting_63 f0_waiting_63' h_f0_waiting_63 am1881_66 am1882_69 am1883_72 am1884_75 am1885_78 am1886_81 am1887_84 am1888_87 am1889_90 am18810_93 am18811_96 am18812_99 am18813_102 am18814_105 h => ?_) 
    exact hK _ _ h_f0_root_61 _ _ h_f0_wayEnd_62 _ _ h_f0_waiting_63 _ _ _ _ _ _ _ _ _ _ _ _ _ _ h
   ·
    refine er_takeFromLeft he h_f0_root_10 h_f0_wayEnd_11 h_f0_waiting_12 h_x2 h_x3 h (fun f0_root_107 f0_root_107' h_f0_root_107 f0_wayEnd_108 f0_wayEnd_108' h_f0_wayEnd_108 f0_waiting_109 f0_waiting_109' h_f0_waiting_109 am1791_112 am1792_115 am1793_118 am1794_121 am1795_124 am1796_127 am1797_130 am1798_133 am1799_136 am17910_139 am17911_142 am17912_145 am17913_148 am17914_151 h => ?_) 
    exact hK _ _ h_f0_root_107 _ _ h_f0_wayEnd_108 _ _ h_f0_waiting_109 _ _ _ _ _ _ _ _ _ _ _ _ _ _ h
  ·
   refine eh_if (eh_eq h_x4 eh_n0) h (fun h => ?_) (fun h => ?_)
   ·
    exact er_refill_165 he h_x3 h_x2 h_f0_root_10 h_f0_wayEnd_11 h_f0_waiting_12 h hK 
   ·
    obtain ⟨fx5, h_fx5, h⟩ := eh_fc (eh_sb h_x3 eh_n1) h
    exact er_refill_165 he h_fx5 h_x2 h_f0_root_10 h_f0_wayEnd_11 h_f0_waiting_12 h hK 
theorem er_refill_91 {e : ef_E} (he : e.1 < 80) {post : St2 → Prop} {K : ef_F17} {x2 : Nat} {x2' : Int32} {x3 : Nat} {x3' : Int32} {x4 : Nat} {x4' : Int32} {f0_root : Nat} {f0_root' : Int32} {f0_wayEnd : Nat} {f0_wayEnd' : Int32} {f0_waiting : Nat} {f0_waiting' : Int32} {a1 : Nat} {a2 : Nat} {a3 : Nat} {a4 : Nat} {a5 : Nat} {a6 : Nat} {a7 : Nat} {a8 : Nat} {a9 : Nat} {a10 : Nat} {a11 : Nat} {a12 : Nat} {a13 : Nat} {a14 : Nat} (h_x2 : x2' = nI x2) (h_x3 : x3' = nI x3) (h_x4 : x4' = nI x4) (h_f0_root : f0_root' = nI f0_root) (h_f0_wayEnd : f0_wayEnd' = nI f0_wayEnd) (h_f0_waiting : f0_waiting' = nI f0_waiting) (h : ef_refill_91 K x2 x3 x4 f0_root f0_wayEnd f0_waiting a1 a2 a3 a4 a5 a6 a7 a8 a9 a10 a11 a12 a13 a14 = true) (hK : er_PS e K post)  : wX_refill_91 post x2' x3' x4' f0_root' f0_wayEnd' f0_waiting' (eb_ar a1) (eb_ak e a2) (eb_ar a3) (eb_ar a4) (eb_ar a5) (eb_ar a6) (eb_ar a7) (eb_ar a8) (eb_ar a9) (eb_ak e a10) (eb_ar a11) (eb_ar a12) (eb_ar a13) (eb_ar a14) := by
  refine eh_if (eh_eq h_x4 eh_n0) h (fun h => ?_) (fun h => ?_)
  ·
   obtain ⟨fx1, h_fx1, h⟩ := eh_fc (eh_ad h_x3 eh_n1) h
   exact er_refill_105 he h_x2 h_x3 h_x4 h_fx1 h_f0_root h_f0_wayEnd h_f0_waiting h hK 
  ·
   obtain ⟨fx2, h_fx2, h⟩ := eh_fc (eh_sb h_x3 eh_n1) h
   exact er_refill_105 he h_x2 h_x3 h_x4 h_fx2 h_f0_root h_f0_wayEnd h_f0_waiting h hK 
theorem er_refill_27 {e : ef_E} (he : e.1 < 80) {post : St2 → Prop} {K : ef_F17} {x2 : Nat} {x2' : Int32} {x3 : Nat} {x3' : Int32} {z0 : Nat} {z0' : Int32} {f0_root : Nat} {f0_root' : Int32} {f0_wayEnd : Nat} {f0_wayEnd' : Int32} {f0_waiting : Nat} {f0_waiting' : Int32} {a1 : Nat} {a2 : Nat} {a3 : Nat} {a4 : Nat} {a5 : Nat} {a6 : Nat} {a7 : Nat} {a8 : Nat} {a9 : Nat} {a10 : Nat} {a11 : Nat} {a12 : Nat} {a13 : Nat} {a14 : Nat} (h_x2 : x2' = nI x2) (h_x3 : x3' = nI x3) (h_z0 : z0' = nI z0) (h_f0_root : f0_root' = nI f0_root) (h_f0_wayEnd : f0_wayEnd' = nI f0_wayEnd) (h_f0_waiting : f0_waiting' = nI f0_waiting) (h : ef_refill_27 K x2 x3 z0 f0_root f0_wayEnd f0_waiting a1 a2 a3 a4 a5 a6 a7 a8 a9 a10 a11 a12 a13 a14 = true) (hK : er_PS e K post)  : wX_refill_27 post x2' x3' z0' f0_root' f0_wayEnd' f0_waiting' (eb_ar a1) (eb_ak e a2) (eb_ar a3) (eb_ar a4) (eb_ar a5) (eb_ar a6) (eb_ar a7) (eb_ar a8) (eb_ar a9) (eb_ak e a10) (eb_ar a11) (eb_ar a12) (eb_ar a13) (eb_ar a14) := by
  refine eh_if (eh_eq h_z0 eh_n0) h (fun h => ?_) (fun h => ?_)
  ·
   exact er_refill_91 he h_x2 h_x3 h_z0 h_f0_root h_f0_wayEnd h_f0_waiting h hK 
  ·
   refine eh_in (eh_sb (eh_ad (eh_ml eh_n6 h_x2) h_x3) eh_n1) h (fun f1 h => ?_)
   refine eh_in (eh_gt (eh_sb (eh_ad (eh_ml eh_n6 h_x2) h_x3) eh_n1) f1) h (fun f2 h => ?_)
   refine eh_if (eh_lt eh_n2 (eh_gt (eh_gt (eh_sb (eh_ad (eh_ml eh_n6 h_x2) h_x3) eh_n1) f1) f2)) h (fun h => ?_) (fun h => ?_)
   ·
    exact er_refill_91 he h_x2 h_x3 h_z0 h_f0_root h_f0_wayEnd h_f0_waiting h hK 
   ·
    refine eh_in h_x2 h (fun f3 h => ?_)
    refine eh_if (eh_le (eh_gt h_x2 f3) h_x3) h (fun h => ?_) (fun h => ?_)
    ·
     exact er_refill_91 he h_x2 h_x3 h_z0 h_f0_root h_f0_wayEnd h_f0_waiting h hK 
    ·
     refine eh_in (eh_ad (eh_ad (eh_ml eh_n6 h_x2) h_x3) eh_n1) h (fun f4 h => ?_)
     refine eh_in (eh_gt (eh_ad (eh_ad (eh_ml eh_n6 h_x2) h_x3) eh_n1) f4) h (fun f5 h => ?_)
     refine eh_if (eh_le (eh_gt (eh_gt (eh_ad (eh_ad (eh_ml eh_n6 h_x2) h_x3) eh_n1) f4) f5) eh_n2) h (fun h => ?_) (fun h => ?_)
     ·
      exact er_refill_91 he h_x2 h_x3 h_z0 h_f0_root h_f0_wayEnd h_f0_waiting h hK 
     ·
      exact er_refill_91 he h_x2 h_x3 eh_n0 h_f0_root h_f0_wayEnd h_f0_waiting h hK 
theorem er_refill {e : ef_E} (he : e.1 < 80) {post : St2 → Prop} {K : ef_F17} {f0_root : Nat} {f0_root' : Int32} {f0_wayEnd : Nat} {f0_wayEnd' : Int32} {f0_waiting : Nat} {f0_waiting' : Int32} {a1 : Nat} {a2 : Nat} {a3 : Nat} {a4 : Nat} {a5 : Nat} {a6 : Nat} {a7 : Nat} {a8 : Nat} {a9 : Nat} {a10 : Nat} {a11 : Nat} {a12 : Nat} {a13 : Nat} {a14 : Nat} {p0 : Nat} {p0' : Int32} (h_f0_root : f0_root' = nI f0_root) (h_f0_wayEnd : f0_wayEnd' = nI f0_wayEnd) (h_f0_waiting : f0_waiting' = nI f0_waiting) (h_p0 : p0' = nI p0) (h : ef_refill K f0_root f0_wayEnd f0_waiting a1 a2 a3 a4 a5 a6 a7 a8 a9 a10 a11 a12 a13 a14 p0 = true) (hK : er_PS e K post)  : wpX_refill post (f0_root', f0_wayEnd', f0_waiting', (eb_ar a1), (eb_ak e a2), (eb_ar a3), (eb_ar a4), (eb_ar a5), (eb_ar a6), (eb_ar a7), (eb_ar a8), (eb_ar a9), (eb_ak e a10), (eb_ar a11), (eb_ar a12), (eb_ar a13), (eb_ar a14)) p0' := by
  refine eh_in (eh_sb h_p0 eh_n1) h (fun f1 h => ?_)
  refine eh_let (eh_gt (eh_sb h_p0 eh_n1) f1) h (fun x2_2 x2_2' h_x2_2 h => ?_)
  refine eh_inf (eh_sb h_p0 eh_n1) f1 ?_
  refine eh_let (eh_gt (eh_sb h_p0 eh_n1) f1) h (fun x3_4 x3_4' h_x3_4 h => ?_)
  refine eh_if (eh_le h_x3_4 eh_n0) h (fun h => ?_) (fun h => ?_)
  ·
   exact er_refill_27 he h_x2_2 h_x3_4 eh_n0 h_f0_root h_f0_wayEnd h_f0_waiting h hK 
  ·
   exact er_refill_27 he h_x2_2 h_x3_4 eh_n1 h_f0_root h_f0_wayEnd h_f0_waiting h hK 
theorem er_remove_179 {e : ef_E} (he : e.1 < 80) {post : St2 → Prop} {K : ef_F17} {f0_root : Nat} {f0_root' : Int32} {f0_wayEnd : Nat} {f0_wayEnd' : Int32} {f0_waiting : Nat} {f0_waiting' : Int32} {am1351 : Nat} {am1352 : Nat} {am1353 : Nat} {am1354 : Nat} {am1355 : Nat} {am1356 : Nat} {am1357 : Nat} {am1358 : Nat} {am1359 : Nat} {am13510 : Nat} {am13511 : Nat} {am13512 : Nat} {am13513 : Nat} {am13514 : Nat} (h_f0_root : f0_root' = nI f0_root) (h_f0_wayEnd : f0_wayEnd' = nI f0_wayEnd) (h_f0_waiting : f0_waiting' = nI f0_waiting) (h : ef_remove_179 K f0_root f0_wayEnd f0_waiting am1351 am1352 am1353 am1354 am1355 am1356 am1357 am1358 am1359 am13510 am13511 am13512 am13513 am13514 = true) (hK : er_PS e K post)  : wX_remove_179 post f0_root' f0_wayEnd' f0_waiting' (eb_ar am1351) (eb_ak e am1352) (eb_ar am1353) (eb_ar am1354) (eb_ar am1355) (eb_ar am1356) (eb_ar am1357) (eb_ar am1358) (eb_ar am1359) (eb_ak e am13510) (eb_ar am13511) (eb_ar am13512) (eb_ar am13513) (eb_ar am13514) := by
  refine eh_in h_f0_root h (fun f1 h => ?_)
  refine eh_if (eh_le (eh_gt h_f0_root f1) eh_n0) h (fun h => ?_) (fun h => ?_)
  ·
   refine er_isLeaf he h_f0_root h_f0_wayEnd h_f0_waiting h_f0_root h (fun r_194 r_194' h_r_194 h => ?_) 
   refine eh_if (eh_eq h_r_194 eh_n0) h (fun h => ?_) (fun h => ?_)
   ·
    refine eh_in (eh_ml eh_n6 h_f0_root) h (fun f2 h => ?_)
    refine eh_let (eh_gt (eh_ml eh_n6 h_f0_root) f2) h (fun f_197 f_197' h_f_197 h => ?_)
    refine eh_inf h_f0_root f1 ?_
    refine eh_leta (eh_st h_f0_root f1 eh_n0) h (fun am1355_199 h => ?_)
    exact hK _ _ h_f_197 _ _ h_f0_wayEnd _ _ h_f0_waiting _ _ _ _ _ _ _ _ _ _ _ _ _ _ h
   ·
    refine eh_inf h_f0_root f1 ?_
    refine eh_leta (eh_st h_f0_root f1 eh_n0) h (fun am1355_201 h => ?_)
    exact hK _ _ eh_m1 _ _ h_f0_wayEnd _ _ h_f0_waiting _ _ _ _ _ _ _ _ _ _ _ _ _ _ h
  ·
   exact hK _ _ h_f0_root _ _ h_f0_wayEnd _ _ h_f0_waiting _ _ _ _ _ _ _ _ _ _ _ _ _ _ h
theorem er_remove_146 {e : ef_E} (he : e.1 < 80) {post : St2 → Prop} {K : ef_F17} (hK : er_PS e K post)   : ∀ (n : Nat) (x4 : Nat) (x4' : Int32) (_ : x4' = nI x4) (f0_root : Nat) (f0_root' : Int32) (_ : f0_root' = nI f0_root) (f0_wayEnd : Nat) (f0_wayEnd' : Int32) (_ : f0_wayEnd' = nI f0_wayEnd) (f0_waiting : Nat) (f0_waiting' : Int32) (_ : f0_waiting' = nI f0_waiting) (am1351 : Nat) (am1352 : Nat) (am1353 : Nat) (am1354 : Nat) (am1355 : Nat) (am1356 : Nat) (am1357 : Nat) (am1358 : Nat) (am1359 : Nat) (am13510 : Nat) (am13511 : Nat) (am13512 : Nat) (am13513 : Nat) (am13514 : Nat), ef_remove_146 K n x4 f0_root f0_wayEnd f0_waiting am1351 am1352 am1353 am1354 am1355 am1356 am1357 am1358 am1359 am13510 am13511 am13512 am13513 am13514 = true → wX_remove_146 post n x4' f0_root' f0_wayEnd' f0_waiting' (eb_ar am1351) (eb_ak e am1352) (eb_ar am1353) (eb_ar am1354) (eb_ar am1355) (eb_ar am1356) (eb_ar am1357) (eb_ar am1358) (eb_ar am1359) (eb_ak e am13510) (eb_ar am13511) (eb_ar am13512) (eb_ar am13513) (eb_ar am13514) := by
  intro n
  induction n with
  | zero =>
    intro x4 x4' h_x4 f0_root f0_root' h_f0_root f0_wayEnd f0_wayEnd' h_f0_wayEnd f0_waiting f0_waiting' h_f0_waiting am1351 am1352 am1353 am1354 am1355 am1356 am1357 am1358 am1359 am13510 am13511 am13512 am13513 am13514 h
    exact absurd (show false = true from h) Bool.false_ne_true
  | succ n ih =>
    intro x4 x4' h_x4 f0_root f0_root' h_f0_root f0_wayEnd f0_wayEnd' h_f0_wayEnd f0_waiting f0_waiting' h_f0_waiting am1351 am1352 am1353 am1354 am1355 am1356 am1357 am1358 am1359 am13510 am13511 am13512 am13513 am13514 h
    have h : ef_remove_146_b K (ef_remove_146 K n) x4 f0_root f0_wayEnd f0_waiting am1351 am1352 am1353 am1354 am1355 am1356 am1357 am1358 am1359 am13510 am13511 am13512 am13513 am13514 = true := h
    refine eh_if (eh_le h_x4 eh_n0) h (fun h => ?_) (fun h => ?_)
    ·
     exact er_remove_179 he h_f0_root h_f0_wayEnd h_f0_waiting h hK 
    ·
     refine eh_in h_x4 h (fun f1 h => ?_)
     refine eh_in (eh_gt h_x4 f1) h (fun f2 h => ?_)
     refine eh_if (eh_le eh_n2 (eh_gt (eh_gt h_x4 f1) f2)) h (fun h => ?_) (fun h => ?_)
     ·
      exact er_remove_179 he h_f0_root h_f0_wayEnd h_f0_waiting h hK 
     ·
      refine er_refill he h_f0_root h_f0_wayEnd h_f0_waiting h_x4 h (fun f0_root_206 f0_root_206' h_f0_root_206 f0_wayEnd_207 f0_wayEnd_207' h_f0_wayEnd_207 f0_waiting_208 f0_waiting_208' h_f0_waiting_208 am1701_211 am1702_214 am1703_217 am1704_220 am1705_223 am1706_226 am1707_229 am1708_232 am1709_235 am17010_238 am17011_241 am17012_244 am17013_247 am17014_250 h => ?_) 
      refine eh_let (eh_ad h_x4 eh_m1) h (fun x4_251 x4_251' h_x4_251 h => ?_)
      exact ih _ _ h_x4_251 _ _ h_f0_root_206 _ _ h_f0_wayEnd_207 _ _ h_f0_waiting_208 _ _ _ _ _ _ _ _ _ _ _ _ _ _ h
theorem er_remove_41 {e : ef_E} (he : e.1 < 80) {post : St2 → Prop} {K : ef_F17} {x1 : Nat} {x1' : Int32} {x2 : Nat} {x2' : Int32} {x3 : Nat} {x3' : Int32} (hK : er_PS e K post)  (h_x1 : x1' = ef_kv e x1) (h_x2 : x2' = nI x2) (h_x3 : x3' = nI x3) : ∀ (n : Nat) (x4 : Nat) (x4' : Int32) (_ : x4' = nI x4) (f0_root : Nat) (f0_root' : Int32) (_ : f0_root' = nI f0_root) (f0_wayEnd : Nat) (f0_wayEnd' : Int32) (_ : f0_wayEnd' = nI f0_wayEnd) (f0_waiting : Nat) (f0_waiting' : Int32) (_ : f0_waiting' = nI f0_waiting) (am111 : Nat) (am112 : Nat) (am113 : Nat) (am114 : Nat) (am115 : Nat) (am116 : Nat) (am117 : Nat) (am118 : Nat) (am119 : Nat) (am1110 : Nat) (am1111 : Nat) (am1112 : Nat) (am1113 : Nat) (am1114 : Nat), ef_remove_41 K x1 x2 x3 n x4 f0_root f0_wayEnd f0_waiting am111 am112 am113 am114 am115 am116 am117 am118 am119 am1110 am1111 am1112 am1113 am1114 = true → wX_remove_41 post x1' x2' x3' n x4' f0_root' f0_wayEnd' f0_waiting' (eb_ar am111) (eb_ak e am112) (eb_ar am113) (eb_ar am114) (eb_ar am115) (eb_ar am116) (eb_ar am117) (eb_ar am118) (eb_ar am119) (eb_ak e am1110) (eb_ar am1111) (eb_ar am1112) (eb_ar am1113) (eb_ar am1114) := by
  intro n
  induction n with
  | zero =>
    intro x4 x4' h_x4 f0_root f0_root' h_f0_root f0_wayEnd f0_wayEnd' h_f0_wayEnd f0_waiting f0_waiting' h_f0_waiting am111 am112 am113 am114 am115 am116 am117 am118 am119 am1110 am1111 am1112 am1113 am1114 h
    exact absurd (show false = true from h) Bool.false_ne_true
  | succ n ih =>
    intro x4 x4' h_x4 f0_root f0_root' h_f0_root f0_wayEnd f0_wayEnd' h_f0_wayEnd f0_waiting f0_waiting' h_f0_waiting am111 am112 am113 am114 am115 am116 am117 am118 am119 am1110 am1111 am1112 am1113 am1114 h
    have h : ef_remove_41_b K x1 x2 x3 (ef_remove_41 K x1 x2 x3 n) x4 f0_root f0_wayEnd f0_waiting am111 am112 am113 am114 am115 am116 am117 am118 am119 am1110 am1111 am1112 am1113 am1114 = true := h
    refine eh_if (eh_le (eh_sb h_f0_wayEnd eh_n1) h_x4) h (fun h => ?_) (fun h => ?_)
    ·
     refine er_closePlace he h_f0_root h_f0_wayEnd h_f0_waiting h_x2 h_x3 h (fun f0_root_145 f0_root_145' h_f0_root_145 f0_wayEnd_146 f0_wayEnd_146' h_f0_wayEnd_146 f0_waiting_147 f0_waiting_147' h_f0_waiting_147 am1351_150 am1352_153 am1353_156 am1354_159 am1355_162 am1356_165 am1357_168 am1358_171 am1359_174 am13510_177 am13511_180 am13512_183 am13513_186 am13514_189 h => ?_) 
     refine eh_let (eh_sb h_f0_wayEnd_146 eh_n1) h (fun x4_190 x4_190' h_x4_190 h => ?_)
     refine Exists.intro 120 ?_
     exact er_remove_146 he hK   120 _ _ h_x4_190 _ _ h_f0_root_145 _ _ h_f0_wayEnd_146 _ _ h_f0_waiting_147 _ _ _ _ _ _ _ _ _ _ _ _ _ _ h
    ·
     refine eh_in h_x4 h (fun f1 h => ?_)
     refine eh_let (eh_gt h_x4 f1) h (fun x5_253 x5_253' h_x5_253 h => ?_)
     refine eh_inf h_x4 f1 ?_
     refine eh_let (eh_gt h_x4 f1) h (fun x6_255 x6_255' h_x6_255 h => ?_)
     refine eh_in h_x5_253 h (fun f2 h => ?_)
     refine eh_if (eh_le (eh_gt h_x5_253 f2) h_x6_255) h (fun h => ?_) (fun h => ?_)
     ·
      refine eh_let (eh_ad h_x4 eh_n1) h (fun x4_258 x4_258' h_x4_258 h => ?_)
      exact ih _ _ h_x4_258 _ _ h_f0_root _ _ h_f0_wayEnd _ _ h_f0_waiting _ _ _ _ _ _ _ _ _ _ _ _ _ _ h
     ·
      refine eh_in (eh_ad (eh_ml eh_n5 h_x5_253) h_x6_255) h (fun f3 h => ?_)
      refine eh_i3 (eh_keq (eh_gk (eh_ad (eh_ml eh_n5 h_x5_253) h_x6_255) f3) h_x1) (eh_kne he (eh_gk (eh_ad (eh_ml eh_n5 h_x5_253) h_x6_255) f3) h_x1) h (fun h => ?_) (fun h => ?_)
      ·
       refine eh_in (eh_ad (eh_ml eh_n5 h_x2) h_x3) h (fun f4 h => ?_)
       refine eh_inf (eh_ad (eh_ml eh_n5 h_x2) h_x3) f4 ?_
       obtain ⟨fx5, h_fx5, h⟩ := eh_fcK (eh_gk (eh_ad (eh_ml eh_n5 h_x2) h_x3) f4) h
       obtain ⟨fx6, h_fx6, h⟩ := eh_fc (eh_gt (eh_ad (eh_ml eh_n5 h_x2) h_x3) f4) h
       refine er_putAt he h_f0_root h_f0_wayEnd h_f0_waiting h_x5_253 h_x6_255 h_fx5 h_fx6 h (fun f0_root_265 f0_root_265' h_f0_root_265 f0_wayEnd_266 f0_wayEnd_266' h_f0_wayEnd_266 f0_waiting_267 f0_waiting_267' h_f0_waiting_267 am1231_270 am1232_273 am1233_276 am1234_279 am1235_282 am1236_285 am1237_288 am1238_291 am1239_294 am12310_297 am12311_300 am12312_303 am12313_306 am12314_309 h => ?_) 
       refine eh_let (eh_ad h_x4 eh_n1) h (fun x4_310 x4_310' h_x4_310 h => ?_)
       exact ih _ _ h_x4_310 _ _ h_f0_root_265 _ _ h_f0_wayEnd_266 _ _ h_f0_waiting_267 _ _ _ _ _ _ _ _ _ _ _ _ _ _ h
      ·
       refine eh_let (eh_ad h_x4 eh_n1) h (fun x4_261 x4_261' h_x4_261 h => ?_)
       exact ih _ _ h_x4_261 _ _ h_f0_root _ _ h_f0_wayEnd _ _ h_f0_waiting _ _ _ _ _ _ _ _ _ _ _ _ _ _ h
theorem er_remove {e : ef_E} (he : e.1 < 80) {post : St2 → Prop} {K : ef_F17} {f0_root : Nat} {f0_root' : Int32} {f0_wayEnd : Nat} {f0_wayEnd' : Int32} {f0_waiting : Nat} {f0_waiting' : Int32} {a1 : Nat} {a2 : Nat} {a3 : Nat} {a4 : Nat} {a5 : Nat} {a6 : Nat} {a7 : Nat} {a8 : Nat} {a9 : Nat} {a10 : Nat} {a11 : Nat} {a12 : Nat} {a13 : Nat} {a14 : Nat} {p0 : Nat} {p0' : Int32} (h_f0_root : f0_root' = nI f0_root) (h_f0_wayEnd : f0_wayEnd' = nI f0_wayEnd) (h_f0_waiting : f0_waiting' = nI f0_waiting) (h_p0 : p0' = ef_kv e p0) (h : ef_remove K f0_root f0_wayEnd f0_waiting a1 a2 a3 a4 a5 a6 a7 a8 a9 a10 a11 a12 a13 a14 p0 = true) (hK : er_PS e K post)  : wpX_remove post (f0_root', f0_wayEnd', f0_waiting', (eb_ar a1), (eb_ak e a2), (eb_ar a3), (eb_ar a4), (eb_ar a5), (eb_ar a6), (eb_ar a7), (eb_ar a8), (eb_ar a9), (eb_ak e a10), (eb_ar a11), (eb_ar a12), (eb_ar a13), (eb_ar a14)) p0' := by
  unfold wpX_remove
  refine er_find he h_f0_root h_f0_wayEnd h_f0_waiting h_p0 h (fun r_1 r_1' h_r_1 f0_root_2 f0_root_2' h_f0_root_2 f0_wayEnd_3 f0_wayEnd_3' h_f0_wayEnd_3 f0_waiting_4 f0_waiting_4' h_f0_waiting_4 am21_7 am22_10 am23_13 am24_16 am25_19 am26_22 am27_25 am28_28 am29_31 am210_34 am211_37 am212_40 am213_43 am214_46 h => ?_) 
  refine er_lengthenWay he h_f0_root_2 h_f0_wayEnd_3 h_f0_waiting_4 h (fun f0_root_48 f0_root_48' h_f0_root_48 f0_wayEnd_49 f0_wayEnd_49' h_f0_wayEnd_49 f0_waiting_50 f0_waiting_50' h_f0_waiting_50 am71_53 am72_56 am73_59 am74_62 am75_65 am76_68 am77_71 am78_74 am79_77 am710_80 am711_83 am712_86 am713_89 am714_92 h => ?_) 
  refine er_copyWay he h_f0_root_48 h_f0_wayEnd_49 h_f0_waiting_50 h (fun f0_root_94 f0_root_94' h_f0_root_94 f0_wayEnd_95 f0_wayEnd_95' h_f0_wayEnd_95 f0_waiting_96 f0_waiting_96' h_f0_waiting_96 am111_99 am112_102 am113_105 am114_108 am115_111 am116_114 am117_117 am118_120 am119_123 am1110_126 am1111_129 am1112_132 am1113_135 am1114_138 h => ?_) 
  refine eh_in (eh_sb h_f0_wayEnd_95 eh_n1) h (fun f1 h => ?_)
  refine eh_let (eh_gt (eh_sb h_f0_wayEnd_95 eh_n1) f1) h (fun x2_140 x2_140' h_x2_140 h => ?_)
  refine eh_inf (eh_sb h_f0_wayEnd_95 eh_n1) f1 ?_
  refine eh_let (eh_gt (eh_sb h_f0_wayEnd_95 eh_n1) f1) h (fun x3_142 x3_142' h_x3_142 h => ?_)
  refine Exists.intro 120 ?_
  exact er_remove_41 he hK  h_p0 h_x2_140 h_x3_142 120 _ _ eh_n0 _ _ h_f0_root_94 _ _ h_f0_wayEnd_95 _ _ h_f0_waiting_96 _ _ _ _ _ _ _ _ _ _ _ _ _ _ h
theorem er_putIn_106 {e : ef_E} (he : e.1 < 80) {post : St2 → Prop} {K : ef_F17} {x6 : Nat} {x6' : Int32} {x7 : Nat} {x7' : Int32} {x8 : Nat} {x8' : Int32} {f0_root : Nat} {f0_root' : Int32} {f0_wayEnd : Nat} {f0_wayEnd' : Int32} {f0_waiting : Nat} {f0_waiting' : Int32} {a1 : Nat} {a2 : Nat} {a3 : Nat} {a4 : Nat} {a5 : Nat} {a6 : Nat} {a7 : Nat} {a8 : Nat} {a9 : Nat} {a10 : Nat} {a11 : Nat} {a12 : Nat} {a13 : Nat} {a14 : Nat} (h_x6 : x6' = ef_kv e x6) (h_x7 : x7' = nI x7) (h_x8 : x8' = nI x8) (h_f0_root : f0_root' = nI f0_root) (h_f0_wayEnd : f0_wayEnd' = nI f0_wayEnd) (h_f0_waiting : f0_waiting' = nI f0_waiting) (h : ef_putIn_106 K x6 x7 x8 f0_root f0_wayEnd f0_waiting a1 a2 a3 a4 a5 a6 a7 a8 a9 a10 a11 a12 a13 a14 = true) (hK : er_PS e K post)  : wX_putIn_106 post x6' x7' x8' f0_root' f0_wayEnd' f0_waiting' (eb_ar a1) (eb_ak e a2) (eb_ar a3) (eb_ar a4) (eb_ar a5) (eb_ar a6) (eb_ar a7) (eb_ar a8) (eb_ar a9) (eb_ak e a10) (eb_ar a11) (eb_ar a12) (eb_ar a13) (eb_ar a14) := by
  unfold wX_putIn_106
  obtain ⟨fx1, h_fx1, h⟩ := eh_fc (eh_ad (eh_ml eh_n16 h_x8) h_x7) h
  refine er_put he h_f0_root h_f0_wayEnd h_f0_waiting h_x6 h_fx1 h (fun f0_root_5 f0_root_5' h_f0_root_5 f0_wayEnd_6 f0_wayEnd_6' h_f0_wayEnd_6 f0_waiting_7 f0_waiting_7' h_f0_waiting_7 am1171_10 am1172_13 am1173_16 am1174_19 am1175_22 am1176_25 am1177_28 am1178_31 am1179_34 am11710_37 am11711_40 am11712_43 am11713_46 am11714_49 h => ?_) 
  exact hK _ _ h_f0_root_5 _ _ h_f0_wayEnd_6 _ _ h_f0_waiting_7 _ _ _ _ _ _ _ _ _ _ _ _ _ _ h
theorem er_putIn_55 {e : ef_E} (he : e.1 < 80) {post : St2 → Prop} {K : ef_F17} {x1 : Nat} {x1' : Int32} {x2 : Nat} {x2' : Int32} {x3 : Nat} {x3' : Int32} {x4 : Nat} {x4' : Int32} {x6 : Nat} {x6' : Int32} {x7 : Nat} {x7' : Int32} {x8 : Nat} {x8' : Int32} {f0_root : Nat} {f0_root' : Int32} {f0_wayEnd : Nat} {f0_wayEnd' : Int32} {f0_waiting : Nat} {f0_waiting' : Int32} {a1 : Nat} {a2 : Nat} {a3 : Nat} {a4 : Nat} {a5 : Nat} {a6 : Nat} {a7 : Nat} {a8 : Nat} {a9 : Nat} {a10 : Nat} {a11 : Nat} {a12 : Nat} {a13 : Nat} {a14 : Nat} (h_x1 : x1' = nI x1) (h_x2 : x2' = nI x2) (h_x3 : x3' = nI x3) (h_x4 : x4' = nI x4) (h_x6 : x6' = nI x6) (h_x7 : x7' = nI x7) (h_x8 : x8' = nI x8) (h_f0_root : f0_root' = nI f0_root) (h_f0_wayEnd : f0_wayEnd' = nI f0_wayEnd) (h_f0_waiting : f0_waiting' = nI f0_waiting) (h : ef_putIn_55 K x1 x2 x3 x4 x6 x7 x8 f0_root f0_wayEnd f0_waiting a1 a2 a3 a4 a5 a6 a7 a8 a9 a10 a11 a12 a13 a14 = true) (hK : er_PS e K post)  : wX_putIn_55 post x1' x2' x3' x4' x6' x7' x8' f0_root' f0_wayEnd' f0_waiting' (eb_ar a1) (eb_ak e a2) (eb_ar a3) (eb_ar a4) (eb_ar a5) (eb_ar a6) (eb_ar a7) (eb_ar a8) (eb_ar a9) (eb_ak e a10) (eb_ar a11) (eb_ar a12) (eb_ar a13) (eb_ar a14) := by
  refine eh_if (eh_lt h_x4 eh_n0) h (fun h => ?_) (fun h => ?_)
  ·
   obtain ⟨fx1, h_fx1, h⟩ := eh_fcK (eh_ik h_x6) h
   exact er_putIn_106 he h_fx1 h_x7 h_x8 h_f0_root h_f0_wayEnd h_f0_waiting h hK 
  ·
   refine eh_if (eh_eq h_x4 (eh_sb h_x3 eh_n1)) h (fun h => ?_) (fun h => ?_)
   ·
    obtain ⟨fx2, h_fx2, h⟩ := eh_fc (eh_sb h_x2 eh_n1) h
    refine er_stretchAt he h_f0_root h_f0_wayEnd h_f0_waiting h_x1 h_fx2 h (fun r_51 r_51' h_r_51 h => ?_) 
    refine er_get he h_f0_root h_f0_wayEnd h_f0_waiting h_r_51 h (fun r_52 r_52' h_r_52 f0_root_53 f0_root_53' h_f0_root_53 f0_wayEnd_54 f0_wayEnd_54' h_f0_wayEnd_54 f0_waiting_55 f0_waiting_55' h_f0_waiting_55 am811_58 am812_61 am813_64 am814_67 am815_70 am816_73 am817_76 am818_79 am819_82 am8110_85 am8111_88 am8112_91 am8113_94 am8114_97 h => ?_) 
    refine eh_let (eh_ad h_x7 (eh_an h_r_52 eh_n15)) h (fun x7_98 x7_98' h_x7_98 h => ?_)
    obtain ⟨g3, h⟩ := eh_g h
    refine eh_let (eh_sr4 h_r_52 g3) h (fun x8_99 x8_99' h_x8_99 h => ?_)
    exact er_putIn_106 he h_r_51 h_x7_98 h_x8_99 h_f0_root_53 h_f0_wayEnd_54 h_f0_waiting_55 h hK 
   ·
    obtain ⟨fx4, h_fx4, h⟩ := eh_fcK (eh_ik h_x6) h
    exact er_putIn_106 he h_fx4 h_x7 h_x8 h_f0_root h_f0_wayEnd h_f0_waiting h hK 
end
section
/-! refinement, printed by a program -/
theorem er_putIn {e : ef_E} (he : e.1 < 80) {post : St2 → Prop} {K : ef_F17} {f0_root : Nat} {f0_root' : Int32} {f0_wayEnd : Nat} {f0_wayEnd' : Int32} {f0_waiting : Nat} {f0_waiting' : Int32} {a1 : Nat} {a2 : Nat} {a3 : Nat} {a4 : Nat} {a5 : Nat} {a6 : Nat} {a7 : Nat} {a8 : Nat} {a9 : Nat} {a10 : Nat} {a11 : Nat} {a12 : Nat} {a13 : Nat} {a14 : Nat} {p0 : Nat} {p0' : Int32} {p1 : Nat} {p1' : Int32} {p2 : Nat} {p2' : Int32} {p3 : Nat} {p3' : Int32} {p4 : Nat} {p4' : Int32} (h_f0_root : f0_root' = nI f0_root) (h_f0_wayEnd : f0_wayEnd' = nI f0_wayEnd) (h_f0_waiting : f0_waiting' = nI f0_waiting) (h_p0 : p0' = nI p0) (h_p1 : p1' = nI p1) (h_p2 : p2' = nI p2) (h_p3 : p3' = nI p3) (h_p4 : p4' = nI p4) (h : ef_putIn K f0_root f0_wayEnd f0_waiting a1 a2 a3 a4 a5 a6 a7 a8 a9 a10 a11 a12 a13 a14 p0 p1 p2 p3 p4 = true) (hK : er_PS e K post)  : wpX_putIn post (f0_root', f0_wayEnd', f0_waiting', (eb_ar a1), (eb_ak e a2), (eb_ar a3), (eb_ar a4), (eb_ar a5), (eb_ar a6), (eb_ar a7), (eb_ar a8), (eb_ar a9), (eb_ak e a10), (eb_ar a11), (eb_ar a12), (eb_ar a13), (eb_ar a14)) p0' p1' p2' p3' p4' := by
  refine eh_let (eh_ad (eh_ad (eh_ml eh_n256 h_p0) eh_n128) h_p1) h (fun x6_1 x6_1' h_x6_1 h => ?_)
  refine eh_if (eh_eq h_p4 (eh_ad h_p2 eh_n1)) h (fun h => ?_) (fun h => ?_)
  ·
   obtain ⟨fx1, h_fx1, h⟩ := eh_fcK (eh_ik (eh_ad h_x6_1 eh_n1)) h
   refine er_get he h_f0_root h_f0_wayEnd h_f0_waiting h_fx1 h (fun r_100 r_100' h_r_100 f0_root_101 f0_root_101' h_f0_root_101 f0_wayEnd_102 f0_wayEnd_102' h_f0_wayEnd_102 f0_waiting_103 f0_waiting_103' h_f0_waiting_103 am321_106 am322_109 am323_112 am324_115 am325_118 am326_121 am327_124 am328_127 am329_130 am3210_133 am3211_136 am3212_139 am3213_142 am3214_145 h => ?_) 
   refine eh_let (eh_ad eh_n1 (eh_an h_r_100 eh_n15)) h (fun x7_146 x7_146' h_x7_146 h => ?_)
   obtain ⟨fx2, h_fx2, h⟩ := eh_fcK (eh_ik (eh_ad h_x6_1 eh_n1)) h
   refine er_remove he h_f0_root_101 h_f0_wayEnd_102 h_f0_waiting_103 h_fx2 h (fun f0_root_148 f0_root_148' h_f0_root_148 f0_wayEnd_149 f0_wayEnd_149' h_f0_wayEnd_149 f0_waiting_150 f0_waiting_150' h_f0_waiting_150 am521_153 am522_156 am523_159 am524_162 am525_165 am526_168 am527_171 am528_174 am529_177 am5210_180 am5211_183 am5212_186 am5213_189 am5214_192 h => ?_) 
   exact er_putIn_55 he h_p0 h_p1 h_p2 h_p3 h_x6_1 h_x7_146 h_p2 h_f0_root_148 h_f0_wayEnd_149 h_f0_waiting_150 h hK 
  ·
   exact er_putIn_55 he h_p0 h_p1 h_p2 h_p3 h_x6_1 eh_n1 h_p2 h_f0_root h_f0_wayEnd h_f0_waiting h hK 
theorem er_leaveOut_73 {e : ef_E} (he : e.1 < 80) {post : St2 → Prop} {K : ef_F17} {x3 : Nat} {x3' : Int32} {x5 : Nat} {x5' : Int32} {x6 : Nat} {x6' : Int32} {x7 : Nat} {x7' : Int32} {f0_root : Nat} {f0_root' : Int32} {f0_wayEnd : Nat} {f0_wayEnd' : Int32} {f0_waiting : Nat} {f0_waiting' : Int32} {am701 : Nat} {am702 : Nat} {am703 : Nat} {am704 : Nat} {am705 : Nat} {am706 : Nat} {am707 : Nat} {am708 : Nat} {am709 : Nat} {am7010 : Nat} {am7011 : Nat} {am7012 : Nat} {am7013 : Nat} {am7014 : Nat} (h_x3 : x3' = ef_kv e x3) (h_x5 : x5' = nI x5) (h_x6 : x6' = nI x6) (h_x7 : x7' = nI x7) (h_f0_root : f0_root' = nI f0_root) (h_f0_wayEnd : f0_wayEnd' = nI f0_wayEnd) (h_f0_waiting : f0_waiting' = nI f0_waiting) (h : ef_leaveOut_73 K x3 x5 x6 x7 f0_root f0_wayEnd f0_waiting am701 am702 am703 am704 am705 am706 am707 am708 am709 am7010 am7011 am7012 am7013 am7014 = true) (hK : er_PS e K post)  : wX_leaveOut_73 post x3' x5' x6' x7' f0_root' f0_wayEnd' f0_waiting' (eb_ar am701) (eb_ak e am702) (eb_ar am703) (eb_ar am704) (eb_ar am705) (eb_ar am706) (eb_ar am707) (eb_ar am708) (eb_ar am709) (eb_ak e am7010) (eb_ar am7011) (eb_ar am7012) (eb_ar am7013) (eb_ar am7014) := by
  refine eh_if (eh_le h_x7 eh_n0) h (fun h => ?_) (fun h => ?_)
  ·
   exact hK _ _ h_f0_root _ _ h_f0_wayEnd _ _ h_f0_waiting _ _ _ _ _ _ _ _ _ _ _ _ _ _ h
  ·
   obtain ⟨fx1, h_fx1, h⟩ := eh_fcK (eh_ka (eh_ka h_x3 h_x5) eh_n1) h
   obtain ⟨fx2, h_fx2, h⟩ := eh_fc (eh_ad (eh_ml eh_n16 (eh_ad (eh_ad h_x6 h_x5) eh_n1)) h_x7) h
   refine er_put he h_f0_root h_f0_wayEnd h_f0_waiting h_fx1 h_fx2 h (fun f0_root_100 f0_root_100' h_f0_root_100 f0_wayEnd_101 f0_wayEnd_101' h_f0_wayEnd_101 f0_waiting_102 f0_waiting_102' h_f0_waiting_102 am981_105 am982_108 am983_111 am984_114 am985_117 am986_120 am987_123 am988_126 am989_129 am9810_132 am9811_135 am9812_138 am9813_141 am9814_144 h => ?_) 
   exact hK _ _ h_f0_root_100 _ _ h_f0_wayEnd_101 _ _ h_f0_waiting_102 _ _ _ _ _ _ _ _ _ _ _ _ _ _ h
theorem er_leaveOut {e : ef_E} (he : e.1 < 80) {post : St2 → Prop} {K : ef_F17} {f0_root : Nat} {f0_root' : Int32} {f0_wayEnd : Nat} {f0_wayEnd' : Int32} {f0_waiting : Nat} {f0_waiting' : Int32} {a1 : Nat} {a2 : Nat} {a3 : Nat} {a4 : Nat} {a5 : Nat} {a6 : Nat} {a7 : Nat} {a8 : Nat} {a9 : Nat} {a10 : Nat} {a11 : Nat} {a12 : Nat} {a13 : Nat} {a14 : Nat} {p0 : Nat} {p0' : Int32} {p1 : Nat} {p1' : Int32} (h_f0_root : f0_root' = nI f0_root) (h_f0_wayEnd : f0_wayEnd' = nI f0_wayEnd) (h_f0_waiting : f0_waiting' = nI f0_waiting) (h_p0 : p0' = nI p0) (h_p1 : p1' = nI p1) (h : ef_leaveOut K f0_root f0_wayEnd f0_waiting a1 a2 a3 a4 a5 a6 a7 a8 a9 a10 a11 a12 a13 a14 p0 p1 = true) (hK : er_PS e K post)  : wpX_leaveOut post (f0_root', f0_wayEnd', f0_waiting', (eb_ar a1), (eb_ak e a2), (eb_ar a3), (eb_ar a4), (eb_ar a5), (eb_ar a6), (eb_ar a7), (eb_ar a8), (eb_ar a9), (eb_ak e a10), (eb_ar a11), (eb_ar a12), (eb_ar a13), (eb_ar a14)) p0' p1' := by
  unfold wpX_leaveOut
  refine er_stretchAt he h_f0_root h_f0_wayEnd h_f0_waiting h_p0 h_p1 h (fun r_1 r_1' h_r_1 h => ?_) 
  refine er_get he h_f0_root h_f0_wayEnd h_f0_waiting h_r_1 h (fun r_2 r_2' h_r_2 f0_root_3 f0_root_3' h_f0_root_3 f0_wayEnd_4 f0_wayEnd_4' h_f0_wayEnd_4 f0_waiting_5 f0_waiting_5' h_f0_waiting_5 am91_8 am92_11 am93_14 am94_17 am95_20 am96_23 am97_26 am98_29 am99_32 am910_35 am911_38 am912_41 am913_44 am914_47 h => ?_) 
  obtain ⟨g1, h⟩ := eh_g h
  refine eh_let (eh_sb (eh_ad (eh_ad (eh_ml eh_n256 h_p0) eh_n128) h_p1) (eh_k2i h_r_1 g1)) h (fun x5_48 x5_48' h_x5_48 h => ?_)
  obtain ⟨g2, h⟩ := eh_g h
  refine eh_let (eh_sr4 h_r_2 g2) h (fun x6_49 x6_49' h_x6_49 h => ?_)
  refine eh_let (eh_sb (eh_sb (eh_an h_r_2 eh_n15) h_x5_48) eh_n1) h (fun x7_50 x7_50' h_x7_50 h => ?_)
  refine eh_if (eh_le h_x5_48 eh_n0) h (fun h => ?_) (fun h => ?_)
  ·
   refine er_remove he h_f0_root_3 h_f0_wayEnd_4 h_f0_waiting_5 h_r_1 h (fun f0_root_53 f0_root_53' h_f0_root_53 f0_wayEnd_54 f0_wayEnd_54' h_f0_wayEnd_54 f0_waiting_55 f0_waiting_55' h_f0_waiting_55 am701_58 am702_61 am703_64 am704_67 am705_70 am706_73 am707_76 am708_79 am709_82 am7010_85 am7011_88 am7012_91 am7013_94 am7014_97 h => ?_) 
   exact er_leaveOut_73 he h_r_1 h_x5_48 h_x6_49 h_x7_50 h_f0_root_53 h_f0_wayEnd_54 h_f0_waiting_55 h hK 
  ·
   obtain ⟨fx3, h_fx3, h⟩ := eh_fc (eh_ad (eh_ml eh_n16 h_x6_49) h_x5_48) h
   refine er_put he h_f0_root_3 h_f0_wayEnd_4 h_f0_waiting_5 h_r_1 h_fx3 h (fun f0_root_146 f0_root_146' h_f0_root_146 f0_wayEnd_147 f0_wayEnd_147' h_f0_wayEnd_147 f0_waiting_148 f0_waiting_148' h_f0_waiting_148 am621_151 am622_154 am623_157 am624_160 am625_163 am626_166 am627_169 am628_172 am629_175 am6210_178 am6211_181 am6212_184 am6213_187 am6214_190 h => ?_) 
   exact er_leaveOut_73 he h_r_1 h_x5_48 h_x6_49 h_x7_50 h_f0_root_146 h_f0_wayEnd_147 h_f0_waiting_148 h hK 
theorem er_moveBlock_135 {e : ef_E} (he : e.1 < 80) {post : Int32 → St2 → Prop} {K : ef_F18} {x1 : Nat} {x1' : Int32} {x2 : Nat} {x2' : Int32} {x3 : Nat} {x3' : Int32} {x6 : Nat} {x6' : Int32} {x7 : Nat} {x7' : Int32} {x8 : Nat} {x8' : Int32} {f0_root : Nat} {f0_root' : Int32} {f0_wayEnd : Nat} {f0_wayEnd' : Int32} {f0_waiting : Nat} {f0_waiting' : Int32} (hK : er_PI e K post)  (h_x1 : x1' = nI x1) (h_x2 : x2' = nI x2) (h_x3 : x3' = nI x3) (h_x6 : x6' = nI x6) (h_x7 : x7' = nI x7) (h_x8 : x8' = nI x8) (h_f0_root : f0_root' = nI f0_root) (h_f0_wayEnd : f0_wayEnd' = nI f0_wayEnd) (h_f0_waiting : f0_waiting' = nI f0_waiting) : ∀ (n : Nat) (x9 : Nat) (x9' : Int32) (_ : x9' = nI x9) (a1 : Nat) (a2 : Nat) (a3 : Nat) (a4 : Nat) (a5 : Nat) (a6 : Nat) (a7 : Nat) (a8 : Nat) (a9 : Nat) (a10 : Nat) (a11 : Nat) (a12 : Nat) (a13 : Nat) (a14 : Nat), ef_moveBlock_135 K x1 x2 x3 x6 x7 x8 f0_root f0_wayEnd f0_waiting n x9 a1 a2 a3 a4 a5 a6 a7 a8 a9 a10 a11 a12 a13 a14 = true → wX_moveBlock_135 post x1' x2' x3' x6' x7' x8' f0_root' f0_wayEnd' f0_waiting' n x9' (eb_ar a1) (eb_ak e a2) (eb_ar a3) (eb_ar a4) (eb_ar a5) (eb_ar a6) (eb_ar a7) (eb_ar a8) (eb_ar a9) (eb_ak e a10) (eb_ar a11) (eb_ar a12) (eb_ar a13) (eb_ar a14) := by
  intro n
  induction n with
  | zero =>
    intro x9 x9' h_x9 a1 a2 a3 a4 a5 a6 a7 a8 a9 a10 a11 a12 a13 a14 h
    exact absurd (show false = true from h) Bool.false_ne_true
  | succ n ih =>
    intro x9 x9' h_x9 a1 a2 a3 a4 a5 a6 a7 a8 a9 a10 a11 a12 a13 a14 h
    have h : ef_moveBlock_135_b K x1 x2 x3 x6 x7 x8 f0_root f0_wayEnd f0_waiting (ef_moveBlock_135 K x1 x2 x3 x6 x7 x8 f0_root f0_wayEnd f0_waiting n) x9 a1 a2 a3 a4 a5 a6 a7 a8 a9 a10 a11 a12 a13 a14 = true := h
    refine eh_if (eh_le eh_n4 h_x9) h (fun h => ?_) (fun h => ?_)
    ·
     refine er_putIn he h_f0_root h_f0_wayEnd h_f0_waiting h_x1 h_x2 h_x8 h_x6 h_x7 h (fun f0_root_9 f0_root_9' h_f0_root_9 f0_wayEnd_10 f0_wayEnd_10' h_f0_wayEnd_10 f0_waiting_11 f0_waiting_11' h_f0_waiting_11 am1871_14 am1872_17 am1873_20 am1874_23 am1875_26 am1876_29 am1877_32 am1878_35 am1879_38 am18710_41 am18711_44 am18712_47 am18713_50 am18714_53 h => ?_) 
     exact hK _ _ h_x8 _ _ h_f0_root_9 _ _ h_f0_wayEnd_10 _ _ h_f0_waiting_11 _ _ _ _ _ _ _ _ _ _ _ _ _ _ h
    ·
     refine eh_if (eh_lt h_x3 eh_n0) h (fun h => ?_) (fun h => ?_)
     ·
      refine eh_in (eh_ad (eh_ml eh_n4 h_x8) h_x9) h (fun f1 h => ?_)
      refine eh_letaK (eh_sk (eh_ad (eh_ml eh_n4 h_x8) h_x9) f1 (eh_ik eh_n0)) h (fun a10_56 h => ?_)
      refine eh_let (eh_ad h_x9 eh_n1) h (fun x9_57 x9_57' h_x9_57 h => ?_)
      exact ih _ _ h_x9_57 _ _ _ _ _ _ _ _ _ _ _ _ _ _ h
     ·
      refine eh_in (eh_ad (eh_ml eh_n4 h_x3) h_x9) h (fun f2 h => ?_)
      refine eh_in (eh_ad (eh_ml eh_n4 h_x8) h_x9) h (fun f3 h => ?_)
      refine eh_letaK (eh_sk (eh_ad (eh_ml eh_n4 h_x8) h_x9) f3 (eh_gk (eh_ad (eh_ml eh_n4 h_x3) h_x9) f2)) h (fun a10_60 h => ?_)
      refine eh_let (eh_ad h_x9 eh_n1) h (fun x9_61 x9_61' h_x9_61 h => ?_)
      exact ih _ _ h_x9_61 _ _ _ _ _ _ _ _ _ _ _ _ _ _ h
theorem er_moveBlock_114 {e : ef_E} (he : e.1 < 80) {post : Int32 → St2 → Prop} {K : ef_F18} {x1 : Nat} {x1' : Int32} {x2 : Nat} {x2' : Int32} {x3 : Nat} {x3' : Int32} {x4 : Nat} {x4' : Int64} {x6 : Nat} {x6' : Int32} {x7 : Nat} {x7' : Int32} {f0_root : Nat} {f0_root' : Int32} {f0_wayEnd : Nat} {f0_wayEnd' : Int32} {f0_waiting : Nat} {f0_waiting' : Int32} {a1 : Nat} {a2 : Nat} {a3 : Nat} {a4 : Nat} {a5 : Nat} {a6 : Nat} {a7 : Nat} {a8 : Nat} {a9 : Nat} {a10 : Nat} {a11 : Nat} {a12 : Nat} {a13 : Nat} {a14 : Nat} (hK : er_PI e K post)  (h_x1 : x1' = nI x1) (h_x2 : x2' = nI x2) (h_x3 : x3' = nI x3) (h_x4 : x4' = lN x4) (h_x6 : x6' = nI x6) (h_x7 : x7' = nI x7) (h_f0_root : f0_root' = nI f0_root) (h_f0_wayEnd : f0_wayEnd' = nI f0_wayEnd) (h_f0_waiting : f0_waiting' = nI f0_waiting) : ∀ (n : Nat) (x8 : Nat) (x8' : Int32) (_ : x8' = nI x8), ef_moveBlock_114 K x1 x2 x3 x4 x6 x7 f0_root f0_wayEnd f0_waiting a1 a2 a3 a4 a5 a6 a7 a8 a9 a10 a11 a12 a13 a14 n x8 = true → wX_moveBlock_114 post x1' x2' x3' x4' x6' x7' f0_root' f0_wayEnd' f0_waiting' (eb_ar a1) (eb_ak e a2) (eb_ar a3) (eb_ar a4) (eb_ar a5) (eb_ar a6) (eb_ar a7) (eb_ar a8) (eb_ar a9) (eb_ak e a10) (eb_ar a11) (eb_ar a12) (eb_ar a13) (eb_ar a14) n x8' := by
  intro n
  induction n with
  | zero =>
    intro x8 x8' h_x8 h
    exact absurd (show false = true from h) Bool.false_ne_true
  | succ n ih =>
    intro x8 x8' h_x8 h
    have h : ef_moveBlock_114_b K x1 x2 x3 x4 x6 x7 f0_root f0_wayEnd f0_waiting a1 a2 a3 a4 a5 a6 a7 a8 a9 a10 a11 a12 a13 a14 (ef_moveBlock_114 K x1 x2 x3 x4 x6 x7 f0_root f0_wayEnd f0_waiting a1 a2 a3 a4 a5 a6 a7 a8 a9 a10 a11 a12 a13 a14 n) x8 = true := h
    obtain ⟨g1, h⟩ := eh_g h
    refine eh_if (eh_bt0 h_x4 h_x8 g1) h (fun h => ?_) (fun h => ?_)
    ·
     refine Exists.intro 120 ?_
     exact er_moveBlock_135 he hK  h_x1 h_x2 h_x3 h_x6 h_x7 h_x8 h_f0_root h_f0_wayEnd h_f0_waiting 120 _ _ eh_n0 _ _ _ _ _ _ _ _ _ _ _ _ _ _ h
    ·
     refine eh_let (eh_ad h_x8 eh_n1) h (fun x8_62 x8_62' h_x8_62 h => ?_)
     exact ih _ _ h_x8_62 h
theorem er_moveBlock_86 {e : ef_E} (he : e.1 < 80) {post : Int32 → St2 → Prop} {K : ef_F18} {x1 : Nat} {x1' : Int32} {x2 : Nat} {x2' : Int32} {x3 : Nat} {x3' : Int32} {x4 : Nat} {x4' : Int64} {x6 : Nat} {x6' : Int32} {x7 : Nat} {x7' : Int32} {x8 : Nat} {x8' : Int32} {f0_root : Nat} {f0_root' : Int32} {f0_wayEnd : Nat} {f0_wayEnd' : Int32} {f0_waiting : Nat} {f0_waiting' : Int32} {a1 : Nat} {a2 : Nat} {a3 : Nat} {a4 : Nat} {a5 : Nat} {a6 : Nat} {a7 : Nat} {a8 : Nat} {a9 : Nat} {a10 : Nat} {a11 : Nat} {a12 : Nat} {a13 : Nat} {a14 : Nat} (h_x1 : x1' = nI x1) (h_x2 : x2' = nI x2) (h_x3 : x3' = nI x3) (h_x4 : x4' = lN x4) (h_x6 : x6' = nI x6) (h_x7 : x7' = nI x7) (h_x8 : x8' = nI x8) (h_f0_root : f0_root' = nI f0_root) (h_f0_wayEnd : f0_wayEnd' = nI f0_wayEnd) (h_f0_waiting : f0_waiting' = nI f0_waiting) (h : ef_moveBlock_86 K x1 x2 x3 x4 x6 x7 x8 f0_root f0_wayEnd f0_waiting a1 a2 a3 a4 a5 a6 a7 a8 a9 a10 a11 a12 a13 a14 = true) (hK : er_PI e K post)  : wX_moveBlock_86 post x1' x2' x3' x4' x6' x7' x8' f0_root' f0_wayEnd' f0_waiting' (eb_ar a1) (eb_ak e a2) (eb_ar a3) (eb_ar a4) (eb_ar a5) (eb_ar a6) (eb_ar a7) (eb_ar a8) (eb_ar a9) (eb_ak e a10) (eb_ar a11) (eb_ar a12) (eb_ar a13) (eb_ar a14) := by
  refine eh_if (eh_le h_x7 eh_n0) h (fun h => ?_) (fun h => ?_)
  ·
   refine Exists.intro 120 ?_
   exact er_moveBlock_114 he hK  h_x1 h_x2 h_x3 h_x4 h_x6 h_x7 h_f0_root h_f0_wayEnd h_f0_waiting 120 _ _ h_x8 h
  ·
   obtain ⟨g1, h⟩ := eh_g h
   refine eh_if (eh_bt0 h_x4 (eh_sb h_x7 eh_n1) g1) h (fun h => ?_) (fun h => ?_)
   ·
    refine eh_let (eh_sb h_x7 eh_n1) h (fun x8_64 x8_64' h_x8_64 h => ?_)
    refine Exists.intro 120 ?_
    exact er_moveBlock_135 he hK  h_x1 h_x2 h_x3 h_x6 h_x7 h_x8_64 h_f0_root h_f0_wayEnd h_f0_waiting 120 _ _ eh_n0 _ _ _ _ _ _ _ _ _ _ _ _ _ _ h
   ·
    refine Exists.intro 120 ?_
    exact er_moveBlock_114 he hK  h_x1 h_x2 h_x3 h_x4 h_x6 h_x7 h_f0_root h_f0_wayEnd h_f0_waiting 120 _ _ h_x8 h
theorem er_moveBlock_46 {e : ef_E} (he : e.1 < 80) {post : Int32 → St2 → Prop} {K : ef_F18} {x1 : Nat} {x1' : Int32} {x2 : Nat} {x2' : Int32} {x3 : Nat} {x3' : Int32} {x4 : Nat} {x4' : Int64} {x6 : Nat} {x6' : Int32} {z0 : Nat} {z0' : Int32} {f0_root : Nat} {f0_root' : Int32} {f0_wayEnd : Nat} {f0_wayEnd' : Int32} {f0_waiting : Nat} {f0_waiting' : Int32} {a1 : Nat} {a2 : Nat} {a3 : Nat} {a4 : Nat} {a5 : Nat} {a6 : Nat} {a7 : Nat} {a8 : Nat} {a9 : Nat} {a10 : Nat} {a11 : Nat} {a12 : Nat} {a13 : Nat} {a14 : Nat} (h_x1 : x1' = nI x1) (h_x2 : x2' = nI x2) (h_x3 : x3' = nI x3) (h_x4 : x4' = lN x4) (h_x6 : x6' = nI x6) (h_z0 : z0' = nI z0) (h_f0_root : f0_root' = nI f0_root) (h_f0_wayEnd : f0_wayEnd' = nI f0_wayEnd) (h_f0_waiting : f0_waiting' = nI f0_waiting) (h : ef_moveBlock_46 K x1 x2 x3 x4 x6 z0 f0_root f0_wayEnd f0_waiting a1 a2 a3 a4 a5 a6 a7 a8 a9 a10 a11 a12 a13 a14 = true) (hK : er_PI e K post)  : wX_moveBlock_46 post x1' x2' x3' x4' x6' z0' f0_root' f0_wayEnd' f0_waiting' (eb_ar a1) (eb_ak e a2) (eb_ar a3) (eb_ar a4) (eb_ar a5) (eb_ar a6) (eb_ar a7) (eb_ar a8) (eb_ar a9) (eb_ak e a10) (eb_ar a11) (eb_ar a12) (eb_ar a13) (eb_ar a14) := by
  refine eh_if (eh_lt h_x6 eh_n0) h (fun h => ?_) (fun h => ?_)
  ·
   exact er_moveBlock_86 he h_x1 h_x2 h_x3 h_x4 h_x6 h_z0 eh_n0 h_f0_root h_f0_wayEnd h_f0_waiting h hK 
  ·
   refine eh_if (eh_le eh_n47 h_x6) h (fun h => ?_) (fun h => ?_)
   ·
    exact er_moveBlock_86 he h_x1 h_x2 h_x3 h_x4 h_x6 h_z0 eh_n0 h_f0_root h_f0_wayEnd h_f0_waiting h hK 
   ·
    obtain ⟨g1, h⟩ := eh_g h
    refine eh_if (eh_bt0 h_x4 (eh_ad h_x6 eh_n1) g1) h (fun h => ?_) (fun h => ?_)
    ·
     refine eh_let (eh_ad h_x6 eh_n1) h (fun x8_67 x8_67' h_x8_67 h => ?_)
     refine Exists.intro 120 ?_
     exact er_moveBlock_135 he hK  h_x1 h_x2 h_x3 h_x6 h_z0 h_x8_67 h_f0_root h_f0_wayEnd h_f0_waiting 120 _ _ eh_n0 _ _ _ _ _ _ _ _ _ _ _ _ _ _ h
    ·
     exact er_moveBlock_86 he h_x1 h_x2 h_x3 h_x4 h_x6 h_z0 eh_n0 h_f0_root h_f0_wayEnd h_f0_waiting h hK 
theorem er_moveBlock_26 {e : ef_E} (he : e.1 < 80) {post : Int32 → St2 → Prop} {K : ef_F18} {x1 : Nat} {x1' : Int32} {x2 : Nat} {x2' : Int32} {x3 : Nat} {x3' : Int32} {x4 : Nat} {x4' : Int64} {z0 : Nat} {z0' : Int32} {f0_root : Nat} {f0_root' : Int32} {f0_wayEnd : Nat} {f0_wayEnd' : Int32} {f0_waiting : Nat} {f0_waiting' : Int32} {a1 : Nat} {a2 : Nat} {a3 : Nat} {a4 : Nat} {a5 : Nat} {a6 : Nat} {a7 : Nat} {a8 : Nat} {a9 : Nat} {a10 : Nat} {a11 : Nat} {a12 : Nat} {a13 : Nat} {a14 : Nat} (h_x1 : x1' = nI x1) (h_x2 : x2' = nI x2) (h_x3 : x3' = nI x3) (h_x4 : x4' = lN x4) (h_z0 : z0' = nI z0) (h_f0_root : f0_root' = nI f0_root) (h_f0_wayEnd : f0_wayEnd' = nI f0_wayEnd) (h_f0_waiting : f0_waiting' = nI f0_waiting) (h : ef_moveBlock_26 K x1 x2 x3 x4 z0 f0_root f0_wayEnd f0_waiting a1 a2 a3 a4 a5 a6 a7 a8 a9 a10 a11 a12 a13 a14 = true) (hK : er_PI e K post)  : wX_moveBlock_26 post x1' x2' x3' x4' z0' f0_root' f0_wayEnd' f0_waiting' (eb_ar a1) (eb_ak e a2) (eb_ar a3) (eb_ar a4) (eb_ar a5) (eb_ar a6) (eb_ar a7) (eb_ar a8) (eb_ar a9) (eb_ak e a10) (eb_ar a11) (eb_ar a12) (eb_ar a13) (eb_ar a14) := by
  refine eh_if (eh_le eh_n7 h_x2) h (fun h => ?_) (fun h => ?_)
  ·
   exact er_moveBlock_46 he h_x1 h_x2 h_x3 h_x4 h_z0 eh_m1 h_f0_root h_f0_wayEnd h_f0_waiting h hK 
  ·
   obtain ⟨fx1, h_fx1, h⟩ := eh_fc (eh_ad h_x2 eh_n1) h
   refine er_placeOf he h_f0_root h_f0_wayEnd h_f0_waiting h_x1 h_fx1 h (fun r_68 r_68' h_r_68 f0_root_69 f0_root_69' h_f0_root_69 f0_wayEnd_70 f0_wayEnd_70' h_f0_wayEnd_70 f0_waiting_71 f0_waiting_71' h_f0_waiting_71 am391_74 am392_77 am393_80 am394_83 am395_86 am396_89 am397_92 am398_95 am399_98 am3910_101 am3911_104 am3912_107 am3913_110 am3914_113 h => ?_) 
   exact er_moveBlock_46 he h_x1 h_x2 h_x3 h_x4 h_z0 h_r_68 h_f0_root_69 h_f0_wayEnd_70 h_f0_waiting_71 h hK 
theorem er_moveBlock_10 {e : ef_E} (he : e.1 < 80) {post : Int32 → St2 → Prop} {K : ef_F18} {x1 : Nat} {x1' : Int32} {x2 : Nat} {x2' : Int32} {x3 : Nat} {x3' : Int32} {x4 : Nat} {x4' : Int64} {f0_root : Nat} {f0_root' : Int32} {f0_wayEnd : Nat} {f0_wayEnd' : Int32} {f0_waiting : Nat} {f0_waiting' : Int32} {a1 : Nat} {a2 : Nat} {a3 : Nat} {a4 : Nat} {a5 : Nat} {a6 : Nat} {a7 : Nat} {a8 : Nat} {a9 : Nat} {a10 : Nat} {a11 : Nat} {a12 : Nat} {a13 : Nat} {a14 : Nat} (h_x1 : x1' = nI x1) (h_x2 : x2' = nI x2) (h_x3 : x3' = nI x3) (h_x4 : x4' = lN x4) (h_f0_root : f0_root' = nI f0_root) (h_f0_wayEnd : f0_wayEnd' = nI f0_wayEnd) (h_f0_waiting : f0_waiting' = nI f0_waiting) (h : ef_moveBlock_10 K x1 x2 x3 x4 f0_root f0_wayEnd f0_waiting a1 a2 a3 a4 a5 a6 a7 a8 a9 a10 a11 a12 a13 a14 = true) (hK : er_PI e K post)  : wX_moveBlock_10 post x1' x2' x3' x4' f0_root' f0_wayEnd' f0_waiting' (eb_ar a1) (eb_ak e a2) (eb_ar a3) (eb_ar a4) (eb_ar a5) (eb_ar a6) (eb_ar a7) (eb_ar a8) (eb_ar a9) (eb_ak e a10) (eb_ar a11) (eb_ar a12) (eb_ar a13) (eb_ar a14) := by
  refine eh_if (eh_le h_x2 eh_n0) h (fun h => ?_) (fun h => ?_)
  ·
   exact er_moveBlock_26 he h_x1 h_x2 h_x3 h_x4 eh_m1 h_f0_root h_f0_wayEnd h_f0_waiting h hK 
  ·
   obtain ⟨fx1, h_fx1, h⟩ := eh_fc (eh_sb h_x2 eh_n1) h
   refine er_placeOf he h_f0_root h_f0_wayEnd h_f0_waiting h_x1 h_fx1 h (fun r_114 r_114' h_r_114 f0_root_115 f0_root_115' h_f0_root_115 f0_wayEnd_116 f0_wayEnd_116' h_f0_wayEnd_116 f0_waiting_117 f0_waiting_117' h_f0_waiting_117 am191_120 am192_123 am193_126 am194_129 am195_132 am196_135 am197_138 am198_141 am199_144 am1910_147 am1911_150 am1912_153 am1913_156 am1914_159 h => ?_) 
   exact er_moveBlock_26 he h_x1 h_x2 h_x3 h_x4 h_r_114 h_f0_root_115 h_f0_wayEnd_116 h_f0_waiting_117 h hK 
theorem er_moveBlock {e : ef_E} (he : e.1 < 80) {post : Int32 → St2 → Prop} {K : ef_F18} {f0_root : Nat} {f0_root' : Int32} {f0_wayEnd : Nat} {f0_wayEnd' : Int32} {f0_waiting : Nat} {f0_waiting' : Int32} {a1 : Nat} {a2 : Nat} {a3 : Nat} {a4 : Nat} {a5 : Nat} {a6 : Nat} {a7 : Nat} {a8 : Nat} {a9 : Nat} {a10 : Nat} {a11 : Nat} {a12 : Nat} {a13 : Nat} {a14 : Nat} {p0 : Nat} {p0' : Int32} {p1 : Nat} {p1' : Int32} {p2 : Nat} {p2' : Int32} {p3 : Nat} {p3' : Int64} (h_f0_root : f0_root' = nI f0_root) (h_f0_wayEnd : f0_wayEnd' = nI f0_wayEnd) (h_f0_waiting : f0_waiting' = nI f0_waiting) (h_p0 : p0' = nI p0) (h_p1 : p1' = nI p1) (h_p2 : p2' = nI p2) (h_p3 : p3' = lN p3) (h : ef_moveBlock K f0_root f0_wayEnd f0_waiting a1 a2 a3 a4 a5 a6 a7 a8 a9 a10 a11 a12 a13 a14 p0 p1 p2 p3 = true) (hK : er_PI e K post)  : wpX_moveBlock post (f0_root', f0_wayEnd', f0_waiting', (eb_ar a1), (eb_ak e a2), (eb_ar a3), (eb_ar a4), (eb_ar a5), (eb_ar a6), (eb_ar a7), (eb_ar a8), (eb_ar a9), (eb_ak e a10), (eb_ar a11), (eb_ar a12), (eb_ar a13), (eb_ar a14)) p0' p1' p2' p3' := by
  refine eh_if (eh_lt h_p2 eh_n0) h (fun h => ?_) (fun h => ?_)
  ·
   exact er_moveBlock_10 he h_p0 h_p1 h_p2 h_p3 h_f0_root h_f0_wayEnd h_f0_waiting h hK 
  ·
   refine er_leaveOut he h_f0_root h_f0_wayEnd h_f0_waiting h_p0 h_p1 h (fun f0_root_161 f0_root_161' h_f0_root_161 f0_wayEnd_162 f0_wayEnd_162' h_f0_wayEnd_162 f0_waiting_163 f0_waiting_163' h_f0_waiting_163 am71_166 am72_169 am73_172 am74_175 am75_178 am76_181 am77_184 am78_187 am79_190 am710_193 am711_196 am712_199 am713_202 am714_205 h => ?_) 
   exact er_moveBlock_10 he h_p0 h_p1 h_p2 h_p3 h_f0_root_161 h_f0_wayEnd_162 h_f0_waiting_163 h hK 
theorem er_write_135 {e : ef_E} (he : e.1 < 80) {post : Int32 → St2 → Prop} {K : ef_F18} {x2 : Nat} {x2' : Int32} {x3 : Nat} {x3' : Int32} {x6 : Nat} {x6' : Int32} {f0_root : Nat} {f0_root' : Int32} {f0_wayEnd : Nat} {f0_wayEnd' : Int32} {f0_waiting : Nat} {f0_waiting' : Int32} {am1301 : Nat} {am1302 : Nat} {am1303 : Nat} {am1304 : Nat} {am1305 : Nat} {am1306 : Nat} {am1307 : Nat} {am1308 : Nat} {am1309 : Nat} {am13010 : Nat} {am13011 : Nat} {am13012 : Nat} {am13013 : Nat} {am13014 : Nat} (h_x2 : x2' = nI x2) (h_x3 : x3' = ef_kv e x3) (h_x6 : x6' = nI x6) (h_f0_root : f0_root' = nI f0_root) (h_f0_wayEnd : f0_wayEnd' = nI f0_wayEnd) (h_f0_waiting : f0_waiting' = nI f0_waiting) (h : ef_write_135 K x2 x3 x6 f0_root f0_wayEnd f0_waiting am1301 am1302 am1303 am1304 am1305 am1306 am1307 am1308 am1309 am13010 am13011 am13012 am13013 am13014 = true) (hK : er_PI e K post)  : wX_write_135 post x2' x3' x6' f0_root' f0_wayEnd' f0_waiting' (eb_ar am1301) (eb_ak e am1302) (eb_ar am1303) (eb_ar am1304) (eb_ar am1305) (eb_ar am1306) (eb_ar am1307) (eb_ar am1308) (eb_ar am1309) (eb_ak e am13010) (eb_ar am13011) (eb_ar am13012) (eb_ar am13013) (eb_ar am13014) := by
  refine eh_in (eh_ad (eh_ml eh_n4 h_x6) (eh_an h_x2 eh_n3)) h (fun f1 h => ?_)
  refine eh_letaK (eh_sk (eh_ad (eh_ml eh_n4 h_x6) (eh_an h_x2 eh_n3)) f1 h_x3) h (fun am13010_246 h => ?_)
  exact hK _ _ eh_n0 _ _ h_f0_root _ _ h_f0_wayEnd _ _ h_f0_waiting _ _ _ _ _ _ _ _ _ _ _ _ _ _ h
theorem er_write_90 {e : ef_E} (he : e.1 < 80) {post : Int32 → St2 → Prop} {K : ef_F18} {x1 : Nat} {x1' : Int32} {x2 : Nat} {x2' : Int32} {x3 : Nat} {x3' : Int32} {x5 : Nat} {x5' : Int32} {x6 : Nat} {x6' : Int32} {x8 : Nat} {x8' : Int64} {f0_root : Nat} {f0_root' : Int32} {f0_wayEnd : Nat} {f0_wayEnd' : Int32} {f0_waiting : Nat} {f0_waiting' : Int32} {am681 : Nat} {am682 : Nat} {am683 : Nat} {am684 : Nat} {am685 : Nat} {am686 : Nat} {am687 : Nat} {am688 : Nat} {am689 : Nat} {am6810 : Nat} {am6811 : Nat} {am6812 : Nat} {am6813 : Nat} {am6814 : Nat} (h_x1 : x1' = nI x1) (h_x2 : x2' = nI x2) (h_x3 : x3' = ef_kv e x3) (h_x5 : x5' = nI x5) (h_x6 : x6' = nI x6) (h_x8 : x8' = lN x8) (h_f0_root : f0_root' = nI f0_root) (h_f0_wayEnd : f0_wayEnd' = nI f0_wayEnd) (h_f0_waiting : f0_waiting' = nI f0_waiting) (h : ef_write_90 K x1 x2 x3 x5 x6 x8 f0_root f0_wayEnd f0_waiting am681 am682 am683 am684 am685 am686 am687 am688 am689 am6810 am6811 am6812 am6813 am6814 = true) (hK : er_PI e K post)  : wX_write_90 post x1' x2' x3' x5' x6' x8' f0_root' f0_wayEnd' f0_waiting' (eb_ar am681) (eb_ak e am682) (eb_ar am683) (eb_ar am684) (eb_ar am685) (eb_ar am686) (eb_ar am687) (eb_ar am688) (eb_ar am689) (eb_ak e am6810) (eb_ar am6811) (eb_ar am6812) (eb_ar am6813) (eb_ar am6814) := by
  unfold wX_write_90
  refine er_blocksIn he h_f0_root h_f0_wayEnd h_f0_waiting h_f0_root h (fun r_149 r_149' h_r_149 f0_root_150 f0_root_150' h_f0_root_150 f0_wayEnd_151 f0_wayEnd_151' h_f0_wayEnd_151 f0_waiting_152 f0_waiting_152' h_f0_waiting_152 am971_155 am972_158 am973_161 am974_164 am975_167 am976_170 am977_173 am978_176 am979_179 am9710_182 am9711_185 am9712_188 am9713_191 am9714_194 h => ?_) 
  refine eh_letL (eh_lo h_x8 h_r_149) h (fun x10_195 x10_195' h_x10_195 h => ?_)
  refine er_bitsIn he h_f0_root_150 h_f0_wayEnd_151 h_f0_waiting_152 h_x10_195 h (fun r_196 r_196' h_r_196 h => ?_) 
  refine eh_if (eh_lt h_r_196 eh_n24) h (fun h => ?_) (fun h => ?_)
  ·
   refine eh_in h_x1 h (fun f1 h => ?_)
   obtain ⟨fx2, h_fx2, h⟩ := eh_fc (eh_gt h_x1 f1) h
   refine er_moveBlock he h_f0_root_150 h_f0_wayEnd_151 h_f0_waiting_152 h_fx2 h_x5 h_x6 h_x10_195 h (fun r_199 r_199' h_r_199 f0_root_200 f0_root_200' h_f0_root_200 f0_wayEnd_201 f0_wayEnd_201' h_f0_wayEnd_201 f0_waiting_202 f0_waiting_202' h_f0_waiting_202 am1301_205 am1302_208 am1303_211 am1304_214 am1305_217 am1306_220 am1307_223 am1308_226 am1309_229 am13010_232 am13011_235 am13012_238 am13013_241 am13014_244 h => ?_) 
   exact er_write_135 he h_x2 h_x3 h_r_199 h_f0_root_200 h_f0_wayEnd_201 h_f0_waiting_202 h hK 
  ·
   exact hK _ _ eh_m2 _ _ h_f0_root_150 _ _ h_f0_wayEnd_151 _ _ h_f0_waiting_152 _ _ _ _ _ _ _ _ _ _ _ _ _ _ h
theorem er_write {e : ef_E} (he : e.1 < 80) {post : Int32 → St2 → Prop} {K : ef_F18} {f0_root : Nat} {f0_root' : Int32} {f0_wayEnd : Nat} {f0_wayEnd' : Int32} {f0_waiting : Nat} {f0_waiting' : Int32} {a1 : Nat} {a2 : Nat} {a3 : Nat} {a4 : Nat} {a5 : Nat} {a6 : Nat} {a7 : Nat} {a8 : Nat} {a9 : Nat} {a10 : Nat} {a11 : Nat} {a12 : Nat} {a13 : Nat} {a14 : Nat} {p0 : Nat} {p0' : Int32} {p1 : Nat} {p1' : Int32} {p2 : Nat} {p2' : Int32} (h_f0_root : f0_root' = nI f0_root) (h_f0_wayEnd : f0_wayEnd' = nI f0_wayEnd) (h_f0_waiting : f0_waiting' = nI f0_waiting) (h_p0 : p0' = nI p0) (h_p1 : p1' = nI p1) (h_p2 : p2' = ef_kv e p2) (h : ef_write K f0_root f0_wayEnd f0_waiting a1 a2 a3 a4 a5 a6 a7 a8 a9 a10 a11 a12 a13 a14 p0 p1 p2 = true) (hK : er_PI e K post)  : wpX_write post (f0_root', f0_wayEnd', f0_waiting', (eb_ar a1), (eb_ak e a2), (eb_ar a3), (eb_ar a4), (eb_ar a5), (eb_ar a6), (eb_ar a7), (eb_ar a8), (eb_ar a9), (eb_ak e a10), (eb_ar a11), (eb_ar a12), (eb_ar a13), (eb_ar a14)) p0' p1' p2' := by
  unfold wpX_write
  refine er_isHandle he h_f0_root h_f0_wayEnd h_f0_waiting h_p0 h (fun r_1 r_1' h_r_1 h => ?_) 
  refine eh_if (eh_eq h_r_1 eh_n0) h (fun h => ?_) (fun h => ?_)
  ·
   exact hK _ _ eh_m1 _ _ h_f0_root _ _ h_f0_wayEnd _ _ h_f0_waiting _ _ _ _ _ _ _ _ _ _ _ _ _ _ h
  ·
   refine eh_if (eh_lt h_p1 eh_n0) h (fun h => ?_) (fun h => ?_)
   ·
    exact hK _ _ eh_m1 _ _ h_f0_root _ _ h_f0_wayEnd _ _ h_f0_waiting _ _ _ _ _ _ _ _ _ _ _ _ _ _ h
   ·
    refine eh_if (eh_le h_p1 eh_n31) h (fun h => ?_) (fun h => ?_)
    ·
     refine er_fileFault he h_f0_root h_f0_wayEnd h_f0_waiting h_p0 h (fun r_5 r_5' h_r_5 f0_root_6 f0_root_6' h_f0_root_6 f0_wayEnd_7 f0_wayEnd_7' h_f0_wayEnd_7 f0_waiting_8 f0_waiting_8' h_f0_waiting_8 am221_11 am222_14 am223_17 am224_20 am225_23 am226_26 am227_29 am228_32 am229_35 am2210_38 am2211_41 am2212_44 am2213_47 am2214_50 h => ?_) 
     refine eh_if (eh_eq h_r_5 eh_n0) h (fun h => ?_) (fun h => ?_)
     ·
      obtain ⟨g1, h⟩ := eh_g h
      refine eh_let (eh_sr2 h_p1 g1) h (fun x5_52 x5_52' h_x5_52 h => ?_)
      refine eh_in h_p0 h (fun f2 h => ?_)
      obtain ⟨fx3, h_fx3, h⟩ := eh_fc (eh_gt h_p0 f2) h
      refine er_placeOf he h_f0_root_6 h_f0_wayEnd_7 h_f0_waiting_8 h_fx3 h_x5_52 h (fun r_54 r_54' h_r_54 f0_root_55 f0_root_55' h_f0_root_55 f0_wayEnd_56 f0_wayEnd_56' h_f0_wayEnd_56 f0_waiting_57 f0_waiting_57' h_f0_waiting_57 am491_60 am492_63 am493_66 am494_69 am495_72 am496_75 am497_78 am498_81 am499_84 am4910_87 am4911_90 am4912_93 am4913_96 am4914_99 h => ?_) 
      refine er_validPlace he h_f0_root_55 h_f0_wayEnd_56 h_f0_waiting_57 h (fun r_100 r_100' h_r_100 h => ?_) 
      refine eh_in h_r_100 h (fun f4 h => ?_)
      obtain ⟨fx5, h_fx5, h⟩ := eh_fc (eh_gt h_r_100 f4) h
      refine er_blocksIn he h_f0_root_55 h_f0_wayEnd_56 h_f0_waiting_57 h_fx5 h (fun r_102 r_102' h_r_102 f0_root_103 f0_root_103' h_f0_root_103 f0_wayEnd_104 f0_wayEnd_104' h_f0_wayEnd_104 f0_waiting_105 f0_waiting_105' h_f0_waiting_105 am681_108 am682_111 am683_114 am684_117 am685_120 am686_123 am687_126 am688_129 am689_132 am6810_135 am6811_138 am6812_141 am6813_144 am6814_147 h => ?_) 
      refine eh_if (eh_lt h_r_54 eh_n0) h (fun h => ?_) (fun h => ?_)
      ·
       exact er_write_90 he h_p0 h_p1 h_p2 h_x5_52 h_r_54 h_r_102 h_f0_root_103 h_f0_wayEnd_104 h_f0_waiting_105 h hK 
      ·
       obtain ⟨g6, h⟩ := eh_g h
       refine eh_if (eh_bt0 h_r_102 h_r_54 g6) h (fun h => ?_) (fun h => ?_)
       ·
        exact er_write_135 he h_p1 h_p2 h_r_54 h_f0_root_103 h_f0_wayEnd_104 h_f0_waiting_105 h hK 
       ·
        exact er_write_90 he h_p0 h_p1 h_p2 h_x5_52 h_r_54 h_r_102 h_f0_root_103 h_f0_wayEnd_104 h_f0_waiting_105 h hK 
     ·
      exact hK _ _ h_r_5 _ _ h_f0_root_6 _ _ h_f0_wayEnd_7 _ _ h_f0_waiting_8 _ _ _ _ _ _ _ _ _ _ _ _ _ _ h
    ·
     exact hK _ _ eh_m1 _ _ h_f0_root _ _ h_f0_wayEnd _ _ h_f0_waiting _ _ _ _ _ _ _ _ _ _ _ _ _ _ h
theorem er_read {e : ef_E} (he : e.1 < 80) {post : Int32 → St2 → Prop} {K : ef_F18} {f0_root : Nat} {f0_root' : Int32} {f0_wayEnd : Nat} {f0_wayEnd' : Int32} {f0_waiting : Nat} {f0_waiting' : Int32} {a1 : Nat} {a2 : Nat} {a3 : Nat} {a4 : Nat} {a5 : Nat} {a6 : Nat} {a7 : Nat} {a8 : Nat} {a9 : Nat} {a10 : Nat} {a11 : Nat} {a12 : Nat} {a13 : Nat} {a14 : Nat} {p0 : Nat} {p0' : Int32} {p1 : Nat} {p1' : Int32} (h_f0_root : f0_root' = nI f0_root) (h_f0_wayEnd : f0_wayEnd' = nI f0_wayEnd) (h_f0_waiting : f0_waiting' = nI f0_waiting) (h_p0 : p0' = nI p0) (h_p1 : p1' = nI p1) (h : ef_read K f0_root f0_wayEnd f0_waiting a1 a2 a3 a4 a5 a6 a7 a8 a9 a10 a11 a12 a13 a14 p0 p1 = true) (hK : er_PK e K post)  : wpX_read post (f0_root', f0_wayEnd', f0_waiting', (eb_ar a1), (eb_ak e a2), (eb_ar a3), (eb_ar a4), (eb_ar a5), (eb_ar a6), (eb_ar a7), (eb_ar a8), (eb_ar a9), (eb_ak e a10), (eb_ar a11), (eb_ar a12), (eb_ar a13), (eb_ar a14)) p0' p1' := by
  unfold wpX_read
  refine er_isHandle he h_f0_root h_f0_wayEnd h_f0_waiting h_p0 h (fun r_1 r_1' h_r_1 h => ?_) 
  refine eh_if (eh_eq h_r_1 eh_n0) h (fun h => ?_) (fun h => ?_)
  ·
   exact hK _ _ (eh_ik eh_n0) _ _ h_f0_root _ _ h_f0_wayEnd _ _ h_f0_waiting _ _ _ _ _ _ _ _ _ _ _ _ _ _ h
  ·
   refine eh_if (eh_lt h_p1 eh_n0) h (fun h => ?_) (fun h => ?_)
   ·
    exact hK _ _ (eh_ik eh_n0) _ _ h_f0_root _ _ h_f0_wayEnd _ _ h_f0_waiting _ _ _ _ _ _ _ _ _ _ _ _ _ _ h
   ·
    refine eh_if (eh_lt eh_n31 h_p1) h (fun h => ?_) (fun h => ?_)
    ·
     exact hK _ _ (eh_ik eh_n0) _ _ h_f0_root _ _ h_f0_wayEnd _ _ h_f0_waiting _ _ _ _ _ _ _ _ _ _ _ _ _ _ h
    ·
     refine eh_in h_p0 h (fun f1 h => ?_)
     refine eh_if (eh_lt (eh_gt h_p0 f1) eh_n0) h (fun h => ?_) (fun h => ?_)
     ·
      exact hK _ _ (eh_ik eh_n0) _ _ h_f0_root _ _ h_f0_wayEnd _ _ h_f0_waiting _ _ _ _ _ _ _ _ _ _ _ _ _ _ h
     ·
      refine eh_inf h_p0 f1 ?_
      obtain ⟨fx2, h_fx2, h⟩ := eh_fc (eh_gt h_p0 f1) h
      refine er_sortOf he h_f0_root h_f0_wayEnd h_f0_waiting h_fx2 h (fun r_8 r_8' h_r_8 f0_root_9 f0_root_9' h_f0_root_9 f0_wayEnd_10 f0_wayEnd_10' h_f0_wayEnd_10 f0_waiting_11 f0_waiting_11' h_f0_waiting_11 am341_14 am342_17 am343_20 am344_23 am345_26 am346_29 am347_32 am348_35 am349_38 am3410_41 am3411_44 am3412_47 am3413_50 am3414_53 h => ?_) 
      refine eh_if (eh_eq h_r_8 eh_n1) h (fun h => ?_) (fun h => ?_)
      ·
       exact hK _ _ (eh_ik eh_n0) _ _ h_f0_root_9 _ _ h_f0_wayEnd_10 _ _ h_f0_waiting_11 _ _ _ _ _ _ _ _ _ _ _ _ _ _ h
      ·
       refine eh_inf h_p0 f1 ?_
       obtain ⟨fx3, h_fx3, h⟩ := eh_fc (eh_gt h_p0 f1) h
       obtain ⟨g4, h⟩ := eh_g h
       obtain ⟨fx5, h_fx5, h⟩ := eh_fc (eh_sr2 h_p1 g4) h
       refine er_placeOf he h_f0_root_9 h_f0_wayEnd_10 h_f0_waiting_11 h_fx3 h_fx5 h (fun r_56 r_56' h_r_56 f0_root_57 f0_root_57' h_f0_root_57 f0_wayEnd_58 f0_wayEnd_58' h_f0_wayEnd_58 f0_waiting_59 f0_waiting_59' h_f0_waiting_59 am531_62 am532_65 am533_68 am534_71 am535_74 am536_77 am537_80 am538_83 am539_86 am5310_89 am5311_92 am5312_95 am5313_98 am5314_101 h => ?_) 
       refine eh_if (eh_le eh_n0 h_r_56) h (fun h => ?_) (fun h => ?_)
       ·
        refine eh_in (eh_ad (eh_ml eh_n4 h_r_56) (eh_an h_p1 eh_n3)) h (fun f6 h => ?_)
        obtain ⟨fx7, h_fx7, h⟩ := eh_fcK (eh_gk (eh_ad (eh_ml eh_n4 h_r_56) (eh_an h_p1 eh_n3)) f6) h
        exact hK _ _ h_fx7 _ _ h_f0_root_57 _ _ h_f0_wayEnd_58 _ _ h_f0_waiting_59 _ _ _ _ _ _ _ _ _ _ _ _ _ _ h
       ·
        exact hK _ _ (eh_ik eh_n0) _ _ h_f0_root_57 _ _ h_f0_wayEnd_58 _ _ h_f0_waiting_59 _ _ _ _ _ _ _ _ _ _ _ _ _ _ h
theorem er_cutBlocks_5 {e : ef_E} (he : e.1 < 80) {post : Int32 → St2 → Prop} {K : ef_F18} {x1 : Nat} {x1' : Int32} (hK : er_PI e K post)  (h_x1 : x1' = nI x1) : ∀ (n : Nat) (x3 : Nat) (x3' : Int32) (_ : x3' = nI x3) (x4 : Nat) (x4' : Int32) (_ : x4' = nI x4) (f0_root : Nat) (f0_root' : Int32) (_ : f0_root' = nI f0_root) (f0_wayEnd : Nat) (f0_wayEnd' : Int32) (_ : f0_wayEnd' = nI f0_wayEnd) (f0_waiting : Nat) (f0_waiting' : Int32) (_ : f0_waiting' = nI f0_waiting) (a1 : Nat) (a2 : Nat) (a3 : Nat) (a4 : Nat) (a5 : Nat) (a6 : Nat) (a7 : Nat) (a8 : Nat) (a9 : Nat) (a10 : Nat) (a11 : Nat) (a12 : Nat) (a13 : Nat) (a14 : Nat), ef_cutBlocks_5 K x1 n x3 x4 f0_root f0_wayEnd f0_waiting a1 a2 a3 a4 a5 a6 a7 a8 a9 a10 a11 a12 a13 a14 = true → wX_cutBlocks_5 post x1' n x3' x4' f0_root' f0_wayEnd' f0_waiting' (eb_ar a1) (eb_ak e a2) (eb_ar a3) (eb_ar a4) (eb_ar a5) (eb_ar a6) (eb_ar a7) (eb_ar a8) (eb_ar a9) (eb_ak e a10) (eb_ar a11) (eb_ar a12) (eb_ar a13) (eb_ar a14) := by
  intro n
  induction n with
  | zero =>
    intro x3 x3' h_x3 x4 x4' h_x4 f0_root f0_root' h_f0_root f0_wayEnd f0_wayEnd' h_f0_wayEnd f0_waiting f0_waiting' h_f0_waiting a1 a2 a3 a4 a5 a6 a7 a8 a9 a10 a11 a12 a13 a14 h
    exact absurd (show false = true from h) Bool.false_ne_true
  | succ n ih =>
    intro x3 x3' h_x3 x4 x4' h_x4 f0_root f0_root' h_f0_root f0_wayEnd f0_wayEnd' h_f0_wayEnd f0_waiting f0_waiting' h_f0_waiting a1 a2 a3 a4 a5 a6 a7 a8 a9 a10 a11 a12 a13 a14 h
    have h : ef_cutBlocks_5_b K x1 (ef_cutBlocks_5 K x1 n) x3 x4 f0_root f0_wayEnd f0_waiting a1 a2 a3 a4 a5 a6 a7 a8 a9 a10 a11 a12 a13 a14 = true := h
    refine eh_if (eh_le eh_n8 h_x4) h (fun h => ?_) (fun h => ?_)
    ·
     exact hK _ _ h_x3 _ _ h_f0_root _ _ h_f0_wayEnd _ _ h_f0_waiting _ _ _ _ _ _ _ _ _ _ _ _ _ _ h
    ·
     refine er_placeOf he h_f0_root h_f0_wayEnd h_f0_waiting h_x1 h_x4 h (fun r_2 r_2' h_r_2 f0_root_3 f0_root_3' h_f0_root_3 f0_wayEnd_4 f0_wayEnd_4' h_f0_wayEnd_4 f0_waiting_5 f0_waiting_5' h_f0_waiting_5 am161_8 am162_11 am163_14 am164_17 am165_20 am166_23 am167_26 am168_29 am169_32 am1610_35 am1611_38 am1612_41 am1613_44 am1614_47 h => ?_) 
     refine eh_if (eh_le eh_n0 h_r_2) h (fun h => ?_) (fun h => ?_)
     ·
      refine er_leaveOut he h_f0_root_3 h_f0_wayEnd_4 h_f0_waiting_5 h_x1 h_x4 h (fun f0_root_50 f0_root_50' h_f0_root_50 f0_wayEnd_51 f0_wayEnd_51' h_f0_wayEnd_51 f0_waiting_52 f0_waiting_52' h_f0_waiting_52 am291_55 am292_58 am293_61 am294_64 am295_67 am296_70 am297_73 am298_76 am299_79 am2910_82 am2911_85 am2912_88 am2913_91 am2914_94 h => ?_) 
      refine eh_let (eh_ad h_x3 eh_n1) h (fun x3_95 x3_95' h_x3_95 h => ?_)
      refine eh_let (eh_ad h_x4 eh_n1) h (fun x4_96 x4_96' h_x4_96 h => ?_)
      exact ih _ _ h_x3_95 _ _ h_x4_96 _ _ h_f0_root_50 _ _ h_f0_wayEnd_51 _ _ h_f0_waiting_52 _ _ _ _ _ _ _ _ _ _ _ _ _ _ h
     ·
      refine eh_let (eh_ad h_x4 eh_n1) h (fun x4_97 x4_97' h_x4_97 h => ?_)
      exact ih _ _ h_x3 _ _ h_x4_97 _ _ h_f0_root_3 _ _ h_f0_wayEnd_4 _ _ h_f0_waiting_5 _ _ _ _ _ _ _ _ _ _ _ _ _ _ h
theorem er_cutBlocks {e : ef_E} (he : e.1 < 80) {post : Int32 → St2 → Prop} {K : ef_F18} {f0_root : Nat} {f0_root' : Int32} {f0_wayEnd : Nat} {f0_wayEnd' : Int32} {f0_waiting : Nat} {f0_waiting' : Int32} {a1 : Nat} {a2 : Nat} {a3 : Nat} {a4 : Nat} {a5 : Nat} {a6 : Nat} {a7 : Nat} {a8 : Nat} {a9 : Nat} {a10 : Nat} {a11 : Nat} {a12 : Nat} {a13 : Nat} {a14 : Nat} {p0 : Nat} {p0' : Int32} {p1 : Nat} {p1' : Int32} (h_f0_root : f0_root' = nI f0_root) (h_f0_wayEnd : f0_wayEnd' = nI f0_wayEnd) (h_f0_waiting : f0_waiting' = nI f0_waiting) (h_p0 : p0' = nI p0) (h_p1 : p1' = nI p1) (h : ef_cutBlocks K f0_root f0_wayEnd f0_waiting a1 a2 a3 a4 a5 a6 a7 a8 a9 a10 a11 a12 a13 a14 p0 p1 = true) (hK : er_PI e K post)  : wpX_cutBlocks post (f0_root', f0_wayEnd', f0_waiting', (eb_ar a1), (eb_ak e a2), (eb_ar a3), (eb_ar a4), (eb_ar a5), (eb_ar a6), (eb_ar a7), (eb_ar a8), (eb_ar a9), (eb_ak e a10), (eb_ar a11), (eb_ar a12), (eb_ar a13), (eb_ar a14)) p0' p1' := by
  refine Exists.intro 120 ?_
  exact er_cutBlocks_5 he hK  h_p0 120 _ _ eh_n0 _ _ h_p1 _ _ h_f0_root _ _ h_f0_wayEnd _ _ h_f0_waiting _ _ _ _ _ _ _ _ _ _ _ _ _ _ h
theorem er_cut {e : ef_E} (he : e.1 < 80) {post : Int32 → St2 → Prop} {K : ef_F18} {f0_root : Nat} {f0_root' : Int32} {f0_wayEnd : Nat} {f0_wayEnd' : Int32} {f0_waiting : Nat} {f0_waiting' : Int32} {a1 : Nat} {a2 : Nat} {a3 : Nat} {a4 : Nat} {a5 : Nat} {a6 : Nat} {a7 : Nat} {a8 : Nat} {a9 : Nat} {a10 : Nat} {a11 : Nat} {a12 : Nat} {a13 : Nat} {a14 : Nat} {p0 : Nat} {p0' : Int32} {p1 : Nat} {p1' : Int32} (h_f0_root : f0_root' = nI f0_root) (h_f0_wayEnd : f0_wayEnd' = nI f0_wayEnd) (h_f0_waiting : f0_waiting' = nI f0_waiting) (h_p0 : p0' = nI p0) (h_p1 : p1' = nI p1) (h : ef_cut K f0_root f0_wayEnd f0_waiting a1 a2 a3 a4 a5 a6 a7 a8 a9 a10 a11 a12 a13 a14 p0 p1 = true) (hK : er_PI e K post)  : wpX_cut post (f0_root', f0_wayEnd', f0_waiting', (eb_ar a1), (eb_ak e a2), (eb_ar a3), (eb_ar a4), (eb_ar a5), (eb_ar a6), (eb_ar a7), (eb_ar a8), (eb_ar a9), (eb_ak e a10), (eb_ar a11), (eb_ar a12), (eb_ar a13), (eb_ar a14)) p0' p1' := by
  unfold wpX_cut
  refine er_isHandle he h_f0_root h_f0_wayEnd h_f0_waiting h_p0 h (fun r_1 r_1' h_r_1 h => ?_) 
  refine eh_if (eh_eq h_r_1 eh_n0) h (fun h => ?_) (fun h => ?_)
  ·
   exact hK _ _ eh_m1 _ _ h_f0_root _ _ h_f0_wayEnd _ _ h_f0_waiting _ _ _ _ _ _ _ _ _ _ _ _ _ _ h
  ·
   refine eh_if (eh_lt h_p1 eh_n0) h (fun h => ?_) (fun h => ?_)
   ·
    exact hK _ _ eh_m1 _ _ h_f0_root _ _ h_f0_wayEnd _ _ h_f0_waiting _ _ _ _ _ _ _ _ _ _ _ _ _ _ h
   ·
    refine eh_if (eh_le h_p1 eh_n7) h (fun h => ?_) (fun h => ?_)
    ·
     refine er_fileFault he h_f0_root h_f0_wayEnd h_f0_waiting h_p0 h (fun r_5 r_5' h_r_5 f0_root_6 f0_root_6' h_f0_root_6 f0_wayEnd_7 f0_wayEnd_7' h_f0_wayEnd_7 f0_waiting_8 f0_waiting_8' h_f0_waiting_8 am221_11 am222_14 am223_17 am224_20 am225_23 am226_26 am227_29 am228_32 am229_35 am2210_38 am2211_41 am2212_44 am2213_47 am2214_50 h => ?_) 
     refine eh_if (eh_eq h_r_5 eh_n0) h (fun h => ?_) (fun h => ?_)
     ·
      refine eh_in h_p0 h (fun f1 h => ?_)
      obtain ⟨fx2, h_fx2, h⟩ := eh_fc (eh_gt h_p0 f1) h
      refine er_cutBlocks he h_f0_root_6 h_f0_wayEnd_7 h_f0_waiting_8 h_fx2 h_p1 h (fun r_53 r_53' h_r_53 f0_root_54 f0_root_54' h_f0_root_54 f0_wayEnd_55 f0_wayEnd_55' h_f0_wayEnd_55 f0_waiting_56 f0_waiting_56' h_f0_waiting_56 am401_59 am402_62 am403_65 am404_68 am405_71 am406_74 am407_77 am408_80 am409_83 am4010_86 am4011_89 am4012_92 am4013_95 am4014_98 h => ?_) 
      exact hK _ _ h_r_53 _ _ h_f0_root_54 _ _ h_f0_wayEnd_55 _ _ h_f0_waiting_56 _ _ _ _ _ _ _ _ _ _ _ _ _ _ h
     ·
      exact hK _ _ h_r_5 _ _ h_f0_root_6 _ _ h_f0_wayEnd_7 _ _ h_f0_waiting_8 _ _ _ _ _ _ _ _ _ _ _ _ _ _ h
    ·
     exact hK _ _ eh_m1 _ _ h_f0_root _ _ h_f0_wayEnd _ _ h_f0_waiting _ _ _ _ _ _ _ _ _ _ _ _ _ _ h
theorem er_copies {e : ef_E} (he : e.1 < 80) {post : Int32 → St2 → Prop} {K : ef_F18} {f0_root : Nat} {f0_root' : Int32} {f0_wayEnd : Nat} {f0_wayEnd' : Int32} {f0_waiting : Nat} {f0_waiting' : Int32} {a1 : Nat} {a2 : Nat} {a3 : Nat} {a4 : Nat} {a5 : Nat} {a6 : Nat} {a7 : Nat} {a8 : Nat} {a9 : Nat} {a10 : Nat} {a11 : Nat} {a12 : Nat} {a13 : Nat} {a14 : Nat} (h_f0_root : f0_root' = nI f0_root) (h_f0_wayEnd : f0_wayEnd' = nI f0_wayEnd) (h_f0_waiting : f0_waiting' = nI f0_waiting) (h : ef_copies K f0_root f0_wayEnd f0_waiting a1 a2 a3 a4 a5 a6 a7 a8 a9 a10 a11 a12 a13 a14 = true) (hK : er_PI e K post)  : wpX_copies post (f0_root', f0_wayEnd', f0_waiting', (eb_ar a1), (eb_ak e a2), (eb_ar a3), (eb_ar a4), (eb_ar a5), (eb_ar a6), (eb_ar a7), (eb_ar a8), (eb_ar a9), (eb_ak e a10), (eb_ar a11), (eb_ar a12), (eb_ar a13), (eb_ar a14)) := by
  unfold wpX_copies
  refine er_validPlace he h_f0_root h_f0_wayEnd h_f0_waiting h (fun r_1 r_1' h_r_1 h => ?_) 
  refine er_blocksIn he h_f0_root h_f0_wayEnd h_f0_waiting h_f0_root h (fun r_2 r_2' h_r_2 f0_root_3 f0_root_3' h_f0_root_3 f0_wayEnd_4 f0_wayEnd_4' h_f0_wayEnd_4 f0_waiting_5 f0_waiting_5' h_f0_waiting_5 am101_8 am102_11 am103_14 am104_17 am105_20 am106_23 am107_26 am108_29 am109_32 am1010_35 am1011_38 am1012_41 am1013_44 am1014_47 h => ?_) 
  refine eh_in h_r_1 h (fun f1 h => ?_)
  obtain ⟨fx2, h_fx2, h⟩ := eh_fc (eh_gt h_r_1 f1) h
  refine er_blocksIn he h_f0_root_3 h_f0_wayEnd_4 h_f0_waiting_5 h_fx2 h (fun r_49 r_49' h_r_49 f0_root_50 f0_root_50' h_f0_root_50 f0_wayEnd_51 f0_wayEnd_51' h_f0_wayEnd_51 f0_waiting_52 f0_waiting_52' h_f0_waiting_52 am201_55 am202_58 am203_61 am204_64 am205_67 am206_70 am207_73 am208_76 am209_79 am2010_82 am2011_85 am2012_88 am2013_91 am2014_94 h => ?_) 
  refine eh_letL (eh_lo h_r_2 h_r_49) h (fun x2_95 x2_95' h_x2_95 h => ?_)
  refine er_bitsIn he h_f0_root_50 h_f0_wayEnd_51 h_f0_waiting_52 h_x2_95 h (fun r_96 r_96' h_r_96 h => ?_) 
  exact hK _ _ h_r_96 _ _ h_f0_root_50 _ _ h_f0_wayEnd_51 _ _ h_f0_waiting_52 _ _ _ _ _ _ _ _ _ _ _ _ _ _ h
theorem er_open {e : ef_E} (he : e.1 < 80) {post : Int32 → St2 → Prop} {K : ef_F18} {f0_root : Nat} {f0_root' : Int32} {f0_wayEnd : Nat} {f0_wayEnd' : Int32} {f0_waiting : Nat} {f0_waiting' : Int32} {a1 : Nat} {a2 : Nat} {a3 : Nat} {a4 : Nat} {a5 : Nat} {a6 : Nat} {a7 : Nat} {a8 : Nat} {a9 : Nat} {a10 : Nat} {a11 : Nat} {a12 : Nat} {a13 : Nat} {a14 : Nat} {p0 : Nat} {p0' : Int32} {p1 : Nat} {p1' : Int32} {p2 : Nat} {p2' : Int32} (h_f0_root : f0_root' = nI f0_root) (h_f0_wayEnd : f0_wayEnd' = nI f0_wayEnd) (h_f0_waiting : f0_waiting' = nI f0_waiting) (h_p0 : p0' = nI p0) (h_p1 : p1' = nI p1) (h_p2 : p2' = ef_kv e p2) (h : ef_open K f0_root f0_wayEnd f0_waiting a1 a2 a3 a4 a5 a6 a7 a8 a9 a10 a11 a12 a13 a14 p0 p1 p2 = true) (hK : er_PI e K post)  : wpX_open post (f0_root', f0_wayEnd', f0_waiting', (eb_ar a1), (eb_ak e a2), (eb_ar a3), (eb_ar a4), (eb_ar a5), (eb_ar a6), (eb_ar a7), (eb_ar a8), (eb_ar a9), (eb_ak e a10), (eb_ar a11), (eb_ar a12), (eb_ar a13), (eb_ar a14)) p0' p1' p2' := by
  refine eh_if (eh_lt h_p0 eh_n1) h (fun h => ?_) (fun h => ?_)
  ·
   exact hK _ _ eh_m1 _ _ h_f0_root _ _ h_f0_wayEnd _ _ h_f0_waiting _ _ _ _ _ _ _ _ _ _ _ _ _ _ h
  ·
   refine eh_if (eh_lt eh_n3 h_p0) h (fun h => ?_) (fun h => ?_)
   ·
    exact hK _ _ eh_m1 _ _ h_f0_root _ _ h_f0_wayEnd _ _ h_f0_waiting _ _ _ _ _ _ _ _ _ _ _ _ _ _ h
   ·
    refine er_isHandle he h_f0_root h_f0_wayEnd h_f0_waiting h_p1 h (fun r_3 r_3' h_r_3 h => ?_) 
    refine eh_if (eh_eq h_r_3 eh_n0) h (fun h => ?_) (fun h => ?_)
    ·
     exact hK _ _ eh_m1 _ _ h_f0_root _ _ h_f0_wayEnd _ _ h_f0_waiting _ _ _ _ _ _ _ _ _ _ _ _ _ _ h
    ·
     refine eh_i3 (eh_klt he h_p2 (eh_ik eh_m1)) (eh_knlt he h_p2 (eh_ik eh_m1)) h (fun h => ?_) (fun h => ?_)
     ·
      exact hK _ _ eh_m1 _ _ h_f0_root _ _ h_f0_wayEnd _ _ h_f0_waiting _ _ _ _ _ _ _ _ _ _ _ _ _ _ h
     ·
      refine eh_i3 (eh_kle he h_p2 (eh_ik eh_n99)) (eh_knle he h_p2 (eh_ik eh_n99)) h (fun h => ?_) (fun h => ?_)
      ·
       refine eh_in h_p1 h (fun f1 h => ?_)
       refine eh_if (eh_le eh_n0 (eh_gt h_p1 f1)) h (fun h => ?_) (fun h => ?_)
       ·
        refine eh_i3 (eh_kle he (eh_ik eh_n0) h_p2) (eh_knle he (eh_ik eh_n0) h_p2) h (fun h => ?_) (fun h => ?_)
        ·
         refine eh_inf h_p1 f1 ?_
         obtain ⟨fx2, h_fx2, h⟩ := eh_fc (eh_gt h_p1 f1) h
         refine er_sortOf he h_f0_root h_f0_wayEnd h_f0_waiting h_fx2 h (fun r_11 r_11' h_r_11 f0_root_12 f0_root_12' h_f0_root_12 f0_wayEnd_13 f0_wayEnd_13' h_f0_wayEnd_13 f0_waiting_14 f0_waiting_14' h_f0_waiting_14 am681_17 am682_20 am683_23 am684_26 am685_29 am686_32 am687_35 am688_38 am689_41 am6810_44 am6811_47 am6812_50 am6813_53 am6814_56 h => ?_) 
         refine eh_if (eh_eq h_r_11 eh_n2) h (fun h => ?_) (fun h => ?_)
         ·
          exact hK _ _ eh_m4 _ _ h_f0_root_12 _ _ h_f0_wayEnd_13 _ _ h_f0_waiting_14 _ _ _ _ _ _ _ _ _ _ _ _ _ _ h
         ·
          refine eh_inf h_p1 f1 ?_
          obtain ⟨fx3, h_fx3, h⟩ := eh_fcK (eh_ka2 (eh_ad (eh_ml eh_n256 (eh_gt h_p1 f1)) eh_n1) h_p2) h
          refine er_get he h_f0_root_12 h_f0_wayEnd_13 h_f0_waiting_14 h_fx3 h (fun r_59 r_59' h_r_59 f0_root_60 f0_root_60' h_f0_root_60 f0_wayEnd_61 f0_wayEnd_61' h_f0_wayEnd_61 f0_waiting_62 f0_waiting_62' h_f0_waiting_62 am931_65 am932_68 am933_71 am934_74 am935_77 am936_80 am937_83 am938_86 am939_89 am9310_92 am9311_95 am9312_98 am9313_101 am9314_104 h => ?_) 
          refine eh_if (eh_le eh_n0 h_r_59) h (fun h => ?_) (fun h => ?_)
          ·
           refine eh_in h_p0 h (fun f4 h => ?_)
           obtain ⟨g5, h⟩ := eh_g h
           refine eh_leta (eh_st h_p0 f4 (eh_b8 h_r_59 g5)) h (fun am9311_107 h => ?_)
           exact hK _ _ eh_n0 _ _ h_f0_root_60 _ _ h_f0_wayEnd_61 _ _ h_f0_waiting_62 _ _ _ _ _ _ _ _ _ _ _ _ _ _ h
          ·
           exact hK _ _ eh_m3 _ _ h_f0_root_60 _ _ h_f0_wayEnd_61 _ _ h_f0_waiting_62 _ _ _ _ _ _ _ _ _ _ _ _ _ _ h
        ·
         refine eh_inf h_p1 f1 ?_
         refine eh_in h_p0 h (fun f6 h => ?_)
         obtain ⟨g7, h⟩ := eh_g h
         refine eh_leta (eh_st h_p0 f6 (eh_nb (eh_gt h_p1 f1) g7)) h (fun a11_110 h => ?_)
         exact hK _ _ eh_n0 _ _ h_f0_root _ _ h_f0_wayEnd _ _ h_f0_waiting _ _ _ _ _ _ _ _ _ _ _ _ _ _ h
       ·
        exact hK _ _ eh_m3 _ _ h_f0_root _ _ h_f0_wayEnd _ _ h_f0_waiting _ _ _ _ _ _ _ _ _ _ _ _ _ _ h
      ·
       exact hK _ _ eh_m1 _ _ h_f0_root _ _ h_f0_wayEnd _ _ h_f0_waiting _ _ _ _ _ _ _ _ _ _ _ _ _ _ h
theorem er_isAbove_30 {e : ef_E} (he : e.1 < 80) {post : Int32 → St2 → Prop} {K : ef_F18} {x1 : Nat} {x1' : Int32} {x3 : Nat} {x3' : Int32} {f0_root : Nat} {f0_root' : Int32} {f0_wayEnd : Nat} {f0_wayEnd' : Int32} {f0_waiting : Nat} {f0_waiting' : Int32} {a1 : Nat} {a2 : Nat} {a3 : Nat} {a4 : Nat} {a5 : Nat} {a6 : Nat} {a7 : Nat} {a8 : Nat} {a9 : Nat} {a10 : Nat} {a11 : Nat} {a12 : Nat} {a13 : Nat} {a14 : Nat} (h_x1 : x1' = nI x1) (h_x3 : x3' = nI x3) (h_f0_root : f0_root' = nI f0_root) (h_f0_wayEnd : f0_wayEnd' = nI f0_wayEnd) (h_f0_waiting : f0_waiting' = nI f0_waiting) (h : ef_isAbove_30 K x1 x3 f0_root f0_wayEnd f0_waiting a1 a2 a3 a4 a5 a6 a7 a8 a9 a10 a11 a12 a13 a14 = true) (hK : er_PI e K post)  : wX_isAbove_30 post x1' x3' f0_root' f0_wayEnd' f0_waiting' (eb_ar a1) (eb_ak e a2) (eb_ar a3) (eb_ar a4) (eb_ar a5) (eb_ar a6) (eb_ar a7) (eb_ar a8) (eb_ar a9) (eb_ak e a10) (eb_ar a11) (eb_ar a12) (eb_ar a13) (eb_ar a14) := by
  refine eh_if (eh_eq h_x3 h_x1) h (fun h => ?_) (fun h => ?_)
  ·
   exact hK _ _ eh_n1 _ _ h_f0_root _ _ h_f0_wayEnd _ _ h_f0_waiting _ _ _ _ _ _ _ _ _ _ _ _ _ _ h
  ·
   exact hK _ _ eh_n0 _ _ h_f0_root _ _ h_f0_wayEnd _ _ h_f0_waiting _ _ _ _ _ _ _ _ _ _ _ _ _ _ h
theorem er_isAbove_2 {e : ef_E} (he : e.1 < 80) {post : Int32 → St2 → Prop} {K : ef_F18} {x1 : Nat} {x1' : Int32} (hK : er_PI e K post)  (h_x1 : x1' = nI x1) : ∀ (n : Nat) (x3 : Nat) (x3' : Int32) (_ : x3' = nI x3) (f0_root : Nat) (f0_root' : Int32) (_ : f0_root' = nI f0_root) (f0_wayEnd : Nat) (f0_wayEnd' : Int32) (_ : f0_wayEnd' = nI f0_wayEnd) (f0_waiting : Nat) (f0_waiting' : Int32) (_ : f0_waiting' = nI f0_waiting) (a1 : Nat) (a2 : Nat) (a3 : Nat) (a4 : Nat) (a5 : Nat) (a6 : Nat) (a7 : Nat) (a8 : Nat) (a9 : Nat) (a10 : Nat) (a11 : Nat) (a12 : Nat) (a13 : Nat) (a14 : Nat), ef_isAbove_2 K x1 n x3 f0_root f0_wayEnd f0_waiting a1 a2 a3 a4 a5 a6 a7 a8 a9 a10 a11 a12 a13 a14 = true → wX_isAbove_2 post x1' n x3' f0_root' f0_wayEnd' f0_waiting' (eb_ar a1) (eb_ak e a2) (eb_ar a3) (eb_ar a4) (eb_ar a5) (eb_ar a6) (eb_ar a7) (eb_ar a8) (eb_ar a9) (eb_ak e a10) (eb_ar a11) (eb_ar a12) (eb_ar a13) (eb_ar a14) := by
  intro n
  induction n with
  | zero =>
    intro x3 x3' h_x3 f0_root f0_root' h_f0_root f0_wayEnd f0_wayEnd' h_f0_wayEnd f0_waiting f0_waiting' h_f0_waiting a1 a2 a3 a4 a5 a6 a7 a8 a9 a10 a11 a12 a13 a14 h
    exact absurd (show false = true from h) Bool.false_ne_true
  | succ n ih =>
    intro x3 x3' h_x3 f0_root f0_root' h_f0_root f0_wayEnd f0_wayEnd' h_f0_wayEnd f0_waiting f0_waiting' h_f0_waiting a1 a2 a3 a4 a5 a6 a7 a8 a9 a10 a11 a12 a13 a14 h
    have h : ef_isAbove_2_b K x1 (ef_isAbove_2 K x1 n) x3 f0_root f0_wayEnd f0_waiting a1 a2 a3 a4 a5 a6 a7 a8 a9 a10 a11 a12 a13 a14 = true := h
    refine eh_if (eh_eq h_x3 eh_n0) h (fun h => ?_) (fun h => ?_)
    ·
     exact er_isAbove_30 he h_x1 h_x3 h_f0_root h_f0_wayEnd h_f0_waiting h hK 
    ·
     refine eh_if (eh_eq h_x3 h_x1) h (fun h => ?_) (fun h => ?_)
     ·
      exact er_isAbove_30 he h_x1 h_x3 h_f0_root h_f0_wayEnd h_f0_waiting h hK 
     ·
      obtain ⟨fx1, h_fx1, h⟩ := eh_fcK (eh_ik (eh_ml eh_n256 h_x3)) h
      refine er_get he h_f0_root h_f0_wayEnd h_f0_waiting h_fx1 h (fun r_4 r_4' h_r_4 f0_root_5 f0_root_5' h_f0_root_5 f0_wayEnd_6 f0_wayEnd_6' h_f0_wayEnd_6 f0_waiting_7 f0_waiting_7' h_f0_waiting_7 am171_10 am172_13 am173_16 am174_19 am175_22 am176_25 am177_28 am178_31 am179_34 am1710_37 am1711_40 am1712_43 am1713_46 am1714_49 h => ?_) 
      obtain ⟨g2, h⟩ := eh_g h
      refine eh_let (eh_sr2 h_r_4 g2) h (fun x3_50 x3_50' h_x3_50 h => ?_)
      exact ih _ _ h_x3_50 _ _ h_f0_root_5 _ _ h_f0_wayEnd_6 _ _ h_f0_waiting_7 _ _ _ _ _ _ _ _ _ _ _ _ _ _ h
theorem er_isAbove {e : ef_E} (he : e.1 < 80) {post : Int32 → St2 → Prop} {K : ef_F18} {f0_root : Nat} {f0_root' : Int32} {f0_wayEnd : Nat} {f0_wayEnd' : Int32} {f0_waiting : Nat} {f0_waiting' : Int32} {a1 : Nat} {a2 : Nat} {a3 : Nat} {a4 : Nat} {a5 : Nat} {a6 : Nat} {a7 : Nat} {a8 : Nat} {a9 : Nat} {a10 : Nat} {a11 : Nat} {a12 : Nat} {a13 : Nat} {a14 : Nat} {p0 : Nat} {p0' : Int32} {p1 : Nat} {p1' : Int32} (h_f0_root : f0_root' = nI f0_root) (h_f0_wayEnd : f0_wayEnd' = nI f0_wayEnd) (h_f0_waiting : f0_waiting' = nI f0_waiting) (h_p0 : p0' = nI p0) (h_p1 : p1' = nI p1) (h : ef_isAbove K f0_root f0_wayEnd f0_waiting a1 a2 a3 a4 a5 a6 a7 a8 a9 a10 a11 a12 a13 a14 p0 p1 = true) (hK : er_PI e K post)  : wpX_isAbove post (f0_root', f0_wayEnd', f0_waiting', (eb_ar a1), (eb_ak e a2), (eb_ar a3), (eb_ar a4), (eb_ar a5), (eb_ar a6), (eb_ar a7), (eb_ar a8), (eb_ar a9), (eb_ak e a10), (eb_ar a11), (eb_ar a12), (eb_ar a13), (eb_ar a14)) p0' p1' := by
  refine Exists.intro 120 ?_
  exact er_isAbove_2 he hK  h_p0 120 _ _ h_p1 _ _ h_f0_root _ _ h_f0_wayEnd _ _ h_f0_waiting _ _ _ _ _ _ _ _ _ _ _ _ _ _ h
theorem er_rename_76 {e : ef_E} (he : e.1 < 80) {post : Int32 → St2 → Prop} {K : ef_F18} {x1 : Nat} {x1' : Int32} {x2 : Nat} {x2' : Int32} {x3 : Nat} {x3' : Int32} {x4 : Nat} {x4' : Int32} {x5 : Nat} {x5' : Int32} {f0_root : Nat} {f0_root' : Int32} {f0_wayEnd : Nat} {f0_wayEnd' : Int32} {f0_waiting : Nat} {f0_waiting' : Int32} {am371 : Nat} {am372 : Nat} {am373 : Nat} {am374 : Nat} {am375 : Nat} {am376 : Nat} {am377 : Nat} {am378 : Nat} {am379 : Nat} {am3710 : Nat} {am3711 : Nat} {am3712 : Nat} {am3713 : Nat} {am3714 : Nat} (h_x1 : x1' = nI x1) (h_x2 : x2' = ef_kv e x2) (h_x3 : x3' = nI x3) (h_x4 : x4' = ef_kv e x4) (h_x5 : x5' = nI x5) (h_f0_root : f0_root' = nI f0_root) (h_f0_wayEnd : f0_wayEnd' = nI f0_wayEnd) (h_f0_waiting : f0_waiting' = nI f0_waiting) (h : ef_rename_76 K x1 x2 x3 x4 x5 f0_root f0_wayEnd f0_waiting am371 am372 am373 am374 am375 am376 am377 am378 am379 am3710 am3711 am3712 am3713 am3714 = true) (hK : er_PI e K post)  : wX_rename_76 post x1' x2' x3' x4' x5' f0_root' f0_wayEnd' f0_waiting' (eb_ar am371) (eb_ak e am372) (eb_ar am373) (eb_ar am374) (eb_ar am375) (eb_ar am376) (eb_ar am377) (eb_ar am378) (eb_ar am379) (eb_ak e am3710) (eb_ar am3711) (eb_ar am3712) (eb_ar am3713) (eb_ar am3714) := by
  refine eh_if (eh_eq h_x5 eh_n0) h (fun h => ?_) (fun h => ?_)
  ·
   refine eh_in h_x1 h (fun f1 h => ?_)
   refine eh_let (eh_gt h_x1 f1) h (fun x6_60 x6_60' h_x6_60 h => ?_)
   refine eh_in h_x3 h (fun f2 h => ?_)
   refine eh_let (eh_gt h_x3 f2) h (fun x7_62 x7_62' h_x7_62 h => ?_)
   obtain ⟨fx3, h_fx3, h⟩ := eh_fcK (eh_ka2 (eh_ad (eh_ml eh_n256 h_x6_60) eh_n1) h_x2) h
   refine er_get he h_f0_root h_f0_wayEnd h_f0_waiting h_fx3 h (fun r_63 r_63' h_r_63 f0_root_64 f0_root_64' h_f0_root_64 f0_wayEnd_65 f0_wayEnd_65' h_f0_wayEnd_65 f0_waiting_66 f0_waiting_66' h_f0_waiting_66 am1111_69 am1112_72 am1113_75 am1114_78 am1115_81 am1116_84 am1117_87 am1118_90 am1119_93 am11110_96 am11111_99 am11112_102 am11113_105 am11114_108 h => ?_) 
   refine eh_if (eh_le eh_n0 h_r_63) h (fun h => ?_) (fun h => ?_)
   ·
    obtain ⟨fx4, h_fx4, h⟩ := eh_fcK (eh_ka2 (eh_ad (eh_ml eh_n256 h_x7_62) eh_n1) h_x4) h
    refine er_get he h_f0_root_64 h_f0_wayEnd_65 h_f0_waiting_66 h_fx4 h (fun r_110 r_110' h_r_110 f0_root_111 f0_root_111' h_f0_root_111 f0_wayEnd_112 f0_wayEnd_112' h_f0_wayEnd_112 f0_waiting_113 f0_waiting_113' h_f0_waiting_113 am1361_116 am1362_119 am1363_122 am1364_125 am1365_128 am1366_131 am1367_134 am1368_137 am1369_140 am13610_143 am13611_146 am13612_149 am13613_152 am13614_155 h => ?_) 
    refine eh_if (eh_lt h_r_110 eh_n0) h (fun h => ?_) (fun h => ?_)
    ·
     refine er_isAbove he h_f0_root_111 h_f0_wayEnd_112 h_f0_waiting_113 h_r_63 h_x7_62 h (fun r_157 r_157' h_r_157 f0_root_158 f0_root_158' h_f0_root_158 f0_wayEnd_159 f0_wayEnd_159' h_f0_wayEnd_159 f0_waiting_160 f0_waiting_160' h_f0_waiting_160 am1501_163 am1502_166 am1503_169 am1504_172 am1505_175 am1506_178 am1507_181 am1508_184 am1509_187 am15010_190 am15011_193 am15012_196 am15013_199 am15014_202 h => ?_) 
     refine eh_if (eh_eq h_r_157 eh_n0) h (fun h => ?_) (fun h => ?_)
     ·
      refine er_sortOf he h_f0_root_158 h_f0_wayEnd_159 h_f0_waiting_160 h_r_63 h (fun r_204 r_204' h_r_204 f0_root_205 f0_root_205' h_f0_root_205 f0_wayEnd_206 f0_wayEnd_206' h_f0_wayEnd_206 f0_waiting_207 f0_waiting_207' h_f0_waiting_207 am1621_210 am1622_213 am1623_216 am1624_219 am1625_222 am1626_225 am1627_228 am1628_231 am1629_234 am16210_237 am16211_240 am16212_243 am16213_246 am16214_249 h => ?_) 
      obtain ⟨fx5, h_fx5, h⟩ := eh_fcK (eh_ka2 (eh_ad (eh_ml eh_n256 h_x6_60) eh_n1) h_x2) h
      refine er_remove he h_f0_root_205 h_f0_wayEnd_206 h_f0_waiting_207 h_fx5 h (fun f0_root_251 f0_root_251' h_f0_root_251 f0_wayEnd_252 f0_wayEnd_252' h_f0_wayEnd_252 f0_waiting_253 f0_waiting_253' h_f0_waiting_253 am1781_256 am1782_259 am1783_262 am1784_265 am1785_268 am1786_271 am1787_274 am1788_277 am1789_280 am17810_283 am17811_286 am17812_289 am17813_292 am17814_295 h => ?_) 
      obtain ⟨fx6, h_fx6, h⟩ := eh_fcK (eh_ka2 (eh_ad (eh_ml eh_n256 h_x7_62) eh_n1) h_x4) h
      refine er_put he h_f0_root_251 h_f0_wayEnd_252 h_f0_waiting_253 h_fx6 h_r_63 h (fun f0_root_297 f0_root_297' h_f0_root_297 f0_wayEnd_298 f0_wayEnd_298' h_f0_wayEnd_298 f0_waiting_299 f0_waiting_299' h_f0_waiting_299 am1951_302 am1952_305 am1953_308 am1954_311 am1955_314 am1956_317 am1957_320 am1958_323 am1959_326 am19510_329 am19511_332 am19512_335 am19513_338 am19514_341 h => ?_) 
      obtain ⟨fx7, h_fx7, h⟩ := eh_fcK (eh_ik (eh_ml eh_n256 h_r_63)) h
      obtain ⟨fx8, h_fx8, h⟩ := eh_fc (eh_ad (eh_ml eh_n4 h_x7_62) h_r_204) h
      refine er_put he h_f0_root_297 h_f0_wayEnd_298 h_f0_waiting_299 h_fx7 h_fx8 h (fun f0_root_343 f0_root_343' h_f0_root_343 f0_wayEnd_344 f0_wayEnd_344' h_f0_wayEnd_344 f0_waiting_345 f0_waiting_345' h_f0_waiting_345 am2121_348 am2122_351 am2123_354 am2124_357 am2125_360 am2126_363 am2127_366 am2128_369 am2129_372 am21210_375 am21211_378 am21212_381 am21213_384 am21214_387 h => ?_) 
      exact hK _ _ eh_n0 _ _ h_f0_root_343 _ _ h_f0_wayEnd_344 _ _ h_f0_waiting_345 _ _ _ _ _ _ _ _ _ _ _ _ _ _ h
     ·
      exact hK _ _ eh_m7 _ _ h_f0_root_158 _ _ h_f0_wayEnd_159 _ _ h_f0_waiting_160 _ _ _ _ _ _ _ _ _ _ _ _ _ _ h
    ·
     exact hK _ _ eh_m5 _ _ h_f0_root_111 _ _ h_f0_wayEnd_112 _ _ h_f0_waiting_113 _ _ _ _ _ _ _ _ _ _ _ _ _ _ h
   ·
    exact hK _ _ eh_m3 _ _ h_f0_root_64 _ _ h_f0_wayEnd_65 _ _ h_f0_waiting_66 _ _ _ _ _ _ _ _ _ _ _ _ _ _ h
  ·
   exact hK _ _ h_x5 _ _ h_f0_root _ _ h_f0_wayEnd _ _ h_f0_waiting _ _ _ _ _ _ _ _ _ _ _ _ _ _ h
theorem er_rename_72 {e : ef_E} (he : e.1 < 80) {post : Int32 → St2 → Prop} {K : ef_F18} {x1 : Nat} {x1' : Int32} {x2 : Nat} {x2' : Int32} {x3 : Nat} {x3' : Int32} {x4 : Nat} {x4' : Int32} {f0_root : Nat} {f0_root' : Int32} {f0_wayEnd : Nat} {f0_wayEnd' : Int32} {f0_waiting : Nat} {f0_waiting' : Int32} {am371 : Nat} {am372 : Nat} {am373 : Nat} {am374 : Nat} {am375 : Nat} {am376 : Nat} {am377 : Nat} {am378 : Nat} {am379 : Nat} {am3710 : Nat} {am3711 : Nat} {am3712 : Nat} {am3713 : Nat} {am3714 : Nat} (h_x1 : x1' = nI x1) (h_x2 : x2' = ef_kv e x2) (h_x3 : x3' = nI x3) (h_x4 : x4' = ef_kv e x4) (h_f0_root : f0_root' = nI f0_root) (h_f0_wayEnd : f0_wayEnd' = nI f0_wayEnd) (h_f0_waiting : f0_waiting' = nI f0_waiting) (h : ef_rename_72 K x1 x2 x3 x4 f0_root f0_wayEnd f0_waiting am371 am372 am373 am374 am375 am376 am377 am378 am379 am3710 am3711 am3712 am3713 am3714 = true) (hK : er_PI e K post)  : wX_rename_72 post x1' x2' x3' x4' f0_root' f0_wayEnd' f0_waiting' (eb_ar am371) (eb_ak e am372) (eb_ar am373) (eb_ar am374) (eb_ar am375) (eb_ar am376) (eb_ar am377) (eb_ar am378) (eb_ar am379) (eb_ak e am3710) (eb_ar am3711) (eb_ar am3712) (eb_ar am3713) (eb_ar am3714) := by
  unfold wX_rename_72
  exact er_rename_76 he h_x1 h_x2 h_x3 h_x4 eh_m3 h_f0_root h_f0_wayEnd h_f0_waiting h hK 
theorem er_rename_54 {e : ef_E} (he : e.1 < 80) {post : Int32 → St2 → Prop} {K : ef_F18} {x1 : Nat} {x1' : Int32} {x2 : Nat} {x2' : Int32} {x3 : Nat} {x3' : Int32} {x4 : Nat} {x4' : Int32} {x5 : Nat} {x5' : Int32} {f0_root : Nat} {f0_root' : Int32} {f0_wayEnd : Nat} {f0_wayEnd' : Int32} {f0_waiting : Nat} {f0_waiting' : Int32} {am371 : Nat} {am372 : Nat} {am373 : Nat} {am374 : Nat} {am375 : Nat} {am376 : Nat} {am377 : Nat} {am378 : Nat} {am379 : Nat} {am3710 : Nat} {am3711 : Nat} {am3712 : Nat} {am3713 : Nat} {am3714 : Nat} (h_x1 : x1' = nI x1) (h_x2 : x2' = ef_kv e x2) (h_x3 : x3' = nI x3) (h_x4 : x4' = ef_kv e x4) (h_x5 : x5' = nI x5) (h_f0_root : f0_root' = nI f0_root) (h_f0_wayEnd : f0_wayEnd' = nI f0_wayEnd) (h_f0_waiting : f0_waiting' = nI f0_waiting) (h : ef_rename_54 K x1 x2 x3 x4 x5 f0_root f0_wayEnd f0_waiting am371 am372 am373 am374 am375 am376 am377 am378 am379 am3710 am3711 am3712 am3713 am3714 = true) (hK : er_PI e K post)  : wX_rename_54 post x1' x2' x3' x4' x5' f0_root' f0_wayEnd' f0_waiting' (eb_ar am371) (eb_ak e am372) (eb_ar am373) (eb_ar am374) (eb_ar am375) (eb_ar am376) (eb_ar am377) (eb_ar am378) (eb_ar am379) (eb_ak e am3710) (eb_ar am3711) (eb_ar am3712) (eb_ar am3713) (eb_ar am3714) := by
  refine eh_in h_x1 h (fun f1 h => ?_)
  refine eh_if (eh_lt (eh_gt h_x1 f1) eh_n0) h (fun h => ?_) (fun h => ?_)
  ·
   exact er_rename_72 he h_x1 h_x2 h_x3 h_x4 h_f0_root h_f0_wayEnd h_f0_waiting h hK 
  ·
   refine eh_in h_x3 h (fun f2 h => ?_)
   refine eh_if (eh_le eh_n0 (eh_gt h_x3 f2)) h (fun h => ?_) (fun h => ?_)
   ·
    exact er_rename_76 he h_x1 h_x2 h_x3 h_x4 h_x5 h_f0_root h_f0_wayEnd h_f0_waiting h hK 
   ·
    exact er_rename_72 he h_x1 h_x2 h_x3 h_x4 h_f0_root h_f0_wayEnd h_f0_waiting h hK 
theorem er_rename {e : ef_E} (he : e.1 < 80) {post : Int32 → St2 → Prop} {K : ef_F18} {f0_root : Nat} {f0_root' : Int32} {f0_wayEnd : Nat} {f0_wayEnd' : Int32} {f0_waiting : Nat} {f0_waiting' : Int32} {a1 : Nat} {a2 : Nat} {a3 : Nat} {a4 : Nat} {a5 : Nat} {a6 : Nat} {a7 : Nat} {a8 : Nat} {a9 : Nat} {a10 : Nat} {a11 : Nat} {a12 : Nat} {a13 : Nat} {a14 : Nat} {p0 : Nat} {p0' : Int32} {p1 : Nat} {p1' : Int32} {p2 : Nat} {p2' : Int32} {p3 : Nat} {p3' : Int32} (h_f0_root : f0_root' = nI f0_root) (h_f0_wayEnd : f0_wayEnd' = nI f0_wayEnd) (h_f0_waiting : f0_waiting' = nI f0_waiting) (h_p0 : p0' = nI p0) (h_p1 : p1' = ef_kv e p1) (h_p2 : p2' = nI p2) (h_p3 : p3' = ef_kv e p3) (h : ef_rename K f0_root f0_wayEnd f0_waiting a1 a2 a3 a4 a5 a6 a7 a8 a9 a10 a11 a12 a13 a14 p0 p1 p2 p3 = true) (hK : er_PI e K post)  : wpX_rename post (f0_root', f0_wayEnd', f0_waiting', (eb_ar a1), (eb_ak e a2), (eb_ar a3), (eb_ar a4), (eb_ar a5), (eb_ar a6), (eb_ar a7), (eb_ar a8), (eb_ar a9), (eb_ak e a10), (eb_ar a11), (eb_ar a12), (eb_ar a13), (eb_ar a14)) p0' p1' p2' p3' := by
  unfold wpX_rename
  refine er_isHandle he h_f0_root h_f0_wayEnd h_f0_waiting h_p0 h (fun r_1 r_1' h_r_1 h => ?_) 
  refine eh_if (eh_eq h_r_1 eh_n0) h (fun h => ?_) (fun h => ?_)
  ·
   exact hK _ _ eh_m1 _ _ h_f0_root _ _ h_f0_wayEnd _ _ h_f0_waiting _ _ _ _ _ _ _ _ _ _ _ _ _ _ h
  ·
   refine er_isHandle he h_f0_root h_f0_wayEnd h_f0_waiting h_p2 h (fun r_3 r_3' h_r_3 h => ?_) 
   refine eh_if (eh_eq h_r_3 eh_n0) h (fun h => ?_) (fun h => ?_)
   ·
    exact hK _ _ eh_m1 _ _ h_f0_root _ _ h_f0_wayEnd _ _ h_f0_waiting _ _ _ _ _ _ _ _ _ _ _ _ _ _ h
   ·
    refine er_isName he h_f0_root h_f0_wayEnd h_f0_waiting h_p1 h (fun r_5 r_5' h_r_5 h => ?_) 
    refine eh_if (eh_eq h_r_5 eh_n0) h (fun h => ?_) (fun h => ?_)
    ·
     exact hK _ _ eh_m1 _ _ h_f0_root _ _ h_f0_wayEnd _ _ h_f0_waiting _ _ _ _ _ _ _ _ _ _ _ _ _ _ h
    ·
     refine er_isName he h_f0_root h_f0_wayEnd h_f0_waiting h_p3 h (fun r_7 r_7' h_r_7 h => ?_) 
     refine eh_if (eh_eq h_r_7 eh_n0) h (fun h => ?_) (fun h => ?_)
     ·
      exact hK _ _ eh_m1 _ _ h_f0_root _ _ h_f0_wayEnd _ _ h_f0_waiting _ _ _ _ _ _ _ _ _ _ _ _ _ _ h
     ·
      refine er_directoryFault he h_f0_root h_f0_wayEnd h_f0_waiting h_p0 h (fun r_9 r_9' h_r_9 f0_root_10 f0_root_10' h_f0_root_10 f0_wayEnd_11 f0_wayEnd_11' h_f0_wayEnd_11 f0_waiting_12 f0_waiting_12' h_f0_waiting_12 am371_15 am372_18 am373_21 am374_24 am375_27 am376_30 am377_33 am378_36 am379_39 am3710_42 am3711_45 am3712_48 am3713_51 am3714_54 h => ?_) 
      refine eh_if (eh_eq h_r_9 eh_n0) h (fun h => ?_) (fun h => ?_)
      ·
       refine er_directoryFault he h_f0_root_10 h_f0_wayEnd_11 h_f0_waiting_12 h_p2 h (fun r_390 r_390' h_r_390 f0_root_391 f0_root_391' h_f0_root_391 f0_wayEnd_392 f0_wayEnd_392' h_f0_wayEnd_392 f0_waiting_393 f0_waiting_393' h_f0_waiting_393 am491_396 am492_399 am493_402 am494_405 am495_408 am496_411 am497_414 am498_417 am499_420 am4910_423 am4911_426 am4912_429 am4913_432 am4914_435 h => ?_) 
       exact er_rename_54 he h_p0 h_p1 h_p2 h_p3 h_r_390 h_f0_root_391 h_f0_wayEnd_392 h_f0_waiting_393 h hK 
      ·
       exact er_rename_54 he h_p0 h_p1 h_p2 h_p3 h_r_9 h_f0_root_10 h_f0_wayEnd_11 h_f0_waiting_12 h hK 
theorem er_erase_132 {e : ef_E} (he : e.1 < 80) {post : Int32 → St2 → Prop} {K : ef_F18} {x2 : Nat} {x2' : Int32} {x4 : Nat} {x4' : Int32} {x5 : Nat} {x5' : Int32} {f0_root : Nat} {f0_root' : Int32} {f0_wayEnd : Nat} {f0_wayEnd' : Int32} {f0_waiting : Nat} {f0_waiting' : Int32} {am1171 : Nat} {am1172 : Nat} {am1173 : Nat} {am1174 : Nat} {am1175 : Nat} {am1176 : Nat} {am1177 : Nat} {am1178 : Nat} {am1179 : Nat} {am11710 : Nat} {am11711 : Nat} {am11712 : Nat} {am11713 : Nat} {am11714 : Nat} (h_x2 : x2' = ef_kv e x2) (h_x4 : x4' = nI x4) (h_x5 : x5' = nI x5) (h_f0_root : f0_root' = nI f0_root) (h_f0_wayEnd : f0_wayEnd' = nI f0_wayEnd) (h_f0_waiting : f0_waiting' = nI f0_waiting) (h : ef_erase_132 K x2 x4 x5 f0_root f0_wayEnd f0_waiting am1171 am1172 am1173 am1174 am1175 am1176 am1177 am1178 am1179 am11710 am11711 am11712 am11713 am11714 = true) (hK : er_PI e K post)  : wX_erase_132 post x2' x4' x5' f0_root' f0_wayEnd' f0_waiting' (eb_ar am1171) (eb_ak e am1172) (eb_ar am1173) (eb_ar am1174) (eb_ar am1175) (eb_ar am1176) (eb_ar am1177) (eb_ar am1178) (eb_ar am1179) (eb_ak e am11710) (eb_ar am11711) (eb_ar am11712) (eb_ar am11713) (eb_ar am11714) := by
  unfold wX_erase_132
  obtain ⟨fx1, h_fx1, h⟩ := eh_fcK (eh_ka2 (eh_ad (eh_ml eh_n256 h_x4) eh_n1) h_x2) h
  refine er_remove he h_f0_root h_f0_wayEnd h_f0_waiting h_fx1 h (fun f0_root_197 f0_root_197' h_f0_root_197 f0_wayEnd_198 f0_wayEnd_198' h_f0_wayEnd_198 f0_waiting_199 f0_waiting_199' h_f0_waiting_199 am1431_202 am1432_205 am1433_208 am1434_211 am1435_214 am1436_217 am1437_220 am1438_223 am1439_226 am14310_229 am14311_232 am14312_235 am14313_238 am14314_241 h => ?_) 
  obtain ⟨fx2, h_fx2, h⟩ := eh_fcK (eh_ik (eh_ml eh_n256 h_x5)) h
  refine er_remove he h_f0_root_197 h_f0_wayEnd_198 h_f0_waiting_199 h_fx2 h (fun f0_root_243 f0_root_243' h_f0_root_243 f0_wayEnd_244 f0_wayEnd_244' h_f0_wayEnd_244 f0_waiting_245 f0_waiting_245' h_f0_waiting_245 am1531_248 am1532_251 am1533_254 am1534_257 am1535_260 am1536_263 am1537_266 am1538_269 am1539_272 am15310_275 am15311_278 am15312_281 am15313_284 am15314_287 h => ?_) 
  exact hK _ _ eh_n0 _ _ h_f0_root_243 _ _ h_f0_wayEnd_244 _ _ h_f0_waiting_245 _ _ _ _ _ _ _ _ _ _ _ _ _ _ h
theorem er_erase_114 {e : ef_E} (he : e.1 < 80) {post : Int32 → St2 → Prop} {K : ef_F18} {x2 : Nat} {x2' : Int32} {x4 : Nat} {x4' : Int32} {x5 : Nat} {x5' : Int32} {f0_root : Nat} {f0_root' : Int32} {f0_wayEnd : Nat} {f0_wayEnd' : Int32} {f0_waiting : Nat} {f0_waiting' : Int32} {am951 : Nat} {am952 : Nat} {am953 : Nat} {am954 : Nat} {am955 : Nat} {am956 : Nat} {am957 : Nat} {am958 : Nat} {am959 : Nat} {am9510 : Nat} {am9511 : Nat} {am9512 : Nat} {am9513 : Nat} {am9514 : Nat} (h_x2 : x2' = ef_kv e x2) (h_x4 : x4' = nI x4) (h_x5 : x5' = nI x5) (h_f0_root : f0_root' = nI f0_root) (h_f0_wayEnd : f0_wayEnd' = nI f0_wayEnd) (h_f0_waiting : f0_waiting' = nI f0_waiting) (h : ef_erase_114 K x2 x4 x5 f0_root f0_wayEnd f0_waiting am951 am952 am953 am954 am955 am956 am957 am958 am959 am9510 am9511 am9512 am9513 am9514 = true) (hK : er_PI e K post)  : wX_erase_114 post x2' x4' x5' f0_root' f0_wayEnd' f0_waiting' (eb_ar am951) (eb_ak e am952) (eb_ar am953) (eb_ar am954) (eb_ar am955) (eb_ar am956) (eb_ar am957) (eb_ar am958) (eb_ar am959) (eb_ak e am9510) (eb_ar am9511) (eb_ar am9512) (eb_ar am9513) (eb_ar am9514) := by
  unfold wX_erase_114
  refine er_sortOf he h_f0_root h_f0_wayEnd h_f0_waiting h_x5 h (fun r_149 r_149' h_r_149 f0_root_150 f0_root_150' h_f0_root_150 f0_wayEnd_151 f0_wayEnd_151' h_f0_wayEnd_151 f0_waiting_152 f0_waiting_152' h_f0_waiting_152 am1171_155 am1172_158 am1173_161 am1174_164 am1175_167 am1176_170 am1177_173 am1178_176 am1179_179 am11710_182 am11711_185 am11712_188 am11713_191 am11714_194 h => ?_) 
  refine eh_if (eh_eq h_r_149 eh_n2) h (fun h => ?_) (fun h => ?_)
  ·
   refine er_cutBlocks he h_f0_root_150 h_f0_wayEnd_151 h_f0_waiting_152 h_x5 eh_n0 h (fun r_288 r_288' h_r_288 f0_root_289 f0_root_289' h_f0_root_289 f0_wayEnd_290 f0_wayEnd_290' h_f0_wayEnd_290 f0_waiting_291 f0_waiting_291' h_f0_waiting_291 am1281_294 am1282_297 am1283_300 am1284_303 am1285_306 am1286_309 am1287_312 am1288_315 am1289_318 am12810_321 am12811_324 am12812_327 am12813_330 am12814_333 h => ?_) 
   exact er_erase_132 he h_x2 h_x4 h_x5 h_f0_root_289 h_f0_wayEnd_290 h_f0_waiting_291 h hK 
  ·
   exact er_erase_132 he h_x2 h_x4 h_x5 h_f0_root_150 h_f0_wayEnd_151 h_f0_waiting_152 h hK 
end
section
/-! refinement, printed by a program -/
theorem er_erase_65 {e : ef_E} (he : e.1 < 80) {post : Int32 → St2 → Prop} {K : ef_F18} {x2 : Nat} {x2' : Int32} {x4 : Nat} {x4' : Int32} {x5 : Nat} {x5' : Int32} {f0_root : Nat} {f0_root' : Int32} {f0_wayEnd : Nat} {f0_wayEnd' : Int32} {f0_waiting : Nat} {f0_waiting' : Int32} {am491 : Nat} {am492 : Nat} {am493 : Nat} {am494 : Nat} {am495 : Nat} {am496 : Nat} {am497 : Nat} {am498 : Nat} {am499 : Nat} {am4910 : Nat} {am4911 : Nat} {am4912 : Nat} {am4913 : Nat} {am4914 : Nat} (hK : er_PI e K post)  (h_x2 : x2' = ef_kv e x2) (h_x4 : x4' = nI x4) (h_x5 : x5' = nI x5) (h_f0_root : f0_root' = nI f0_root) (h_f0_wayEnd : f0_wayEnd' = nI f0_wayEnd) (h_f0_waiting : f0_waiting' = nI f0_waiting) : ∀ (n : Nat) (x6 : Nat) (x6' : Int32) (_ : x6' = nI x6), ef_erase_65 K x2 x4 x5 f0_root f0_wayEnd f0_waiting am491 am492 am493 am494 am495 am496 am497 am498 am499 am4910 am4911 am4912 am4913 am4914 n x6 = true → wX_erase_65 post x2' x4' x5' f0_root' f0_wayEnd' f0_waiting' (eb_ar am491) (eb_ak e am492) (eb_ar am493) (eb_ar am494) (eb_ar am495) (eb_ar am496) (eb_ar am497) (eb_ar am498) (eb_ar am499) (eb_ak e am4910) (eb_ar am4911) (eb_ar am4912) (eb_ar am4913) (eb_ar am4914) n x6' := by
  intro n
  induction n with
  | zero =>
    intro x6 x6' h_x6 h
    exact absurd (show false = true from h) Bool.false_ne_true
  | succ n ih =>
    intro x6 x6' h_x6 h
    have h : ef_erase_65_b K x2 x4 x5 f0_root f0_wayEnd f0_waiting am491 am492 am493 am494 am495 am496 am497 am498 am499 am4910 am4911 am4912 am4913 am4914 (ef_erase_65 K x2 x4 x5 f0_root f0_wayEnd f0_waiting am491 am492 am493 am494 am495 am496 am497 am498 am499 am4910 am4911 am4912 am4913 am4914 n) x6 = true := h
    refine eh_if (eh_le eh_n4 h_x6) h (fun h => ?_) (fun h => ?_)
    ·
     refine er_sortOf he h_f0_root h_f0_wayEnd h_f0_waiting h_x5 h (fun r_102 r_102' h_r_102 f0_root_103 f0_root_103' h_f0_root_103 f0_wayEnd_104 f0_wayEnd_104' h_f0_wayEnd_104 f0_waiting_105 f0_waiting_105' h_f0_waiting_105 am951_108 am952_111 am953_114 am954_117 am955_120 am956_123 am957_126 am958_129 am959_132 am9510_135 am9511_138 am9512_141 am9513_144 am9514_147 h => ?_) 
     refine eh_if (eh_eq h_r_102 eh_n1) h (fun h => ?_) (fun h => ?_)
     ·
      refine er_entriesOf he h_f0_root_103 h_f0_wayEnd_104 h_f0_waiting_105 h_x5 h (fun r_334 r_334' h_r_334 h => ?_) 
      refine eh_if (eh_le h_r_334 eh_n0) h (fun h => ?_) (fun h => ?_)
      ·
       exact er_erase_114 he h_x2 h_x4 h_x5 h_f0_root_103 h_f0_wayEnd_104 h_f0_waiting_105 h hK 
      ·
       exact hK _ _ eh_m2 _ _ h_f0_root_103 _ _ h_f0_wayEnd_104 _ _ h_f0_waiting_105 _ _ _ _ _ _ _ _ _ _ _ _ _ _ h
     ·
      exact er_erase_114 he h_x2 h_x4 h_x5 h_f0_root_103 h_f0_wayEnd_104 h_f0_waiting_105 h hK 
    ·
     refine eh_in h_x6 h (fun f1 h => ?_)
     refine eh_if (eh_eq (eh_gt h_x6 f1) h_x5) h (fun h => ?_) (fun h => ?_)
     ·
      exact hK _ _ eh_m6 _ _ h_f0_root _ _ h_f0_wayEnd _ _ h_f0_waiting _ _ _ _ _ _ _ _ _ _ _ _ _ _ h
     ·
      refine eh_let (eh_ad h_x6 eh_n1) h (fun x6_338 x6_338' h_x6_338 h => ?_)
      exact ih _ _ h_x6_338 h
theorem er_erase {e : ef_E} (he : e.1 < 80) {post : Int32 → St2 → Prop} {K : ef_F18} {f0_root : Nat} {f0_root' : Int32} {f0_wayEnd : Nat} {f0_wayEnd' : Int32} {f0_waiting : Nat} {f0_waiting' : Int32} {a1 : Nat} {a2 : Nat} {a3 : Nat} {a4 : Nat} {a5 : Nat} {a6 : Nat} {a7 : Nat} {a8 : Nat} {a9 : Nat} {a10 : Nat} {a11 : Nat} {a12 : Nat} {a13 : Nat} {a14 : Nat} {p0 : Nat} {p0' : Int32} {p1 : Nat} {p1' : Int32} (h_f0_root : f0_root' = nI f0_root) (h_f0_wayEnd : f0_wayEnd' = nI f0_wayEnd) (h_f0_waiting : f0_waiting' = nI f0_waiting) (h_p0 : p0' = nI p0) (h_p1 : p1' = ef_kv e p1) (h : ef_erase K f0_root f0_wayEnd f0_waiting a1 a2 a3 a4 a5 a6 a7 a8 a9 a10 a11 a12 a13 a14 p0 p1 = true) (hK : er_PI e K post)  : wpX_erase post (f0_root', f0_wayEnd', f0_waiting', (eb_ar a1), (eb_ak e a2), (eb_ar a3), (eb_ar a4), (eb_ar a5), (eb_ar a6), (eb_ar a7), (eb_ar a8), (eb_ar a9), (eb_ak e a10), (eb_ar a11), (eb_ar a12), (eb_ar a13), (eb_ar a14)) p0' p1' := by
  unfold wpX_erase
  refine er_isHandle he h_f0_root h_f0_wayEnd h_f0_waiting h_p0 h (fun r_1 r_1' h_r_1 h => ?_) 
  refine eh_if (eh_eq h_r_1 eh_n0) h (fun h => ?_) (fun h => ?_)
  ·
   exact hK _ _ eh_m1 _ _ h_f0_root _ _ h_f0_wayEnd _ _ h_f0_waiting _ _ _ _ _ _ _ _ _ _ _ _ _ _ h
  ·
   refine er_isName he h_f0_root h_f0_wayEnd h_f0_waiting h_p1 h (fun r_3 r_3' h_r_3 h => ?_) 
   refine eh_if (eh_eq h_r_3 eh_n0) h (fun h => ?_) (fun h => ?_)
   ·
    exact hK _ _ eh_m1 _ _ h_f0_root _ _ h_f0_wayEnd _ _ h_f0_waiting _ _ _ _ _ _ _ _ _ _ _ _ _ _ h
   ·
    refine er_directoryFault he h_f0_root h_f0_wayEnd h_f0_waiting h_p0 h (fun r_5 r_5' h_r_5 f0_root_6 f0_root_6' h_f0_root_6 f0_wayEnd_7 f0_wayEnd_7' h_f0_wayEnd_7 f0_waiting_8 f0_waiting_8' h_f0_waiting_8 am201_11 am202_14 am203_17 am204_20 am205_23 am206_26 am207_29 am208_32 am209_35 am2010_38 am2011_41 am2012_44 am2013_47 am2014_50 h => ?_) 
    refine eh_if (eh_eq h_r_5 eh_n0) h (fun h => ?_) (fun h => ?_)
    ·
     refine eh_in h_p0 h (fun f1 h => ?_)
     refine eh_let (eh_gt h_p0 f1) h (fun x4_53 x4_53' h_x4_53 h => ?_)
     obtain ⟨fx2, h_fx2, h⟩ := eh_fcK (eh_ka2 (eh_ad (eh_ml eh_n256 h_x4_53) eh_n1) h_p1) h
     refine er_get he h_f0_root_6 h_f0_wayEnd_7 h_f0_waiting_8 h_fx2 h (fun r_54 r_54' h_r_54 f0_root_55 f0_root_55' h_f0_root_55 f0_wayEnd_56 f0_wayEnd_56' h_f0_wayEnd_56 f0_waiting_57 f0_waiting_57' h_f0_waiting_57 am491_60 am492_63 am493_66 am494_69 am495_72 am496_75 am497_78 am498_81 am499_84 am4910_87 am4911_90 am4912_93 am4913_96 am4914_99 h => ?_) 
     refine eh_if (eh_le eh_n0 h_r_54) h (fun h => ?_) (fun h => ?_)
     ·
      refine Exists.intro 120 ?_
      exact er_erase_65 he hK  h_p1 h_x4_53 h_r_54 h_f0_root_55 h_f0_wayEnd_56 h_f0_waiting_57 120 _ _ eh_n0 h
     ·
      exact hK _ _ eh_m3 _ _ h_f0_root_55 _ _ h_f0_wayEnd_56 _ _ h_f0_waiting_57 _ _ _ _ _ _ _ _ _ _ _ _ _ _ h
    ·
     exact hK _ _ h_r_5 _ _ h_f0_root_6 _ _ h_f0_wayEnd_7 _ _ h_f0_waiting_8 _ _ _ _ _ _ _ _ _ _ _ _ _ _ h
theorem er_next_59 {e : ef_E} (he : e.1 < 80) {post : Int32 → St2 → Prop} {K : ef_F18} {x4 : Nat} {x4' : Int32} {z0 : Nat} {z0' : Int32} {f0_root : Nat} {f0_root' : Int32} {f0_wayEnd : Nat} {f0_wayEnd' : Int32} {f0_waiting : Nat} {f0_waiting' : Int32} {am121 : Nat} {am122 : Nat} {am123 : Nat} {am124 : Nat} {am125 : Nat} {am126 : Nat} {am127 : Nat} {am128 : Nat} {am129 : Nat} {am1210 : Nat} {am1211 : Nat} {am1212 : Nat} {am1213 : Nat} {am1214 : Nat} (h_x4 : x4' = nI x4) (h_z0 : z0' = ef_kv e z0) (h_f0_root : f0_root' = nI f0_root) (h_f0_wayEnd : f0_wayEnd' = nI f0_wayEnd) (h_f0_waiting : f0_waiting' = nI f0_waiting) (h : ef_next_59 K x4 z0 f0_root f0_wayEnd f0_waiting am121 am122 am123 am124 am125 am126 am127 am128 am129 am1210 am1211 am1212 am1213 am1214 = true) (hK : er_PK e K post)  : wX_next_59 post x4' z0' f0_root' f0_wayEnd' f0_waiting' (eb_ar am121) (eb_ak e am122) (eb_ar am123) (eb_ar am124) (eb_ar am125) (eb_ar am126) (eb_ar am127) (eb_ar am128) (eb_ar am129) (eb_ak e am1210) (eb_ar am1211) (eb_ar am1212) (eb_ar am1213) (eb_ar am1214) := by
  unfold wX_next_59
  refine er_nextKey he h_f0_root h_f0_wayEnd h_f0_waiting h_z0 h (fun r_54 r_54' h_r_54 h => ?_) 
  refine eh_i3 (eh_klt he h_r_54 (eh_ik eh_n0)) (eh_knlt he h_r_54 (eh_ik eh_n0)) h (fun h => ?_) (fun h => ?_)
  ·
   exact hK _ _ (eh_ik eh_m3) _ _ h_f0_root _ _ h_f0_wayEnd _ _ h_f0_waiting _ _ _ _ _ _ _ _ _ _ _ _ _ _ h
  ·
   refine eh_i3 (eh_klt he h_r_54 (eh_ik (eh_ad h_x4 eh_n128))) (eh_knlt he h_r_54 (eh_ik (eh_ad h_x4 eh_n128))) h (fun h => ?_) (fun h => ?_)
   ·
    obtain ⟨fx1, h_fx1, h⟩ := eh_fcK (eh_ks (eh_ks h_r_54 h_x4) eh_n1) h
    exact hK _ _ h_fx1 _ _ h_f0_root _ _ h_f0_wayEnd _ _ h_f0_waiting _ _ _ _ _ _ _ _ _ _ _ _ _ _ h
   ·
    exact hK _ _ (eh_ik eh_m3) _ _ h_f0_root _ _ h_f0_wayEnd _ _ h_f0_waiting _ _ _ _ _ _ _ _ _ _ _ _ _ _ h
theorem er_next {e : ef_E} (he : e.1 < 80) {post : Int32 → St2 → Prop} {K : ef_F18} {f0_root : Nat} {f0_root' : Int32} {f0_wayEnd : Nat} {f0_wayEnd' : Int32} {f0_waiting : Nat} {f0_waiting' : Int32} {a1 : Nat} {a2 : Nat} {a3 : Nat} {a4 : Nat} {a5 : Nat} {a6 : Nat} {a7 : Nat} {a8 : Nat} {a9 : Nat} {a10 : Nat} {a11 : Nat} {a12 : Nat} {a13 : Nat} {a14 : Nat} {p0 : Nat} {p0' : Int32} {p1 : Nat} {p1' : Int32} (h_f0_root : f0_root' = nI f0_root) (h_f0_wayEnd : f0_wayEnd' = nI f0_wayEnd) (h_f0_waiting : f0_waiting' = nI f0_waiting) (h_p0 : p0' = nI p0) (h_p1 : p1' = ef_kv e p1) (h : ef_next K f0_root f0_wayEnd f0_waiting a1 a2 a3 a4 a5 a6 a7 a8 a9 a10 a11 a12 a13 a14 p0 p1 = true) (hK : er_PK e K post)  : wpX_next post (f0_root', f0_wayEnd', f0_waiting', (eb_ar a1), (eb_ak e a2), (eb_ar a3), (eb_ar a4), (eb_ar a5), (eb_ar a6), (eb_ar a7), (eb_ar a8), (eb_ar a9), (eb_ak e a10), (eb_ar a11), (eb_ar a12), (eb_ar a13), (eb_ar a14)) p0' p1' := by
  unfold wpX_next
  refine er_isHandle he h_f0_root h_f0_wayEnd h_f0_waiting h_p0 h (fun r_1 r_1' h_r_1 h => ?_) 
  refine eh_if (eh_eq h_r_1 eh_n0) h (fun h => ?_) (fun h => ?_)
  ·
   exact hK _ _ (eh_ik eh_m1) _ _ h_f0_root _ _ h_f0_wayEnd _ _ h_f0_waiting _ _ _ _ _ _ _ _ _ _ _ _ _ _ h
  ·
   refine er_directoryFault he h_f0_root h_f0_wayEnd h_f0_waiting h_p0 h (fun r_3 r_3' h_r_3 f0_root_4 f0_root_4' h_f0_root_4 f0_wayEnd_5 f0_wayEnd_5' h_f0_wayEnd_5 f0_waiting_6 f0_waiting_6' h_f0_waiting_6 am121_9 am122_12 am123_15 am124_18 am125_21 am126_24 am127_27 am128_30 am129_33 am1210_36 am1211_39 am1212_42 am1213_45 am1214_48 h => ?_) 
   refine eh_if (eh_eq h_r_3 eh_n0) h (fun h => ?_) (fun h => ?_)
   ·
    refine eh_i3 (eh_kle he h_p1 (eh_ik eh_n98)) (eh_knle he h_p1 (eh_ik eh_n98)) h (fun h => ?_) (fun h => ?_)
    ·
     refine eh_in h_p0 h (fun f1 h => ?_)
     refine eh_let (eh_ml eh_n256 (eh_gt h_p0 f1)) h (fun x4_52 x4_52' h_x4_52 h => ?_)
     refine eh_i3 (eh_kle he (eh_ik eh_n0) h_p1) (eh_knle he (eh_ik eh_n0) h_p1) h (fun h => ?_) (fun h => ?_)
     ·
      obtain ⟨fx2, h_fx2, h⟩ := eh_fcK (eh_ka2 (eh_ad h_x4_52 eh_n1) h_p1) h
      exact er_next_59 he h_x4_52 h_fx2 h_f0_root_4 h_f0_wayEnd_5 h_f0_waiting_6 h hK 
     ·
      obtain ⟨fx3, h_fx3, h⟩ := eh_fcK (eh_ik h_x4_52) h
      exact er_next_59 he h_x4_52 h_fx3 h_f0_root_4 h_f0_wayEnd_5 h_f0_waiting_6 h hK 
    ·
     exact hK _ _ (eh_ik eh_m3) _ _ h_f0_root_4 _ _ h_f0_wayEnd_5 _ _ h_f0_waiting_6 _ _ _ _ _ _ _ _ _ _ _ _ _ _ h
   ·
    obtain ⟨fx4, h_fx4, h⟩ := eh_fcK (eh_ik h_r_3) h
    exact hK _ _ h_fx4 _ _ h_f0_root_4 _ _ h_f0_wayEnd_5 _ _ h_f0_waiting_6 _ _ _ _ _ _ _ _ _ _ _ _ _ _ h
theorem er_nodes_4 {e : ef_E} (he : e.1 < 80) {post : Int32 → St2 → Prop} {K : ef_F18} (hK : er_PI e K post)   : ∀ (n : Nat) (x1 : Nat) (x1' : Int32) (_ : x1' = nI x1) (x2 : Nat) (x2' : Int32) (_ : x2' = nI x2) (f0_root : Nat) (f0_root' : Int32) (_ : f0_root' = nI f0_root) (f0_wayEnd : Nat) (f0_wayEnd' : Int32) (_ : f0_wayEnd' = nI f0_wayEnd) (f0_waiting : Nat) (f0_waiting' : Int32) (_ : f0_waiting' = nI f0_waiting) (a1 : Nat) (a2 : Nat) (a3 : Nat) (a4 : Nat) (a5 : Nat) (a6 : Nat) (a7 : Nat) (a8 : Nat) (a9 : Nat) (a10 : Nat) (a11 : Nat) (a12 : Nat) (a13 : Nat) (a14 : Nat), ef_nodes_4 K n x1 x2 f0_root f0_wayEnd f0_waiting a1 a2 a3 a4 a5 a6 a7 a8 a9 a10 a11 a12 a13 a14 = true → wX_nodes_4 post n x1' x2' f0_root' f0_wayEnd' f0_waiting' (eb_ar a1) (eb_ak e a2) (eb_ar a3) (eb_ar a4) (eb_ar a5) (eb_ar a6) (eb_ar a7) (eb_ar a8) (eb_ar a9) (eb_ak e a10) (eb_ar a11) (eb_ar a12) (eb_ar a13) (eb_ar a14) := by
  intro n
  induction n with
  | zero =>
    intro x1 x1' h_x1 x2 x2' h_x2 f0_root f0_root' h_f0_root f0_wayEnd f0_wayEnd' h_f0_wayEnd f0_waiting f0_waiting' h_f0_waiting a1 a2 a3 a4 a5 a6 a7 a8 a9 a10 a11 a12 a13 a14 h
    exact absurd (show false = true from h) Bool.false_ne_true
  | succ n ih =>
    intro x1 x1' h_x1 x2 x2' h_x2 f0_root f0_root' h_f0_root f0_wayEnd f0_wayEnd' h_f0_wayEnd f0_waiting f0_waiting' h_f0_waiting a1 a2 a3 a4 a5 a6 a7 a8 a9 a10 a11 a12 a13 a14 h
    have h : ef_nodes_4_b K (ef_nodes_4 K n) x1 x2 f0_root f0_wayEnd f0_waiting a1 a2 a3 a4 a5 a6 a7 a8 a9 a10 a11 a12 a13 a14 = true := h
    refine eh_if (eh_le eh_n16 h_x2) h (fun h => ?_) (fun h => ?_)
    ·
     exact hK _ _ h_x1 _ _ h_f0_root _ _ h_f0_wayEnd _ _ h_f0_waiting _ _ _ _ _ _ _ _ _ _ _ _ _ _ h
    ·
     obtain ⟨fx1, h_fx1, h⟩ := eh_fcK (eh_ik (eh_ml eh_n256 h_x2)) h
     refine er_get he h_f0_root h_f0_wayEnd h_f0_waiting h_fx1 h (fun r_2 r_2' h_r_2 f0_root_3 f0_root_3' h_f0_root_3 f0_wayEnd_4 f0_wayEnd_4' h_f0_wayEnd_4 f0_waiting_5 f0_waiting_5' h_f0_waiting_5 am161_8 am162_11 am163_14 am164_17 am165_20 am166_23 am167_26 am168_29 am169_32 am1610_35 am1611_38 am1612_41 am1613_44 am1614_47 h => ?_) 
     refine eh_if (eh_lt h_r_2 eh_n0) h (fun h => ?_) (fun h => ?_)
     ·
      refine eh_let (eh_ad h_x2 eh_n1) h (fun x2_49 x2_49' h_x2_49 h => ?_)
      exact ih _ _ h_x1 _ _ h_x2_49 _ _ h_f0_root_3 _ _ h_f0_wayEnd_4 _ _ h_f0_waiting_5 _ _ _ _ _ _ _ _ _ _ _ _ _ _ h
     ·
      refine eh_let (eh_ad h_x1 eh_n1) h (fun x1_50 x1_50' h_x1_50 h => ?_)
      refine eh_let (eh_ad h_x2 eh_n1) h (fun x2_51 x2_51' h_x2_51 h => ?_)
      exact ih _ _ h_x1_50 _ _ h_x2_51 _ _ h_f0_root_3 _ _ h_f0_wayEnd_4 _ _ h_f0_waiting_5 _ _ _ _ _ _ _ _ _ _ _ _ _ _ h
theorem er_nodes {e : ef_E} (he : e.1 < 80) {post : Int32 → St2 → Prop} {K : ef_F18} {f0_root : Nat} {f0_root' : Int32} {f0_wayEnd : Nat} {f0_wayEnd' : Int32} {f0_waiting : Nat} {f0_waiting' : Int32} {a1 : Nat} {a2 : Nat} {a3 : Nat} {a4 : Nat} {a5 : Nat} {a6 : Nat} {a7 : Nat} {a8 : Nat} {a9 : Nat} {a10 : Nat} {a11 : Nat} {a12 : Nat} {a13 : Nat} {a14 : Nat} (h_f0_root : f0_root' = nI f0_root) (h_f0_wayEnd : f0_wayEnd' = nI f0_wayEnd) (h_f0_waiting : f0_waiting' = nI f0_waiting) (h : ef_nodes K f0_root f0_wayEnd f0_waiting a1 a2 a3 a4 a5 a6 a7 a8 a9 a10 a11 a12 a13 a14 = true) (hK : er_PI e K post)  : wpX_nodes post (f0_root', f0_wayEnd', f0_waiting', (eb_ar a1), (eb_ak e a2), (eb_ar a3), (eb_ar a4), (eb_ar a5), (eb_ar a6), (eb_ar a7), (eb_ar a8), (eb_ar a9), (eb_ak e a10), (eb_ar a11), (eb_ar a12), (eb_ar a13), (eb_ar a14)) := by
  refine Exists.intro 120 ?_
  exact er_nodes_4 he hK   120 _ _ eh_n0 _ _ eh_n0 _ _ h_f0_root _ _ h_f0_wayEnd _ _ h_f0_waiting _ _ _ _ _ _ _ _ _ _ _ _ _ _ h
theorem er_crash_44 {e : ef_E} (he : e.1 < 80) {post : Int32 → St2 → Prop} {K : ef_F18} {f0_root : Nat} {f0_root' : Int32} {f0_wayEnd : Nat} {f0_wayEnd' : Int32} {f0_waiting : Nat} {f0_waiting' : Int32} (hK : er_PI e K post)  (h_f0_root : f0_root' = nI f0_root) (h_f0_wayEnd : f0_wayEnd' = nI f0_wayEnd) (h_f0_waiting : f0_waiting' = nI f0_waiting) : ∀ (n : Nat) (x2 : Nat) (x2' : Int32) (_ : x2' = nI x2) (a1 : Nat) (a2 : Nat) (a3 : Nat) (a4 : Nat) (a5 : Nat) (a6 : Nat) (a7 : Nat) (a8 : Nat) (a9 : Nat) (a10 : Nat) (a11 : Nat) (a12 : Nat) (a13 : Nat) (a14 : Nat), ef_crash_44 K f0_root f0_wayEnd f0_waiting n x2 a1 a2 a3 a4 a5 a6 a7 a8 a9 a10 a11 a12 a13 a14 = true → wX_crash_44 post f0_root' f0_wayEnd' f0_waiting' n x2' (eb_ar a1) (eb_ak e a2) (eb_ar a3) (eb_ar a4) (eb_ar a5) (eb_ar a6) (eb_ar a7) (eb_ar a8) (eb_ar a9) (eb_ak e a10) (eb_ar a11) (eb_ar a12) (eb_ar a13) (eb_ar a14) := by
  intro n
  induction n with
  | zero =>
    intro x2 x2' h_x2 a1 a2 a3 a4 a5 a6 a7 a8 a9 a10 a11 a12 a13 a14 h
    exact absurd (show false = true from h) Bool.false_ne_true
  | succ n ih =>
    intro x2 x2' h_x2 a1 a2 a3 a4 a5 a6 a7 a8 a9 a10 a11 a12 a13 a14 h
    have h : ef_crash_44_b K f0_root f0_wayEnd f0_waiting (ef_crash_44 K f0_root f0_wayEnd f0_waiting n) x2 a1 a2 a3 a4 a5 a6 a7 a8 a9 a10 a11 a12 a13 a14 = true := h
    refine eh_if (eh_le eh_n4 h_x2) h (fun h => ?_) (fun h => ?_)
    ·
     refine er_settle he h_f0_root h_f0_wayEnd h_f0_waiting h (fun f0_root_9 f0_root_9' h_f0_root_9 f0_wayEnd_10 f0_wayEnd_10' h_f0_wayEnd_10 f0_waiting_11 f0_waiting_11' h_f0_waiting_11 am631_14 am632_17 am633_20 am634_23 am635_26 am636_29 am637_32 am638_35 am639_38 am6310_41 am6311_44 am6312_47 am6313_50 am6314_53 h => ?_) 
     refine er_validPlace he h_f0_root_9 h_f0_wayEnd_10 h_f0_waiting_11 h (fun r_54 r_54' h_r_54 h => ?_) 
     refine eh_in h_r_54 h (fun f1 h => ?_)
     obtain ⟨fx2, h_fx2, h⟩ := eh_fc (eh_gt h_r_54 f1) h
     exact hK _ _ h_fx2 _ _ h_f0_root_9 _ _ h_f0_wayEnd_10 _ _ h_f0_waiting_11 _ _ _ _ _ _ _ _ _ _ _ _ _ _ h
    ·
     refine eh_in h_x2 h (fun f3 h => ?_)
     refine eh_leta (eh_st h_x2 f3 eh_m1) h (fun a11_57 h => ?_)
     refine eh_let (eh_ad h_x2 eh_n1) h (fun x2_58 x2_58' h_x2_58 h => ?_)
     exact ih _ _ h_x2_58 _ _ _ _ _ _ _ _ _ _ _ _ _ _ h
theorem er_crash_29 {e : ef_E} (he : e.1 < 80) {post : Int32 → St2 → Prop} {K : ef_F18} {f0_root : Nat} {f0_root' : Int32} {f0_wayEnd : Nat} {f0_wayEnd' : Int32} {f0_waiting : Nat} {f0_waiting' : Int32} {a1 : Nat} {a2 : Nat} {a3 : Nat} {a4 : Nat} {a5 : Nat} {a6 : Nat} {a7 : Nat} {a8 : Nat} {a9 : Nat} {a10 : Nat} {a11 : Nat} {a12 : Nat} {a13 : Nat} {a14 : Nat} (h_f0_root : f0_root' = nI f0_root) (h_f0_wayEnd : f0_wayEnd' = nI f0_wayEnd) (h_f0_waiting : f0_waiting' = nI f0_waiting) (h : ef_crash_29 K f0_root f0_wayEnd f0_waiting a1 a2 a3 a4 a5 a6 a7 a8 a9 a10 a11 a12 a13 a14 = true) (hK : er_PI e K post)  : wX_crash_29 post f0_root' f0_wayEnd' f0_waiting' (eb_ar a1) (eb_ak e a2) (eb_ar a3) (eb_ar a4) (eb_ar a5) (eb_ar a6) (eb_ar a7) (eb_ar a8) (eb_ar a9) (eb_ak e a10) (eb_ar a11) (eb_ar a12) (eb_ar a13) (eb_ar a14) := by
  unfold wX_crash_29
  refine er_validPlace he h_f0_root h_f0_wayEnd h_f0_waiting h (fun r_4 r_4' h_r_4 h => ?_) 
  refine eh_in h_r_4 h (fun f1 h => ?_)
  refine eh_let (eh_gt h_r_4 f1) h (fun f_6 f_6' h_f_6 h => ?_)
  refine Exists.intro 120 ?_
  exact er_crash_44 he hK  h_f_6 h_f0_wayEnd h_f0_waiting 120 _ _ eh_n1 _ _ _ _ _ _ _ _ _ _ _ _ _ _ h
theorem er_crash_26 {e : ef_E} (he : e.1 < 80) {post : Int32 → St2 → Prop} {K : ef_F18} {z0 : Nat} {z0' : Int32} {f0_root : Nat} {f0_root' : Int32} {f0_wayEnd : Nat} {f0_wayEnd' : Int32} {f0_waiting : Nat} {f0_waiting' : Int32} {a1 : Nat} {a2 : Nat} {a3 : Nat} {a4 : Nat} {a5 : Nat} {a6 : Nat} {a7 : Nat} {a8 : Nat} {a9 : Nat} {a10 : Nat} {a11 : Nat} {a12 : Nat} {a13 : Nat} {a14 : Nat} (h_z0 : z0' = nI z0) (h_f0_root : f0_root' = nI f0_root) (h_f0_wayEnd : f0_wayEnd' = nI f0_wayEnd) (h_f0_waiting : f0_waiting' = nI f0_waiting) (h : ef_crash_26 K z0 f0_root f0_wayEnd f0_waiting a1 a2 a3 a4 a5 a6 a7 a8 a9 a10 a11 a12 a13 a14 = true) (hK : er_PI e K post)  : wX_crash_26 post z0' f0_root' f0_wayEnd' f0_waiting' (eb_ar a1) (eb_ak e a2) (eb_ar a3) (eb_ar a4) (eb_ar a5) (eb_ar a6) (eb_ar a7) (eb_ar a8) (eb_ar a9) (eb_ak e a10) (eb_ar a11) (eb_ar a12) (eb_ar a13) (eb_ar a14) := by
  unfold wX_crash_26
  refine er_writeRoot he h_f0_root h_f0_wayEnd h_f0_waiting h_z0 h (fun f0_root_61 f0_root_61' h_f0_root_61 f0_wayEnd_62 f0_wayEnd_62' h_f0_wayEnd_62 f0_waiting_63 f0_waiting_63' h_f0_waiting_63 am261_66 am262_69 am263_72 am264_75 am265_78 am266_81 am267_84 am268_87 am269_90 am2610_93 am2611_96 am2612_99 am2613_102 am2614_105 h => ?_) 
  exact er_crash_29 he h_f0_root_61 h_f0_wayEnd_62 h_f0_waiting_63 h hK 
theorem er_crash {e : ef_E} (he : e.1 < 80) {post : Int32 → St2 → Prop} {K : ef_F18} {f0_root : Nat} {f0_root' : Int32} {f0_wayEnd : Nat} {f0_wayEnd' : Int32} {f0_waiting : Nat} {f0_waiting' : Int32} {a1 : Nat} {a2 : Nat} {a3 : Nat} {a4 : Nat} {a5 : Nat} {a6 : Nat} {a7 : Nat} {a8 : Nat} {a9 : Nat} {a10 : Nat} {a11 : Nat} {a12 : Nat} {a13 : Nat} {a14 : Nat} {p0 : Nat} {p0' : Int32} (h_f0_root : f0_root' = nI f0_root) (h_f0_wayEnd : f0_wayEnd' = nI f0_wayEnd) (h_f0_waiting : f0_waiting' = nI f0_waiting) (h_p0 : p0' = nI p0) (h : ef_crash K f0_root f0_wayEnd f0_waiting a1 a2 a3 a4 a5 a6 a7 a8 a9 a10 a11 a12 a13 a14 p0 = true) (hK : er_PI e K post)  : wpX_crash post (f0_root', f0_wayEnd', f0_waiting', (eb_ar a1), (eb_ak e a2), (eb_ar a3), (eb_ar a4), (eb_ar a5), (eb_ar a6), (eb_ar a7), (eb_ar a8), (eb_ar a9), (eb_ak e a10), (eb_ar a11), (eb_ar a12), (eb_ar a13), (eb_ar a14)) p0' := by
  refine eh_if (eh_lt h_p0 eh_n0) h (fun h => ?_) (fun h => ?_)
  ·
   exact hK _ _ eh_m1 _ _ h_f0_root _ _ h_f0_wayEnd _ _ h_f0_waiting _ _ _ _ _ _ _ _ _ _ _ _ _ _ h
  ·
   refine eh_if (eh_le h_p0 eh_n2) h (fun h => ?_) (fun h => ?_)
   ·
    refine eh_if (eh_le h_p0 eh_n0) h (fun h => ?_) (fun h => ?_)
    ·
     exact er_crash_29 he h_f0_root h_f0_wayEnd h_f0_waiting h hK 
    ·
     refine eh_if (eh_eq h_p0 eh_n1) h (fun h => ?_) (fun h => ?_)
     ·
      exact er_crash_26 he eh_n1 h_f0_root h_f0_wayEnd h_f0_waiting h hK 
     ·
      exact er_crash_26 he eh_n0 h_f0_root h_f0_wayEnd h_f0_waiting h hK 
   ·
    exact hK _ _ eh_m1 _ _ h_f0_root _ _ h_f0_wayEnd _ _ h_f0_waiting _ _ _ _ _ _ _ _ _ _ _ _ _ _ h
end
section
/-! refinement of the law, printed by a program -/
theorem er_lawOf_894 {e : ef_E} (he : e.1 < 80) {post : Int32 → St0 → Prop} {K : ef_F1} {mc : Nat} {ms : Nat} {J845 : Int32 → Int32 → Int32 → Int32 → (Nat → Int32) → (Nat → Int32) → (Nat → Int32) → (Nat → Int32) → (Nat → Int32) → (Nat → Int32) → (Nat → Int32) → (Nat → Int32) → (Nat → Int32) → (Nat → Int32) → (Nat → Int32) → (Nat → Int32) → (Nat → Int32) → (Nat → Int32) → Prop} {JJ : ef_F18} {kc : Nat} {ks : Nat} {x4 : Nat} {x4' : Int32} {x7 : Nat} {x7' : Int32} {z0 : Nat} {z0' : Int32} {z1 : Nat} {z1' : Int32} {fm22_root : Nat} {fm22_root' : Int32} {fm22_wayEnd : Nat} {fm22_wayEnd' : Int32} {fm22_waiting : Nat} {fm22_waiting' : Int32} {am8731 : Nat} {am8732 : Nat} {am8733 : Nat} {am8734 : Nat} {am8735 : Nat} {am8736 : Nat} {am8737 : Nat} {am8738 : Nat} {am8739 : Nat} {am87310 : Nat} {am87311 : Nat} {am87312 : Nat} {am87313 : Nat} {am87314 : Nat} (h_x4 : x4' = nI x4) (h_x7 : x7' = nI x7) (h_z0 : z0' = nI z0) (h_z1 : z1' = nI z1) (h_fm22_root : fm22_root' = nI fm22_root) (h_fm22_wayEnd : fm22_wayEnd' = nI fm22_wayEnd) (h_fm22_waiting : fm22_waiting' = nI fm22_waiting) (h : ef_lawOf_894 K JJ x4 x7 z0 z1 fm22_root fm22_wayEnd fm22_waiting am8731 am8732 am8733 am8734 am8735 am8736 am8737 am8738 am8739 am87310 am87311 am87312 am87313 am87314 = true) (hK : er_RI K post) (hJ : ∀ (q0 : Nat) (s0 : Int32) (_ : s0 = nI q0) (q1 : Nat) (s1 : Int32) (_ : s1 = nI q1) (q2 : Nat) (s2 : Int32) (_ : s2 = nI q2) (q3 : Nat) (s3 : Int32) (_ : s3 = nI q3) (q4 : Nat) (q5 : Nat) (q6 : Nat) (q7 : Nat) (q8 : Nat) (q9 : Nat) (q10 : Nat) (q11 : Nat) (q12 : Nat) (q13 : Nat) (q14 : Nat) (q15 : Nat) (q16 : Nat) (q17 : Nat), JJ q0 q1 q2 q3 q4 q5 q6 q7 q8 q9 q10 q11 q12 q13 q14 q15 q16 q17 = true → J845 s0 s1 s2 s3 (eb_ar q4) (eb_ak e q5) (eb_ar q6) (eb_ar q7) (eb_ar q8) (eb_ar q9) (eb_ar q10) (eb_ar q11) (eb_ar q12) (eb_ak e q13) (eb_ar q14) (eb_ar q15) (eb_ar q16) (eb_ar q17)) : wL_lawOf_894 post mc ms J845 x4' x7' z0' z1' kc ks fm22_root' fm22_wayEnd' fm22_waiting' (eb_ar am8731) (eb_ak e am8732) (eb_ar am8733) (eb_ar am8734) (eb_ar am8735) (eb_ar am8736) (eb_ar am8737) (eb_ar am8738) (eb_ar am8739) (eb_ak e am87310) (eb_ar am87311) (eb_ar am87312) (eb_ar am87313) (eb_ar am87314) := by
  refine eh_if (eh_eq h_z1 h_z0) h (fun h => ?_) (fun h => ?_)
  ·
   refine eh_let (eh_ad h_x7 eh_n1) h (fun x7_2090 x7_2090' h_x7_2090 h => ?_)
   exact hJ _ _ h_x7_2090 _ _ h_fm22_root _ _ h_fm22_wayEnd _ _ h_fm22_waiting _ _ _ _ _ _ _ _ _ _ _ _ _ _ h
  ·
   exact hK _ _ eh_n0 h
theorem er_lawOf_873 {e : ef_E} (he : e.1 < 80) {post : Int32 → St0 → Prop} {K : ef_F1} {mc : Nat} {ms : Nat} {J845 : Int32 → Int32 → Int32 → Int32 → (Nat → Int32) → (Nat → Int32) → (Nat → Int32) → (Nat → Int32) → (Nat → Int32) → (Nat → Int32) → (Nat → Int32) → (Nat → Int32) → (Nat → Int32) → (Nat → Int32) → (Nat → Int32) → (Nat → Int32) → (Nat → Int32) → (Nat → Int32) → Prop} {JJ : ef_F18} {kc : Nat} {ks : Nat} {x4 : Nat} {x4' : Int32} {x7 : Nat} {x7' : Int32} {z0 : Nat} {z0' : Int32} {z1 : Nat} {z1' : Int32} {z2 : Nat} {z2' : Int32} {z3 : Nat} {z3' : Int32} {fm22_root : Nat} {fm22_root' : Int32} {fm22_wayEnd : Nat} {fm22_wayEnd' : Int32} {fm22_waiting : Nat} {fm22_waiting' : Int32} {am8011 : Nat} {am8012 : Nat} {am8013 : Nat} {am8014 : Nat} {am8015 : Nat} {am8016 : Nat} {am8017 : Nat} {am8018 : Nat} {am8019 : Nat} {am80110 : Nat} {am80111 : Nat} {am80112 : Nat} {am80113 : Nat} {am80114 : Nat} (h_x4 : x4' = nI x4) (h_x7 : x7' = nI x7) (h_z0 : z0' = nI z0) (h_z1 : z1' = nI z1) (h_z2 : z2' = nI z2) (h_z3 : z3' = nI z3) (h_fm22_root : fm22_root' = nI fm22_root) (h_fm22_wayEnd : fm22_wayEnd' = nI fm22_wayEnd) (h_fm22_waiting : fm22_waiting' = nI fm22_waiting) (h : ef_lawOf_873 K JJ x4 x7 z0 z1 z2 z3 fm22_root fm22_wayEnd fm22_waiting am8011 am8012 am8013 am8014 am8015 am8016 am8017 am8018 am8019 am80110 am80111 am80112 am80113 am80114 = true) (hK : er_RI K post) (hJ : ∀ (q0 : Nat) (s0 : Int32) (_ : s0 = nI q0) (q1 : Nat) (s1 : Int32) (_ : s1 = nI q1) (q2 : Nat) (s2 : Int32) (_ : s2 = nI q2) (q3 : Nat) (s3 : Int32) (_ : s3 = nI q3) (q4 : Nat) (q5 : Nat) (q6 : Nat) (q7 : Nat) (q8 : Nat) (q9 : Nat) (q10 : Nat) (q11 : Nat) (q12 : Nat) (q13 : Nat) (q14 : Nat) (q15 : Nat) (q16 : Nat) (q17 : Nat), JJ q0 q1 q2 q3 q4 q5 q6 q7 q8 q9 q10 q11 q12 q13 q14 q15 q16 q17 = true → J845 s0 s1 s2 s3 (eb_ar q4) (eb_ak e q5) (eb_ar q6) (eb_ar q7) (eb_ar q8) (eb_ar q9) (eb_ar q10) (eb_ar q11) (eb_ar q12) (eb_ak e q13) (eb_ar q14) (eb_ar q15) (eb_ar q16) (eb_ar q17)) : wL_lawOf_873 post mc ms J845 x4' x7' z0' z1' z2' z3' kc ks fm22_root' fm22_wayEnd' fm22_waiting' (eb_ar am8011) (eb_ak e am8012) (eb_ar am8013) (eb_ar am8014) (eb_ar am8015) (eb_ar am8016) (eb_ar am8017) (eb_ar am8018) (eb_ar am8019) (eb_ak e am80110) (eb_ar am80111) (eb_ar am80112) (eb_ar am80113) (eb_ar am80114) := by
  unfold wL_lawOf_873
  obtain ⟨fx1, h_fx1, h⟩ := eh_fcK (eh_ik h_z1) h
  refine er_make he h_fm22_root h_fm22_wayEnd h_fm22_waiting h_z3 h_z2 h_fx1 h_z0 h (fun r_2042 r_2042' h_r_2042 fm22_root_2043 fm22_root_2043' h_fm22_root_2043 fm22_wayEnd_2044 fm22_wayEnd_2044' h_fm22_wayEnd_2044 fm22_waiting_2045 fm22_waiting_2045' h_fm22_waiting_2045 am8731_2048 am8732_2051 am8733_2054 am8734_2057 am8735_2060 am8736_2063 am8737_2066 am8738_2069 am8739_2072 am87310_2075 am87311_2078 am87312_2081 am87313_2084 am87314_2087 h => ?_) 
  refine eh_if (eh_le eh_n16 (eh_ad (eh_ad h_x4 eh_n2) h_x7)) h (fun h => ?_) (fun h => ?_)
  ·
   exact er_lawOf_894 he h_x4 h_x7 eh_m2 h_r_2042 h_fm22_root_2043 h_fm22_wayEnd_2044 h_fm22_waiting_2045 h hK hJ
  ·
   exact er_lawOf_894 he h_x4 h_x7 eh_n0 h_r_2042 h_fm22_root_2043 h_fm22_wayEnd_2044 h_fm22_waiting_2045 h hK hJ
theorem er_lawOf_845 {e : ef_E} (he : e.1 < 80) {post : Int32 → St0 → Prop} {K : ef_F1} {mc : Nat} {ms : Nat} {kc : Nat} {ks : Nat} {x4 : Nat} {x4' : Int32} (hK : er_RI K post)  (h_x4 : x4' = nI x4) : ∀ (n : Nat) (x7 : Nat) (x7' : Int32) (_ : x7' = nI x7) (fm22_root : Nat) (fm22_root' : Int32) (_ : fm22_root' = nI fm22_root) (fm22_wayEnd : Nat) (fm22_wayEnd' : Int32) (_ : fm22_wayEnd' = nI fm22_wayEnd) (fm22_waiting : Nat) (fm22_waiting' : Int32) (_ : fm22_waiting' = nI fm22_waiting) (am8011 : Nat) (am8012 : Nat) (am8013 : Nat) (am8014 : Nat) (am8015 : Nat) (am8016 : Nat) (am8017 : Nat) (am8018 : Nat) (am8019 : Nat) (am80110 : Nat) (am80111 : Nat) (am80112 : Nat) (am80113 : Nat) (am80114 : Nat), ef_lawOf_845 K x4 n x7 fm22_root fm22_wayEnd fm22_waiting am8011 am8012 am8013 am8014 am8015 am8016 am8017 am8018 am8019 am80110 am80111 am80112 am80113 am80114 = true → wL_lawOf_845 post mc ms x4' kc ks n x7' fm22_root' fm22_wayEnd' fm22_waiting' (eb_ar am8011) (eb_ak e am8012) (eb_ar am8013) (eb_ar am8014) (eb_ar am8015) (eb_ar am8016) (eb_ar am8017) (eb_ar am8018) (eb_ar am8019) (eb_ak e am80110) (eb_ar am80111) (eb_ar am80112) (eb_ar am80113) (eb_ar am80114) := by
  intro n
  induction n with
  | zero =>
    intro x7 x7' h_x7 fm22_root fm22_root' h_fm22_root fm22_wayEnd fm22_wayEnd' h_fm22_wayEnd fm22_waiting fm22_waiting' h_fm22_waiting am8011 am8012 am8013 am8014 am8015 am8016 am8017 am8018 am8019 am80110 am80111 am80112 am80113 am80114 h
    exact absurd (show false = true from h) Bool.false_ne_true
  | succ n ih =>
    intro x7 x7' h_x7 fm22_root fm22_root' h_fm22_root fm22_wayEnd fm22_wayEnd' h_fm22_wayEnd fm22_waiting fm22_waiting' h_fm22_waiting am8011 am8012 am8013 am8014 am8015 am8016 am8017 am8018 am8019 am80110 am80111 am80112 am80113 am80114 h
    have h : ef_lawOf_845_b K x4 (ef_lawOf_845 K x4 n) x7 fm22_root fm22_wayEnd fm22_waiting am8011 am8012 am8013 am8014 am8015 am8016 am8017 am8018 am8019 am80110 am80111 am80112 am80113 am80114 = true := h
    refine eh_if (eh_le eh_n16 h_x7) h (fun h => ?_) (fun h => ?_)
    ·
     refine er_nodes he h_fm22_root h_fm22_wayEnd h_fm22_waiting h (fun r_1899 r_1899' h_r_1899 fm22_root_1900 fm22_root_1900' h_fm22_root_1900 fm22_wayEnd_1901 fm22_wayEnd_1901' h_fm22_wayEnd_1901 fm22_waiting_1902 fm22_waiting_1902' h_fm22_waiting_1902 am9071_1905 am9072_1908 am9073_1911 am9074_1914 am9075_1917 am9076_1920 am9077_1923 am9078_1926 am9079_1929 am90710_1932 am90711_1935 am90712_1938 am90713_1941 am90714_1944 h => ?_) 
     refine eh_if (eh_eq h_r_1899 eh_n16) h (fun h => ?_) (fun h => ?_)
     ·
      refine er_crash he h_fm22_root_1900 h_fm22_wayEnd_1901 h_fm22_waiting_1902 eh_n3 h (fun r_1946 r_1946' h_r_1946 fm22_root_1947 fm22_root_1947' h_fm22_root_1947 fm22_wayEnd_1948 fm22_wayEnd_1948' h_fm22_wayEnd_1948 fm22_waiting_1949 fm22_waiting_1949' h_fm22_waiting_1949 am9181_1952 am9182_1955 am9183_1958 am9184_1961 am9185_1964 am9186_1967 am9187_1970 am9188_1973 am9189_1976 am91810_1979 am91811_1982 am91812_1985 am91813_1988 am91814_1991 h => ?_) 
      refine eh_if (eh_eq h_r_1946 eh_m1) h (fun h => ?_) (fun h => ?_)
      ·
       refine er_open he h_fm22_root_1947 h_fm22_wayEnd_1948 h_fm22_waiting_1949 eh_n0 eh_n0 (eh_ik eh_n1) h (fun r_1993 r_1993' h_r_1993 fm22_root_1994 fm22_root_1994' h_fm22_root_1994 fm22_wayEnd_1995 fm22_wayEnd_1995' h_fm22_wayEnd_1995 fm22_waiting_1996 fm22_waiting_1996' h_fm22_waiting_1996 am9301_1999 am9302_2002 am9303_2005 am9304_2008 am9305_2011 am9306_2014 am9307_2017 am9308_2020 am9309_2023 am93010_2026 am93011_2029 am93012_2032 am93013_2035 am93014_2038 h => ?_) 
       refine eh_if (eh_eq h_r_1993 eh_m1) h (fun h => ?_) (fun h => ?_)
       ·
        exact hK _ _ eh_n1 h
       ·
        exact hK _ _ eh_n0 h
      ·
       exact hK _ _ eh_n0 h
     ·
      exact hK _ _ eh_n0 h
    ·
     refine And.intro (by decide) ?_
     obtain ⟨g1, h⟩ := eh_g h
     refine eh_if (eh_eq (eh_sb h_x7 (eh_ml (eh_dv h_x7 eh_d2 g1) eh_n2)) eh_n0) h (fun h => ?_) (fun h => ?_)
     ·
      obtain ⟨fx2, h_fx2, h⟩ := eh_fc (eh_sb eh_n99 h_x7) h
      exact er_lawOf_873 he h_x4 h_x7 eh_n1 h_fx2 eh_n1 eh_n3 h_fm22_root h_fm22_wayEnd h_fm22_waiting h hK ih
     ·
      obtain ⟨fx3, h_fx3, h⟩ := eh_fc (eh_sb eh_n99 h_x7) h
      exact er_lawOf_873 he h_x4 h_x7 eh_n0 h_fx3 eh_n1 eh_n3 h_fm22_root h_fm22_wayEnd h_fm22_waiting h hK ih
theorem er_lawOf_812 {e : ef_E} (he : e.1 < 80) {post : Int32 → St0 → Prop} {K : ef_F1} {mc : Nat} {ms : Nat} {kc : Nat} {ks : Nat} {x2 : Nat} {x2' : Int32} {x4 : Nat} {x4' : Int32} (hK : er_RI K post)  (h_x2 : x2' = ef_kv e x2) (h_x4 : x4' = nI x4) : ∀ (n : Nat) (x7 : Nat) (x7' : Int32) (_ : x7' = nI x7) (fm22_root : Nat) (fm22_root' : Int32) (_ : fm22_root' = nI fm22_root) (fm22_wayEnd : Nat) (fm22_wayEnd' : Int32) (_ : fm22_wayEnd' = nI fm22_wayEnd) (fm22_waiting : Nat) (fm22_waiting' : Int32) (_ : fm22_waiting' = nI fm22_waiting) (am8011 : Nat) (am8012 : Nat) (am8013 : Nat) (am8014 : Nat) (am8015 : Nat) (am8016 : Nat) (am8017 : Nat) (am8018 : Nat) (am8019 : Nat) (am80110 : Nat) (am80111 : Nat) (am80112 : Nat) (am80113 : Nat) (am80114 : Nat), ef_lawOf_812 K x2 x4 n x7 fm22_root fm22_wayEnd fm22_waiting am8011 am8012 am8013 am8014 am8015 am8016 am8017 am8018 am8019 am80110 am80111 am80112 am80113 am80114 = true → wL_lawOf_812 post mc ms x2' x4' kc ks n x7' fm22_root' fm22_wayEnd' fm22_waiting' (eb_ar am8011) (eb_ak e am8012) (eb_ar am8013) (eb_ar am8014) (eb_ar am8015) (eb_ar am8016) (eb_ar am8017) (eb_ar am8018) (eb_ar am8019) (eb_ak e am80110) (eb_ar am80111) (eb_ar am80112) (eb_ar am80113) (eb_ar am80114) := by
  intro n
  induction n with
  | zero =>
    intro x7 x7' h_x7 fm22_root fm22_root' h_fm22_root fm22_wayEnd fm22_wayEnd' h_fm22_wayEnd fm22_waiting fm22_waiting' h_fm22_waiting am8011 am8012 am8013 am8014 am8015 am8016 am8017 am8018 am8019 am80110 am80111 am80112 am80113 am80114 h
    exact absurd (show false = true from h) Bool.false_ne_true
  | succ n ih =>
    intro x7 x7' h_x7 fm22_root fm22_root' h_fm22_root fm22_wayEnd fm22_wayEnd' h_fm22_wayEnd fm22_waiting fm22_waiting' h_fm22_waiting am8011 am8012 am8013 am8014 am8015 am8016 am8017 am8018 am8019 am80110 am80111 am80112 am80113 am80114 h
    have h : ef_lawOf_812_b K x2 x4 (ef_lawOf_812 K x2 x4 n) x7 fm22_root fm22_wayEnd fm22_waiting am8011 am8012 am8013 am8014 am8015 am8016 am8017 am8018 am8019 am80110 am80111 am80112 am80113 am80114 = true := h
    refine eh_if (eh_le eh_n32 h_x7) h (fun h => ?_) (fun h => ?_)
    ·
     refine Exists.intro 120 ?_
     exact er_lawOf_845 he hK  h_x4 120 _ _ eh_n0 _ _ h_fm22_root _ _ h_fm22_wayEnd _ _ h_fm22_waiting _ _ _ _ _ _ _ _ _ _ _ _ _ _ h
    ·
     refine er_read he h_fm22_root h_fm22_wayEnd h_fm22_waiting eh_n2 h_x7 h (fun r_2091 r_2091' h_r_2091 fm22_root_2092 fm22_root_2092' h_fm22_root_2092 fm22_wayEnd_2093 fm22_wayEnd_2093' h_fm22_wayEnd_2093 fm22_waiting_2094 fm22_waiting_2094' h_fm22_waiting_2094 am8241_2097 am8242_2100 am8243_2103 am8244_2106 am8245_2109 am8246_2112 am8247_2115 am8248_2118 am8249_2121 am82410_2124 am82411_2127 am82412_2130 am82413_2133 am82414_2136 h => ?_) 
     refine eh_i3 (eh_keq h_r_2091 (eh_ka h_x2 h_x7)) (eh_kne he h_r_2091 (eh_ka h_x2 h_x7)) h (fun h => ?_) (fun h => ?_)
     ·
      refine eh_let (eh_ad h_x7 eh_n1) h (fun x7_2138 x7_2138' h_x7_2138 h => ?_)
      exact ih _ _ h_x7_2138 _ _ h_fm22_root_2092 _ _ h_fm22_wayEnd_2093 _ _ h_fm22_waiting_2094 _ _ _ _ _ _ _ _ _ _ _ _ _ _ h
     ·
      exact hK _ _ eh_n0 h
theorem er_lawOf_765 {e : ef_E} (he : e.1 < 80) {post : Int32 → St0 → Prop} {K : ef_F1} {mc : Nat} {ms : Nat} {kc : Nat} {ks : Nat} {x2 : Nat} {x2' : Int32} {x4 : Nat} {x4' : Int32} {x5 : Nat} {x5' : Int32} (hK : er_RI K post)  (h_x2 : x2' = ef_kv e x2) (h_x4 : x4' = nI x4) (h_x5 : x5' = ef_kv e x5) : ∀ (n : Nat) (x7 : Nat) (x7' : Int32) (_ : x7' = nI x7) (fm22_root : Nat) (fm22_root' : Int32) (_ : fm22_root' = nI fm22_root) (fm22_wayEnd : Nat) (fm22_wayEnd' : Int32) (_ : fm22_wayEnd' = nI fm22_wayEnd) (fm22_waiting : Nat) (fm22_waiting' : Int32) (_ : fm22_waiting' = nI fm22_waiting) (am7541 : Nat) (am7542 : Nat) (am7543 : Nat) (am7544 : Nat) (am7545 : Nat) (am7546 : Nat) (am7547 : Nat) (am7548 : Nat) (am7549 : Nat) (am75410 : Nat) (am75411 : Nat) (am75412 : Nat) (am75413 : Nat) (am75414 : Nat), ef_lawOf_765 K x2 x4 x5 n x7 fm22_root fm22_wayEnd fm22_waiting am7541 am7542 am7543 am7544 am7545 am7546 am7547 am7548 am7549 am75410 am75411 am75412 am75413 am75414 = true → wL_lawOf_765 post mc ms x2' x4' x5' kc ks n x7' fm22_root' fm22_wayEnd' fm22_waiting' (eb_ar am7541) (eb_ak e am7542) (eb_ar am7543) (eb_ar am7544) (eb_ar am7545) (eb_ar am7546) (eb_ar am7547) (eb_ar am7548) (eb_ar am7549) (eb_ak e am75410) (eb_ar am75411) (eb_ar am75412) (eb_ar am75413) (eb_ar am75414) := by
  intro n
  induction n with
  | zero =>
    intro x7 x7' h_x7 fm22_root fm22_root' h_fm22_root fm22_wayEnd fm22_wayEnd' h_fm22_wayEnd fm22_waiting fm22_waiting' h_fm22_waiting am7541 am7542 am7543 am7544 am7545 am7546 am7547 am7548 am7549 am75410 am75411 am75412 am75413 am75414 h
    exact absurd (show false = true from h) Bool.false_ne_true
  | succ n ih =>
    intro x7 x7' h_x7 fm22_root fm22_root' h_fm22_root fm22_wayEnd fm22_wayEnd' h_fm22_wayEnd fm22_waiting fm22_waiting' h_fm22_waiting am7541 am7542 am7543 am7544 am7545 am7546 am7547 am7548 am7549 am75410 am75411 am75412 am75413 am75414 h
    have h : ef_lawOf_765_b K x2 x4 x5 (ef_lawOf_765 K x2 x4 x5 n) x7 fm22_root fm22_wayEnd fm22_waiting am7541 am7542 am7543 am7544 am7545 am7546 am7547 am7548 am7549 am75410 am75411 am75412 am75413 am75414 = true := h
    refine eh_if (eh_le h_x4 h_x7) h (fun h => ?_) (fun h => ?_)
    ·
     refine er_open he h_fm22_root h_fm22_wayEnd h_fm22_waiting eh_n2 eh_n1 h_x5 h (fun r_1850 r_1850' h_r_1850 fm22_root_1851 fm22_root_1851' h_fm22_root_1851 fm22_wayEnd_1852 fm22_wayEnd_1852' h_fm22_wayEnd_1852 fm22_waiting_1853 fm22_waiting_1853' h_fm22_waiting_1853 am8011_1856 am8012_1859 am8013_1862 am8014_1865 am8015_1868 am8016_1871 am8017_1874 am8018_1877 am8019_1880 am80110_1883 am80111_1886 am80112_1889 am80113_1892 am80114_1895 h => ?_) 
     refine eh_if (eh_eq h_r_1850 eh_n0) h (fun h => ?_) (fun h => ?_)
     ·
      refine Exists.intro 120 ?_
      exact er_lawOf_812 he hK  h_x2 h_x4 120 _ _ eh_n0 _ _ h_fm22_root_1851 _ _ h_fm22_wayEnd_1852 _ _ h_fm22_waiting_1853 _ _ _ _ _ _ _ _ _ _ _ _ _ _ h
     ·
      exact hK _ _ eh_n0 h
    ·
     obtain ⟨fx1, h_fx1, h⟩ := eh_fcK (eh_ka h_x5 h_x7) h
     refine er_open he h_fm22_root h_fm22_wayEnd h_fm22_waiting eh_n1 eh_n1 h_fx1 h (fun r_2139 r_2139' h_r_2139 fm22_root_2140 fm22_root_2140' h_fm22_root_2140 fm22_wayEnd_2141 fm22_wayEnd_2141' h_fm22_wayEnd_2141 fm22_waiting_2142 fm22_waiting_2142' h_fm22_waiting_2142 am7811_2145 am7812_2148 am7813_2151 am7814_2154 am7815_2157 am7816_2160 am7817_2163 am7818_2166 am7819_2169 am78110_2172 am78111_2175 am78112_2178 am78113_2181 am78114_2184 h => ?_) 
     refine eh_if (eh_eq h_r_2139 eh_n0) h (fun h => ?_) (fun h => ?_)
     ·
      refine eh_let (eh_ad h_x7 eh_n1) h (fun x7_2186 x7_2186' h_x7_2186 h => ?_)
      exact ih _ _ h_x7_2186 _ _ h_fm22_root_2140 _ _ h_fm22_wayEnd_2141 _ _ h_fm22_waiting_2142 _ _ _ _ _ _ _ _ _ _ _ _ _ _ h
     ·
      exact hK _ _ eh_n0 h
theorem er_lawOf_662 {e : ef_E} (he : e.1 < 80) {post : Int32 → St0 → Prop} {K : ef_F1} {mc : Nat} {ms : Nat} {kc : Nat} {ks : Nat} {x2 : Nat} {x2' : Int32} {x3 : Nat} {x3' : Int32} {x4 : Nat} {x4' : Int32} {x5 : Nat} {x5' : Int32} {z0 : Nat} {z0' : Int32} {z1 : Nat} {z1' : Int32} {fm22_root : Nat} {fm22_root' : Int32} {fm22_wayEnd : Nat} {fm22_wayEnd' : Int32} {fm22_waiting : Nat} {fm22_waiting' : Int32} {am6461 : Nat} {am6462 : Nat} {am6463 : Nat} {am6464 : Nat} {am6465 : Nat} {am6466 : Nat} {am6467 : Nat} {am6468 : Nat} {am6469 : Nat} {am64610 : Nat} {am64611 : Nat} {am64612 : Nat} {am64613 : Nat} {am64614 : Nat} (h_x2 : x2' = ef_kv e x2) (h_x3 : x3' = ef_kv e x3) (h_x4 : x4' = nI x4) (h_x5 : x5' = ef_kv e x5) (h_z0 : z0' = nI z0) (h_z1 : z1' = nI z1) (h_fm22_root : fm22_root' = nI fm22_root) (h_fm22_wayEnd : fm22_wayEnd' = nI fm22_wayEnd) (h_fm22_waiting : fm22_waiting' = nI fm22_waiting) (h : ef_lawOf_662 K x2 x3 x4 x5 z0 z1 fm22_root fm22_wayEnd fm22_waiting am6461 am6462 am6463 am6464 am6465 am6466 am6467 am6468 am6469 am64610 am64611 am64612 am64613 am64614 = true) (hK : er_RI K post)  : wL_lawOf_662 post mc ms x2' x3' x4' x5' z0' z1' kc ks fm22_root' fm22_wayEnd' fm22_waiting' (eb_ar am6461) (eb_ak e am6462) (eb_ar am6463) (eb_ar am6464) (eb_ar am6465) (eb_ar am6466) (eb_ar am6467) (eb_ar am6468) (eb_ar am6469) (eb_ak e am64610) (eb_ar am64611) (eb_ar am64612) (eb_ar am64613) (eb_ar am64614) := by
  refine eh_if (eh_eq h_z1 h_z0) h (fun h => ?_) (fun h => ?_)
  ·
   refine er_erase he h_fm22_root h_fm22_wayEnd h_fm22_waiting eh_n0 (eh_ik eh_n97) h (fun r_1473 r_1473' h_r_1473 fm22_root_1474 fm22_root_1474' h_fm22_root_1474 fm22_wayEnd_1475 fm22_wayEnd_1475' h_fm22_wayEnd_1475 fm22_waiting_1476 fm22_waiting_1476' h_fm22_waiting_1476 am6701_1479 am6702_1482 am6703_1485 am6704_1488 am6705_1491 am6706_1494 am6707_1497 am6708_1500 am6709_1503 am67010_1506 am67011_1509 am67012_1512 am67013_1515 am67014_1518 h => ?_) 
   refine eh_if (eh_eq h_r_1473 eh_m3) h (fun h => ?_) (fun h => ?_)
   ·
    refine er_nodes he h_fm22_root_1474 h_fm22_wayEnd_1475 h_fm22_waiting_1476 h (fun r_1520 r_1520' h_r_1520 fm22_root_1521 fm22_root_1521' h_fm22_root_1521 fm22_wayEnd_1522 fm22_wayEnd_1522' h_fm22_wayEnd_1522 fm22_waiting_1523 fm22_waiting_1523' h_fm22_waiting_1523 am6801_1526 am6802_1529 am6803_1532 am6804_1535 am6805_1538 am6806_1541 am6807_1544 am6808_1547 am6809_1550 am68010_1553 am68011_1556 am68012_1559 am68013_1562 am68014_1565 h => ?_) 
    refine eh_if (eh_eq h_r_1520 (eh_ad h_x4 eh_n4)) h (fun h => ?_) (fun h => ?_)
    ·
     obtain ⟨fk1, h_fk1, h⟩ := eh_fk h_x3 h
     obtain ⟨fx2, h_fx2, h⟩ := eh_fc (eh_ml eh_n2 h_fk1) h
     refine er_crash he h_fm22_root_1521 h_fm22_wayEnd_1522 h_fm22_waiting_1523 h_fx2 h (fun r_1567 r_1567' h_r_1567 fm22_root_1568 fm22_root_1568' h_fm22_root_1568 fm22_wayEnd_1569 fm22_wayEnd_1569' h_fm22_wayEnd_1569 fm22_waiting_1570 fm22_waiting_1570' h_fm22_waiting_1570 am6991_1573 am6992_1576 am6993_1579 am6994_1582 am6995_1585 am6996_1588 am6997_1591 am6998_1594 am6999_1597 am69910_1600 am69911_1603 am69912_1606 am69913_1609 am69914_1612 h => ?_) 
     refine eh_if (eh_eq h_r_1567 eh_n1) h (fun h => ?_) (fun h => ?_)
     ·
      refine er_nodes he h_fm22_root_1568 h_fm22_wayEnd_1569 h_fm22_waiting_1570 h (fun r_1614 r_1614' h_r_1614 fm22_root_1615 fm22_root_1615' h_fm22_root_1615 fm22_wayEnd_1616 fm22_wayEnd_1616' h_fm22_wayEnd_1616 fm22_waiting_1617 fm22_waiting_1617' h_fm22_waiting_1617 am7081_1620 am7082_1623 am7083_1626 am7084_1629 am7085_1632 am7086_1635 am7087_1638 am7088_1641 am7089_1644 am70810_1647 am70811_1650 am70812_1653 am70813_1656 am70814_1659 h => ?_) 
      refine eh_if (eh_eq h_r_1614 (eh_ad h_x4 eh_n2)) h (fun h => ?_) (fun h => ?_)
      ·
       refine er_copies he h_fm22_root_1615 h_fm22_wayEnd_1616 h_fm22_waiting_1617 h (fun r_1661 r_1661' h_r_1661 fm22_root_1662 fm22_root_1662' h_fm22_root_1662 fm22_wayEnd_1663 fm22_wayEnd_1663' h_fm22_wayEnd_1663 fm22_waiting_1664 fm22_waiting_1664' h_fm22_waiting_1664 am7201_1667 am7202_1670 am7203_1673 am7204_1676 am7205_1679 am7206_1682 am7207_1685 am7208_1688 am7209_1691 am72010_1694 am72011_1697 am72012_1700 am72013_1703 am72014_1706 h => ?_) 
       refine eh_if (eh_eq h_r_1661 eh_n8) h (fun h => ?_) (fun h => ?_)
       ·
        refine er_kind he h_fm22_root_1662 h_fm22_wayEnd_1663 h_fm22_waiting_1664 eh_n1 h (fun r_1708 r_1708' h_r_1708 fm22_root_1709 fm22_root_1709' h_fm22_root_1709 fm22_wayEnd_1710 fm22_wayEnd_1710' h_fm22_wayEnd_1710 fm22_waiting_1711 fm22_waiting_1711' h_fm22_waiting_1711 am7311_1714 am7312_1717 am7313_1720 am7314_1723 am7315_1726 am7316_1729 am7317_1732 am7318_1735 am7319_1738 am73110_1741 am73111_1744 am73112_1747 am73113_1750 am73114_1753 h => ?_) 
        refine eh_if (eh_eq h_r_1708 eh_n0) h (fun h => ?_) (fun h => ?_)
        ·
         refine er_size he h_fm22_root_1709 h_fm22_wayEnd_1710 h_fm22_waiting_1711 eh_n0 h (fun r_1755 r_1755' h_r_1755 fm22_root_1756 fm22_root_1756' h_fm22_root_1756 fm22_wayEnd_1757 fm22_wayEnd_1757' h_fm22_wayEnd_1757 fm22_waiting_1758 fm22_waiting_1758' h_fm22_waiting_1758 am7401_1761 am7402_1764 am7403_1767 am7404_1770 am7405_1773 am7406_1776 am7407_1779 am7408_1782 am7409_1785 am74010_1788 am74011_1791 am74012_1794 am74013_1797 am74014_1800 h => ?_) 
         refine eh_if (eh_eq h_r_1755 eh_n1) h (fun h => ?_) (fun h => ?_)
         ·
          refine er_open he h_fm22_root_1756 h_fm22_wayEnd_1757 h_fm22_waiting_1758 eh_n1 eh_n0 (eh_ik eh_m1) h (fun r_1802 r_1802' h_r_1802 fm22_root_1803 fm22_root_1803' h_fm22_root_1803 fm22_wayEnd_1804 fm22_wayEnd_1804' h_fm22_wayEnd_1804 fm22_waiting_1805 fm22_waiting_1805' h_fm22_waiting_1805 am7541_1808 am7542_1811 am7543_1814 am7544_1817 am7545_1820 am7546_1823 am7547_1826 am7548_1829 am7549_1832 am75410_1835 am75411_1838 am75412_1841 am75413_1844 am75414_1847 h => ?_) 
          refine eh_if (eh_eq h_r_1802 eh_n0) h (fun h => ?_) (fun h => ?_)
          ·
           refine Exists.intro 120 ?_
           exact er_lawOf_765 he hK  h_x2 h_x4 h_x5 120 _ _ eh_n0 _ _ h_fm22_root_1803 _ _ h_fm22_wayEnd_1804 _ _ h_fm22_waiting_1805 _ _ _ _ _ _ _ _ _ _ _ _ _ _ h
          ·
           exact hK _ _ eh_n0 h
         ·
          exact hK _ _ eh_n0 h
        ·
         exact hK _ _ eh_n0 h
       ·
        exact hK _ _ eh_n0 h
      ·
       exact hK _ _ eh_n0 h
     ·
      exact hK _ _ eh_n0 h
    ·
     exact hK _ _ eh_n0 h
   ·
    exact hK _ _ eh_n0 h
  ·
   exact hK _ _ eh_n0 h
theorem er_lawOf_453 {e : ef_E} (he : e.1 < 80) {post : Int32 → St0 → Prop} {K : ef_F1} {mc : Nat} {ms : Nat} {kc : Nat} {ks : Nat} {x2 : Nat} {x2' : Int32} {x3 : Nat} {x3' : Int32} {x4 : Nat} {x4' : Int32} {x5 : Nat} {x5' : Int32} (hK : er_RI K post)  (h_x2 : x2' = ef_kv e x2) (h_x3 : x3' = ef_kv e x3) (h_x4 : x4' = nI x4) (h_x5 : x5' = ef_kv e x5) : ∀ (n : Nat) (x7 : Nat) (x7' : Int32) (_ : x7' = nI x7) (fm22_root : Nat) (fm22_root' : Int32) (_ : fm22_root' = nI fm22_root) (fm22_wayEnd : Nat) (fm22_wayEnd' : Int32) (_ : fm22_wayEnd' = nI fm22_wayEnd) (fm22_waiting : Nat) (fm22_waiting' : Int32) (_ : fm22_waiting' = nI fm22_waiting) (am4421 : Nat) (am4422 : Nat) (am4423 : Nat) (am4424 : Nat) (am4425 : Nat) (am4426 : Nat) (am4427 : Nat) (am4428 : Nat) (am4429 : Nat) (am44210 : Nat) (am44211 : Nat) (am44212 : Nat) (am44213 : Nat) (am44214 : Nat), ef_lawOf_453 K x2 x3 x4 x5 n x7 fm22_root fm22_wayEnd fm22_waiting am4421 am4422 am4423 am4424 am4425 am4426 am4427 am4428 am4429 am44210 am44211 am44212 am44213 am44214 = true → wL_lawOf_453 post mc ms x2' x3' x4' x5' kc ks n x7' fm22_root' fm22_wayEnd' fm22_waiting' (eb_ar am4421) (eb_ak e am4422) (eb_ar am4423) (eb_ar am4424) (eb_ar am4425) (eb_ar am4426) (eb_ar am4427) (eb_ar am4428) (eb_ar am4429) (eb_ak e am44210) (eb_ar am44211) (eb_ar am44212) (eb_ar am44213) (eb_ar am44214) := by
  intro n
  induction n with
  | zero =>
    intro x7 x7' h_x7 fm22_root fm22_root' h_fm22_root fm22_wayEnd fm22_wayEnd' h_fm22_wayEnd fm22_waiting fm22_waiting' h_fm22_waiting am4421 am4422 am4423 am4424 am4425 am4426 am4427 am4428 am4429 am44210 am44211 am44212 am44213 am44214 h
    exact absurd (show false = true from h) Bool.false_ne_true
  | succ n ih =>
    intro x7 x7' h_x7 fm22_root fm22_root' h_fm22_root fm22_wayEnd fm22_wayEnd' h_fm22_wayEnd fm22_waiting fm22_waiting' h_fm22_waiting am4421 am4422 am4423 am4424 am4425 am4426 am4427 am4428 am4429 am44210 am44211 am44212 am44213 am44214 h
    have h : ef_lawOf_453_b K x2 x3 x4 x5 (ef_lawOf_453 K x2 x3 x4 x5 n) x7 fm22_root fm22_wayEnd fm22_waiting am4421 am4422 am4423 am4424 am4425 am4426 am4427 am4428 am4429 am44210 am44211 am44212 am44213 am44214 = true := h
    refine eh_if (eh_le h_x4 h_x7) h (fun h => ?_) (fun h => ?_)
    ·
     refine er_rename he h_fm22_root h_fm22_wayEnd h_fm22_waiting eh_n0 h_x5 eh_n1 (eh_ik eh_n97) h (fun r_908 r_908' h_r_908 fm22_root_909 fm22_root_909' h_fm22_root_909 fm22_wayEnd_910 fm22_wayEnd_910' h_fm22_wayEnd_910 fm22_waiting_911 fm22_waiting_911' h_fm22_waiting_911 am4911_914 am4912_917 am4913_920 am4914_923 am4915_926 am4916_929 am4917_932 am4918_935 am4919_938 am49110_941 am49111_944 am49112_947 am49113_950 am49114_953 h => ?_) 
     refine eh_if (eh_eq h_r_908 eh_m7) h (fun h => ?_) (fun h => ?_)
     ·
      refine er_rename he h_fm22_root_909 h_fm22_wayEnd_910 h_fm22_waiting_911 eh_n1 h_x5 eh_n0 (eh_ik eh_n99) h (fun r_955 r_955' h_r_955 fm22_root_956 fm22_root_956' h_fm22_root_956 fm22_wayEnd_957 fm22_wayEnd_957' h_fm22_wayEnd_957 fm22_waiting_958 fm22_waiting_958' h_fm22_waiting_958 am5071_961 am5072_964 am5073_967 am5074_970 am5075_973 am5076_976 am5077_979 am5078_982 am5079_985 am50710_988 am50711_991 am50712_994 am50713_997 am50714_1000 h => ?_) 
      refine eh_if (eh_eq h_r_955 eh_m5) h (fun h => ?_) (fun h => ?_)
      ·
       refine er_rename he h_fm22_root_956 h_fm22_wayEnd_957 h_fm22_waiting_958 eh_n1 h_x5 eh_n3 (eh_ik eh_n5) h (fun r_1002 r_1002' h_r_1002 fm22_root_1003 fm22_root_1003' h_fm22_root_1003 fm22_wayEnd_1004 fm22_wayEnd_1004' h_fm22_wayEnd_1004 fm22_waiting_1005 fm22_waiting_1005' h_fm22_waiting_1005 am5221_1008 am5222_1011 am5223_1014 am5224_1017 am5225_1020 am5226_1023 am5227_1026 am5228_1029 am5229_1032 am52210_1035 am52211_1038 am52212_1041 am52213_1044 am52214_1047 h => ?_) 
       refine eh_if (eh_eq h_r_1002 eh_m4) h (fun h => ?_) (fun h => ?_)
       ·
        obtain ⟨fx1, h_fx1, h⟩ := eh_fcK (eh_ka h_x5 eh_n1) h
        refine er_rename he h_fm22_root_1003 h_fm22_wayEnd_1004 h_fm22_waiting_1005 eh_n1 h_x5 eh_n0 h_fx1 h (fun r_1049 r_1049' h_r_1049 fm22_root_1050 fm22_root_1050' h_fm22_root_1050 fm22_wayEnd_1051 fm22_wayEnd_1051' h_fm22_wayEnd_1051 fm22_waiting_1052 fm22_waiting_1052' h_fm22_waiting_1052 am5421_1055 am5422_1058 am5423_1061 am5424_1064 am5425_1067 am5426_1070 am5427_1073 am5428_1076 am5429_1079 am54210_1082 am54211_1085 am54212_1088 am54213_1091 am54214_1094 h => ?_) 
        refine eh_if (eh_eq h_r_1049 eh_n0) h (fun h => ?_) (fun h => ?_)
        ·
         refine er_size he h_fm22_root_1050 h_fm22_wayEnd_1051 h_fm22_waiting_1052 eh_n1 h (fun r_1096 r_1096' h_r_1096 fm22_root_1097 fm22_root_1097' h_fm22_root_1097 fm22_wayEnd_1098 fm22_wayEnd_1098' h_fm22_wayEnd_1098 fm22_waiting_1099 fm22_waiting_1099' h_fm22_waiting_1099 am5511_1102 am5512_1105 am5513_1108 am5514_1111 am5515_1114 am5516_1117 am5517_1120 am5518_1123 am5519_1126 am55110_1129 am55111_1132 am55112_1135 am55113_1138 am55114_1141 h => ?_) 
         refine eh_if (eh_eq h_r_1096 eh_n0) h (fun h => ?_) (fun h => ?_)
         ·
          refine er_size he h_fm22_root_1097 h_fm22_wayEnd_1098 h_fm22_waiting_1099 eh_n0 h (fun r_1143 r_1143' h_r_1143 fm22_root_1144 fm22_root_1144' h_fm22_root_1144 fm22_wayEnd_1145 fm22_wayEnd_1145' h_fm22_wayEnd_1145 fm22_waiting_1146 fm22_waiting_1146' h_fm22_waiting_1146 am5601_1149 am5602_1152 am5603_1155 am5604_1158 am5605_1161 am5606_1164 am5607_1167 am5608_1170 am5609_1173 am56010_1176 am56011_1179 am56012_1182 am56013_1185 am56014_1188 h => ?_) 
          refine eh_if (eh_eq h_r_1143 eh_n4) h (fun h => ?_) (fun h => ?_)
          ·
           obtain ⟨fx2, h_fx2, h⟩ := eh_fcK (eh_ka h_x5 eh_n1) h
           refine er_erase he h_fm22_root_1144 h_fm22_wayEnd_1145 h_fm22_waiting_1146 eh_n0 h_fx2 h (fun r_1190 r_1190' h_r_1190 fm22_root_1191 fm22_root_1191' h_fm22_root_1191 fm22_wayEnd_1192 fm22_wayEnd_1192' h_fm22_wayEnd_1192 fm22_waiting_1193 fm22_waiting_1193' h_fm22_waiting_1193 am5741_1196 am5742_1199 am5743_1202 am5744_1205 am5745_1208 am5746_1211 am5747_1214 am5748_1217 am5749_1220 am57410_1223 am57411_1226 am57412_1229 am57413_1232 am57414_1235 h => ?_) 
           refine eh_if (eh_eq h_r_1190 eh_m6) h (fun h => ?_) (fun h => ?_)
           ·
            refine er_next he h_fm22_root_1191 h_fm22_wayEnd_1192 h_fm22_waiting_1193 eh_n0 (eh_ik eh_m1) h (fun r_1237 r_1237' h_r_1237 fm22_root_1238 fm22_root_1238' h_fm22_root_1238 fm22_wayEnd_1239 fm22_wayEnd_1239' h_fm22_wayEnd_1239 fm22_waiting_1240 fm22_waiting_1240' h_fm22_waiting_1240 am5881_1243 am5882_1246 am5883_1249 am5884_1252 am5885_1255 am5886_1258 am5887_1261 am5888_1264 am5889_1267 am58810_1270 am58811_1273 am58812_1276 am58813_1279 am58814_1282 h => ?_) 
            refine eh_i3 (eh_keq h_r_1237 h_x5) (eh_kne he h_r_1237 h_x5) h (fun h => ?_) (fun h => ?_)
            ·
             refine er_next he h_fm22_root_1238 h_fm22_wayEnd_1239 h_fm22_waiting_1240 eh_n0 h_x5 h (fun r_1284 r_1284' h_r_1284 fm22_root_1285 fm22_root_1285' h_fm22_root_1285 fm22_wayEnd_1286 fm22_wayEnd_1286' h_fm22_wayEnd_1286 fm22_waiting_1287 fm22_waiting_1287' h_fm22_waiting_1287 am6011_1290 am6012_1293 am6013_1296 am6014_1299 am6015_1302 am6016_1305 am6017_1308 am6018_1311 am6019_1314 am60110_1317 am60111_1320 am60112_1323 am60113_1326 am60114_1329 h => ?_) 
             refine eh_i3 (eh_keq h_r_1284 (eh_ka h_x5 eh_n1)) (eh_kne he h_r_1284 (eh_ka h_x5 eh_n1)) h (fun h => ?_) (fun h => ?_)
             ·
              obtain ⟨fx3, h_fx3, h⟩ := eh_fcK (eh_ka h_x5 eh_n1) h
              refine er_next he h_fm22_root_1285 h_fm22_wayEnd_1286 h_fm22_waiting_1287 eh_n0 h_fx3 h (fun r_1331 r_1331' h_r_1331 fm22_root_1332 fm22_root_1332' h_fm22_root_1332 fm22_wayEnd_1333 fm22_wayEnd_1333' h_fm22_wayEnd_1333 fm22_waiting_1334 fm22_waiting_1334' h_fm22_waiting_1334 am6181_1337 am6182_1340 am6183_1343 am6184_1346 am6185_1349 am6186_1352 am6187_1355 am6188_1358 am6189_1361 am61810_1364 am61811_1367 am61812_1370 am61813_1373 am61814_1376 h => ?_) 
              refine eh_i3 (eh_keq h_r_1331 (eh_ik eh_n98)) (eh_kne he h_r_1331 (eh_ik eh_n98)) h (fun h => ?_) (fun h => ?_)
              ·
               refine er_next he h_fm22_root_1332 h_fm22_wayEnd_1333 h_fm22_waiting_1334 eh_n0 (eh_ik eh_n99) h (fun r_1378 r_1378' h_r_1378 fm22_root_1379 fm22_root_1379' h_fm22_root_1379 fm22_wayEnd_1380 fm22_wayEnd_1380' h_fm22_wayEnd_1380 fm22_waiting_1381 fm22_waiting_1381' h_fm22_waiting_1381 am6311_1384 am6312_1387 am6313_1390 am6314_1393 am6315_1396 am6316_1399 am6317_1402 am6318_1405 am6319_1408 am63110_1411 am63111_1414 am63112_1417 am63113_1420 am63114_1423 h => ?_) 
               refine eh_i3 (eh_keq h_r_1378 (eh_ik eh_m3)) (eh_kne he h_r_1378 (eh_ik eh_m3)) h (fun h => ?_) (fun h => ?_)
               ·
                refine er_erase he h_fm22_root_1379 h_fm22_wayEnd_1380 h_fm22_waiting_1381 eh_n0 h_x5 h (fun r_1425 r_1425' h_r_1425 fm22_root_1426 fm22_root_1426' h_fm22_root_1426 fm22_wayEnd_1427 fm22_wayEnd_1427' h_fm22_wayEnd_1427 fm22_waiting_1428 fm22_waiting_1428' h_fm22_waiting_1428 am6461_1431 am6462_1434 am6463_1437 am6464_1440 am6465_1443 am6466_1446 am6467_1449 am6468_1452 am6469_1455 am64610_1458 am64611_1461 am64612_1464 am64613_1467 am64614_1470 h => ?_) 
                refine eh_if (eh_eq h_x4 eh_n1) h (fun h => ?_) (fun h => ?_)
                ·
                 exact er_lawOf_662 he h_x2 h_x3 h_x4 h_x5 eh_m6 h_r_1425 h_fm22_root_1426 h_fm22_wayEnd_1427 h_fm22_waiting_1428 h hK 
                ·
                 exact er_lawOf_662 he h_x2 h_x3 h_x4 h_x5 eh_m2 h_r_1425 h_fm22_root_1426 h_fm22_wayEnd_1427 h_fm22_waiting_1428 h hK 
               ·
                exact hK _ _ eh_n0 h
              ·
               exact hK _ _ eh_n0 h
             ·
              exact hK _ _ eh_n0 h
            ·
             exact hK _ _ eh_n0 h
           ·
            exact hK _ _ eh_n0 h
          ·
           exact hK _ _ eh_n0 h
         ·
          exact hK _ _ eh_n0 h
        ·
         exact hK _ _ eh_n0 h
       ·
        exact hK _ _ eh_n0 h
      ·
       exact hK _ _ eh_n0 h
     ·
      exact hK _ _ eh_n0 h
    ·
     obtain ⟨fx4, h_fx4, h⟩ := eh_fcK (eh_ka h_x5 h_x7) h
     refine er_open he h_fm22_root h_fm22_wayEnd h_fm22_waiting eh_n1 eh_n1 h_fx4 h (fun r_2187 r_2187' h_r_2187 fm22_root_2188 fm22_root_2188' h_fm22_root_2188 fm22_wayEnd_2189 fm22_wayEnd_2189' h_fm22_wayEnd_2189 fm22_waiting_2190 fm22_waiting_2190' h_fm22_waiting_2190 am4691_2193 am4692_2196 am4693_2199 am4694_2202 am4695_2205 am4696_2208 am4697_2211 am4698_2214 am4699_2217 am46910_2220 am46911_2223 am46912_2226 am46913_2229 am46914_2232 h => ?_) 
     refine eh_if (eh_eq h_r_2187 eh_n0) h (fun h => ?_) (fun h => ?_)
     ·
      refine eh_let (eh_ad h_x7 eh_n1) h (fun x7_2234 x7_2234' h_x7_2234 h => ?_)
      exact ih _ _ h_x7_2234 _ _ h_fm22_root_2188 _ _ h_fm22_wayEnd_2189 _ _ h_fm22_waiting_2190 _ _ _ _ _ _ _ _ _ _ _ _ _ _ h
     ·
      exact hK _ _ eh_n0 h
theorem er_lawOf_247 {e : ef_E} (he : e.1 < 80) {post : Int32 → St0 → Prop} {K : ef_F1} {mc : Nat} {ms : Nat} {kc : Nat} {ks : Nat} {x2 : Nat} {x2' : Int32} {x3 : Nat} {x3' : Int32} {x4 : Nat} {x4' : Int32} {x5 : Nat} {x5' : Int32} (hK : er_RI K post)  (h_x2 : x2' = ef_kv e x2) (h_x3 : x3' = ef_kv e x3) (h_x4 : x4' = nI x4) (h_x5 : x5' = ef_kv e x5) : ∀ (n : Nat) (x7 : Nat) (x7' : Int32) (_ : x7' = nI x7) (fm22_root : Nat) (fm22_root' : Int32) (_ : fm22_root' = nI fm22_root) (fm22_wayEnd : Nat) (fm22_wayEnd' : Int32) (_ : fm22_wayEnd' = nI fm22_wayEnd) (fm22_waiting : Nat) (fm22_waiting' : Int32) (_ : fm22_waiting' = nI fm22_waiting) (am2361 : Nat) (am2362 : Nat) (am2363 : Nat) (am2364 : Nat) (am2365 : Nat) (am2366 : Nat) (am2367 : Nat) (am2368 : Nat) (am2369 : Nat) (am23610 : Nat) (am23611 : Nat) (am23612 : Nat) (am23613 : Nat) (am23614 : Nat), ef_lawOf_247 K x2 x3 x4 x5 n x7 fm22_root fm22_wayEnd fm22_waiting am2361 am2362 am2363 am2364 am2365 am2366 am2367 am2368 am2369 am23610 am23611 am23612 am23613 am23614 = true → wL_lawOf_247 post mc ms x2' x3' x4' x5' kc ks n x7' fm22_root' fm22_wayEnd' fm22_waiting' (eb_ar am2361) (eb_ak e am2362) (eb_ar am2363) (eb_ar am2364) (eb_ar am2365) (eb_ar am2366) (eb_ar am2367) (eb_ar am2368) (eb_ar am2369) (eb_ak e am23610) (eb_ar am23611) (eb_ar am23612) (eb_ar am23613) (eb_ar am23614) := by
  intro n
  induction n with
  | zero =>
    intro x7 x7' h_x7 fm22_root fm22_root' h_fm22_root fm22_wayEnd fm22_wayEnd' h_fm22_wayEnd fm22_waiting fm22_waiting' h_fm22_waiting am2361 am2362 am2363 am2364 am2365 am2366 am2367 am2368 am2369 am23610 am23611 am23612 am23613 am23614 h
    exact absurd (show false = true from h) Bool.false_ne_true
  | succ n ih =>
    intro x7 x7' h_x7 fm22_root fm22_root' h_fm22_root fm22_wayEnd fm22_wayEnd' h_fm22_wayEnd fm22_waiting fm22_waiting' h_fm22_waiting am2361 am2362 am2363 am2364 am2365 am2366 am2367 am2368 am2369 am23610 am23611 am23612 am23613 am23614 h
    have h : ef_lawOf_247_b K x2 x3 x4 x5 (ef_lawOf_247 K x2 x3 x4 x5 n) x7 fm22_root fm22_wayEnd fm22_waiting am2361 am2362 am2363 am2364 am2365 am2366 am2367 am2368 am2369 am23610 am23611 am23612 am23613 am23614 = true := h
    refine eh_if (eh_le eh_n8 h_x7) h (fun h => ?_) (fun h => ?_)
    ·
     refine er_make he h_fm22_root h_fm22_wayEnd h_fm22_waiting eh_n1 eh_n0 (eh_ik eh_n98) eh_n0 h (fun r_343 r_343' h_r_343 fm22_root_344 fm22_root_344' h_fm22_root_344 fm22_wayEnd_345 fm22_wayEnd_345' h_fm22_wayEnd_345 fm22_waiting_346 fm22_waiting_346' h_fm22_waiting_346 am3151_349 am3152_352 am3153_355 am3154_358 am3155_361 am3156_364 am3157_367 am3158_370 am3159_373 am31510_376 am31511_379 am31512_382 am31513_385 am31514_388 h => ?_) 
     refine eh_if (eh_eq h_r_343 eh_n0) h (fun h => ?_) (fun h => ?_)
     ·
      refine er_write he h_fm22_root_344 h_fm22_wayEnd_345 h_fm22_waiting_346 eh_n1 eh_n0 (eh_ik eh_n1) h (fun r_390 r_390' h_r_390 fm22_root_391 fm22_root_391' h_fm22_root_391 fm22_wayEnd_392 fm22_wayEnd_392' h_fm22_wayEnd_392 fm22_waiting_393 fm22_waiting_393' h_fm22_waiting_393 am3261_396 am3262_399 am3263_402 am3264_405 am3265_408 am3266_411 am3267_414 am3268_417 am3269_420 am32610_423 am32611_426 am32612_429 am32613_432 am32614_435 h => ?_) 
      refine eh_if (eh_eq h_r_390 eh_m2) h (fun h => ?_) (fun h => ?_)
      ·
       refine er_write he h_fm22_root_391 h_fm22_wayEnd_392 h_fm22_waiting_393 eh_n3 eh_n31 (eh_ik eh_n5) h (fun r_437 r_437' h_r_437 fm22_root_438 fm22_root_438' h_fm22_root_438 fm22_wayEnd_439 fm22_wayEnd_439' h_fm22_wayEnd_439 fm22_waiting_440 fm22_waiting_440' h_fm22_waiting_440 am3401_443 am3402_446 am3403_449 am3404_452 am3405_455 am3406_458 am3407_461 am3408_464 am3409_467 am34010_470 am34011_473 am34012_476 am34013_479 am34014_482 h => ?_) 
       refine eh_if (eh_eq h_r_437 eh_n0) h (fun h => ?_) (fun h => ?_)
       ·
        refine er_read he h_fm22_root_438 h_fm22_wayEnd_439 h_fm22_waiting_440 eh_n1 eh_n0 h (fun r_484 r_484' h_r_484 fm22_root_485 fm22_root_485' h_fm22_root_485 fm22_wayEnd_486 fm22_wayEnd_486' h_fm22_wayEnd_486 fm22_waiting_487 fm22_waiting_487' h_fm22_waiting_487 am3501_490 am3502_493 am3503_496 am3504_499 am3505_502 am3506_505 am3507_508 am3508_511 am3509_514 am35010_517 am35011_520 am35012_523 am35013_526 am35014_529 h => ?_) 
        refine eh_i3 (eh_keq h_r_484 (eh_ik eh_n0)) (eh_kne he h_r_484 (eh_ik eh_n0)) h (fun h => ?_) (fun h => ?_)
        ·
         refine er_size he h_fm22_root_485 h_fm22_wayEnd_486 h_fm22_waiting_487 eh_n1 h (fun r_531 r_531' h_r_531 fm22_root_532 fm22_root_532' h_fm22_root_532 fm22_wayEnd_533 fm22_wayEnd_533' h_fm22_wayEnd_533 fm22_waiting_534 fm22_waiting_534' h_fm22_waiting_534 am3591_537 am3592_540 am3593_543 am3594_546 am3595_549 am3596_552 am3597_555 am3598_558 am3599_561 am35910_564 am35911_567 am35912_570 am35913_573 am35914_576 h => ?_) 
         refine eh_if (eh_eq h_r_531 eh_n0) h (fun h => ?_) (fun h => ?_)
         ·
          refine er_read he h_fm22_root_532 h_fm22_wayEnd_533 h_fm22_waiting_534 eh_n2 eh_n1 h (fun r_578 r_578' h_r_578 fm22_root_579 fm22_root_579' h_fm22_root_579 fm22_wayEnd_580 fm22_wayEnd_580' h_fm22_wayEnd_580 fm22_waiting_581 fm22_waiting_581' h_fm22_waiting_581 am3711_584 am3712_587 am3713_590 am3714_593 am3715_596 am3716_599 am3717_602 am3718_605 am3719_608 am37110_611 am37111_614 am37112_617 am37113_620 am37114_623 h => ?_) 
          refine eh_i3 (eh_keq h_r_578 h_x3) (eh_kne he h_r_578 h_x3) h (fun h => ?_) (fun h => ?_)
          ·
           refine er_read he h_fm22_root_579 h_fm22_wayEnd_580 h_fm22_waiting_581 eh_n2 eh_n2 h (fun r_625 r_625' h_r_625 fm22_root_626 fm22_root_626' h_fm22_root_626 fm22_wayEnd_627 fm22_wayEnd_627' h_fm22_wayEnd_627 fm22_waiting_628 fm22_waiting_628' h_fm22_waiting_628 am3821_631 am3822_634 am3823_637 am3824_640 am3825_643 am3826_646 am3827_649 am3828_652 am3829_655 am38210_658 am38211_661 am38212_664 am38213_667 am38214_670 h => ?_) 
           refine eh_i3 (eh_keq h_r_625 (eh_ka h_x2 eh_n2)) (eh_kne he h_r_625 (eh_ka h_x2 eh_n2)) h (fun h => ?_) (fun h => ?_)
           ·
            refine er_cut he h_fm22_root_626 h_fm22_wayEnd_627 h_fm22_waiting_628 eh_n3 eh_n3 h (fun r_672 r_672' h_r_672 fm22_root_673 fm22_root_673' h_fm22_root_673 fm22_wayEnd_674 fm22_wayEnd_674' h_fm22_wayEnd_674 fm22_waiting_675 fm22_waiting_675' h_fm22_waiting_675 am3951_678 am3952_681 am3953_684 am3954_687 am3955_690 am3956_693 am3957_696 am3958_699 am3959_702 am39510_705 am39511_708 am39512_711 am39513_714 am39514_717 h => ?_) 
            refine eh_if (eh_eq h_r_672 eh_n5) h (fun h => ?_) (fun h => ?_)
            ·
             refine er_copies he h_fm22_root_673 h_fm22_wayEnd_674 h_fm22_waiting_675 h (fun r_719 r_719' h_r_719 fm22_root_720 fm22_root_720' h_fm22_root_720 fm22_wayEnd_721 fm22_wayEnd_721' h_fm22_wayEnd_721 fm22_waiting_722 fm22_waiting_722' h_fm22_waiting_722 am4041_725 am4042_728 am4043_731 am4044_734 am4045_737 am4046_740 am4047_743 am4048_746 am4049_749 am40410_752 am40411_755 am40412_758 am40413_761 am40414_764 h => ?_) 
             refine eh_if (eh_eq h_r_719 eh_n19) h (fun h => ?_) (fun h => ?_)
             ·
              refine er_read he h_fm22_root_720 h_fm22_wayEnd_721 h_fm22_waiting_722 eh_n3 eh_n31 h (fun r_766 r_766' h_r_766 fm22_root_767 fm22_root_767' h_fm22_root_767 fm22_wayEnd_768 fm22_wayEnd_768' h_fm22_wayEnd_768 fm22_waiting_769 fm22_waiting_769' h_fm22_waiting_769 am4171_772 am4172_775 am4173_778 am4174_781 am4175_784 am4176_787 am4177_790 am4178_793 am4179_796 am41710_799 am41711_802 am41712_805 am41713_808 am41714_811 h => ?_) 
              refine eh_i3 (eh_keq h_r_766 (eh_ik eh_n0)) (eh_kne he h_r_766 (eh_ik eh_n0)) h (fun h => ?_) (fun h => ?_)
              ·
               refine er_write he h_fm22_root_767 h_fm22_wayEnd_768 h_fm22_waiting_769 eh_n1 eh_n0 (eh_ik eh_n1) h (fun r_813 r_813' h_r_813 fm22_root_814 fm22_root_814' h_fm22_root_814 fm22_wayEnd_815 fm22_wayEnd_815' h_fm22_wayEnd_815 fm22_waiting_816 fm22_waiting_816' h_fm22_waiting_816 am4281_819 am4282_822 am4283_825 am4284_828 am4285_831 am4286_834 am4287_837 am4288_840 am4289_843 am42810_846 am42811_849 am42812_852 am42813_855 am42814_858 h => ?_) 
               refine eh_if (eh_eq h_r_813 eh_n0) h (fun h => ?_) (fun h => ?_)
               ·
                refine er_open he h_fm22_root_814 h_fm22_wayEnd_815 h_fm22_waiting_816 eh_n1 eh_n0 h_x5 h (fun r_860 r_860' h_r_860 fm22_root_861 fm22_root_861' h_fm22_root_861 fm22_wayEnd_862 fm22_wayEnd_862' h_fm22_wayEnd_862 fm22_waiting_863 fm22_waiting_863' h_fm22_waiting_863 am4421_866 am4422_869 am4423_872 am4424_875 am4425_878 am4426_881 am4427_884 am4428_887 am4429_890 am44210_893 am44211_896 am44212_899 am44213_902 am44214_905 h => ?_) 
                refine eh_if (eh_eq h_r_860 eh_n0) h (fun h => ?_) (fun h => ?_)
                ·
                 refine Exists.intro 120 ?_
                 exact er_lawOf_453 he hK  h_x2 h_x3 h_x4 h_x5 120 _ _ eh_n1 _ _ h_fm22_root_861 _ _ h_fm22_wayEnd_862 _ _ h_fm22_waiting_863 _ _ _ _ _ _ _ _ _ _ _ _ _ _ h
                ·
                 exact hK _ _ eh_n0 h
               ·
                exact hK _ _ eh_n0 h
              ·
               exact hK _ _ eh_n0 h
             ·
              exact hK _ _ eh_n0 h
            ·
             exact hK _ _ eh_n0 h
           ·
            exact hK _ _ eh_n0 h
          ·
           exact hK _ _ eh_n0 h
         ·
          exact hK _ _ eh_n0 h
        ·
         exact hK _ _ eh_n0 h
       ·
        exact hK _ _ eh_n0 h
      ·
       exact hK _ _ eh_n0 h
     ·
      exact hK _ _ eh_n0 h
    ·
     obtain ⟨fx1, h_fx1, h⟩ := eh_fc (eh_ml eh_n4 h_x7) h
     obtain ⟨fx2, h_fx2, h⟩ := eh_fcK (eh_ik h_x7) h
     refine er_write he h_fm22_root h_fm22_wayEnd h_fm22_waiting eh_n3 h_fx1 h_fx2 h (fun r_2235 r_2235' h_r_2235 fm22_root_2236 fm22_root_2236' h_fm22_root_2236 fm22_wayEnd_2237 fm22_wayEnd_2237' h_fm22_wayEnd_2237 fm22_waiting_2238 fm22_waiting_2238' h_fm22_waiting_2238 am2631_2241 am2632_2244 am2633_2247 am2634_2250 am2635_2253 am2636_2256 am2637_2259 am2638_2262 am2639_2265 am26310_2268 am26311_2271 am26312_2274 am26313_2277 am26314_2280 h => ?_) 
     refine eh_if (eh_eq h_r_2235 eh_n0) h (fun h => ?_) (fun h => ?_)
     ·
      obtain ⟨fx3, h_fx3, h⟩ := eh_fc (eh_ad (eh_ml eh_n4 h_x7) eh_n1) h
      refine er_write he h_fm22_root_2236 h_fm22_wayEnd_2237 h_fm22_waiting_2238 eh_n2 h_fx3 h_x3 h (fun r_2282 r_2282' h_r_2282 fm22_root_2283 fm22_root_2283' h_fm22_root_2283 fm22_wayEnd_2284 fm22_wayEnd_2284' h_fm22_wayEnd_2284 fm22_waiting_2285 fm22_waiting_2285' h_fm22_waiting_2285 am2791_2288 am2792_2291 am2793_2294 am2794_2297 am2795_2300 am2796_2303 am2797_2306 am2798_2309 am2799_2312 am27910_2315 am27911_2318 am27912_2321 am27913_2324 am27914_2327 h => ?_) 
      refine eh_if (eh_eq h_r_2282 eh_n0) h (fun h => ?_) (fun h => ?_)
      ·
       refine er_copies he h_fm22_root_2283 h_fm22_wayEnd_2284 h_fm22_waiting_2285 h (fun r_2329 r_2329' h_r_2329 fm22_root_2330 fm22_root_2330' h_fm22_root_2330 fm22_wayEnd_2331 fm22_wayEnd_2331' h_fm22_wayEnd_2331 fm22_waiting_2332 fm22_waiting_2332' h_fm22_waiting_2332 am2871_2335 am2872_2338 am2873_2341 am2874_2344 am2875_2347 am2876_2350 am2877_2353 am2878_2356 am2879_2359 am28710_2362 am28711_2365 am28712_2368 am28713_2371 am28714_2374 h => ?_) 
       refine eh_if (eh_eq h_r_2329 (eh_ad eh_n10 (eh_ml eh_n2 h_x7))) h (fun h => ?_) (fun h => ?_)
       ·
        refine eh_let (eh_ad h_x7 eh_n1) h (fun x7_2376 x7_2376' h_x7_2376 h => ?_)
        exact ih _ _ h_x7_2376 _ _ h_fm22_root_2330 _ _ h_fm22_wayEnd_2331 _ _ h_fm22_waiting_2332 _ _ _ _ _ _ _ _ _ _ _ _ _ _ h
       ·
        exact hK _ _ eh_n0 h
      ·
       exact hK _ _ eh_n0 h
     ·
      exact hK _ _ eh_n0 h
theorem er_lawOf_159 {e : ef_E} (he : e.1 < 80) {post : Int32 → St0 → Prop} {K : ef_F1} {mc : Nat} {ms : Nat} {kc : Nat} {ks : Nat} {x2 : Nat} {x2' : Int32} {x3 : Nat} {x3' : Int32} {x4 : Nat} {x4' : Int32} {x5 : Nat} {x5' : Int32} (hK : er_RI K post)  (h_x2 : x2' = ef_kv e x2) (h_x3 : x3' = ef_kv e x3) (h_x4 : x4' = nI x4) (h_x5 : x5' = ef_kv e x5) : ∀ (n : Nat) (x7 : Nat) (x7' : Int32) (_ : x7' = nI x7) (fm22_root : Nat) (fm22_root' : Int32) (_ : fm22_root' = nI fm22_root) (fm22_wayEnd : Nat) (fm22_wayEnd' : Int32) (_ : fm22_wayEnd' = nI fm22_wayEnd) (fm22_waiting : Nat) (fm22_waiting' : Int32) (_ : fm22_waiting' = nI fm22_waiting) (am1461 : Nat) (am1462 : Nat) (am1463 : Nat) (am1464 : Nat) (am1465 : Nat) (am1466 : Nat) (am1467 : Nat) (am1468 : Nat) (am1469 : Nat) (am14610 : Nat) (am14611 : Nat) (am14612 : Nat) (am14613 : Nat) (am14614 : Nat), ef_lawOf_159 K x2 x3 x4 x5 n x7 fm22_root fm22_wayEnd fm22_waiting am1461 am1462 am1463 am1464 am1465 am1466 am1467 am1468 am1469 am14610 am14611 am14612 am14613 am14614 = true → wL_lawOf_159 post mc ms x2' x3' x4' x5' kc ks n x7' fm22_root' fm22_wayEnd' fm22_waiting' (eb_ar am1461) (eb_ak e am1462) (eb_ar am1463) (eb_ar am1464) (eb_ar am1465) (eb_ar am1466) (eb_ar am1467) (eb_ar am1468) (eb_ar am1469) (eb_ak e am14610) (eb_ar am14611) (eb_ar am14612) (eb_ar am14613) (eb_ar am14614) := by
  intro n
  induction n with
  | zero =>
    intro x7 x7' h_x7 fm22_root fm22_root' h_fm22_root fm22_wayEnd fm22_wayEnd' h_fm22_wayEnd fm22_waiting fm22_waiting' h_fm22_waiting am1461 am1462 am1463 am1464 am1465 am1466 am1467 am1468 am1469 am14610 am14611 am14612 am14613 am14614 h
    exact absurd (show false = true from h) Bool.false_ne_true
  | succ n ih =>
    intro x7 x7' h_x7 fm22_root fm22_root' h_fm22_root fm22_wayEnd fm22_wayEnd' h_fm22_wayEnd fm22_waiting fm22_waiting' h_fm22_waiting am1461 am1462 am1463 am1464 am1465 am1466 am1467 am1468 am1469 am14610 am14611 am14612 am14613 am14614 h
    have h : ef_lawOf_159_b K x2 x3 x4 x5 (ef_lawOf_159 K x2 x3 x4 x5 n) x7 fm22_root fm22_wayEnd fm22_waiting am1461 am1462 am1463 am1464 am1465 am1466 am1467 am1468 am1469 am14610 am14611 am14612 am14613 am14614 = true := h
    refine eh_if (eh_lt h_x7 eh_n0) h (fun h => ?_) (fun h => ?_)
    ·
     refine er_save he h_fm22_root h_fm22_wayEnd h_fm22_waiting h (fun r_248 r_248' h_r_248 fm22_root_249 fm22_root_249' h_fm22_root_249 fm22_wayEnd_250 fm22_wayEnd_250' h_fm22_wayEnd_250 fm22_waiting_251 fm22_waiting_251' h_fm22_waiting_251 am2201_254 am2202_257 am2203_260 am2204_263 am2205_266 am2206_269 am2207_272 am2208_275 am2209_278 am22010_281 am22011_284 am22012_287 am22013_290 am22014_293 h => ?_) 
     refine eh_if (eh_eq h_r_248 eh_n1) h (fun h => ?_) (fun h => ?_)
     ·
      refine er_make he h_fm22_root_249 h_fm22_wayEnd_250 h_fm22_waiting_251 eh_n3 eh_n0 (eh_ik eh_n99) eh_n0 h (fun r_295 r_295' h_r_295 fm22_root_296 fm22_root_296' h_fm22_root_296 fm22_wayEnd_297 fm22_wayEnd_297' h_fm22_wayEnd_297 fm22_waiting_298 fm22_waiting_298' h_fm22_waiting_298 am2361_301 am2362_304 am2363_307 am2364_310 am2365_313 am2366_316 am2367_319 am2368_322 am2369_325 am23610_328 am23611_331 am23612_334 am23613_337 am23614_340 h => ?_) 
      refine eh_if (eh_eq h_r_295 eh_n0) h (fun h => ?_) (fun h => ?_)
      ·
       refine Exists.intro 120 ?_
       exact er_lawOf_247 he hK  h_x2 h_x3 h_x4 h_x5 120 _ _ eh_n0 _ _ h_fm22_root_296 _ _ h_fm22_wayEnd_297 _ _ h_fm22_waiting_298 _ _ _ _ _ _ _ _ _ _ _ _ _ _ h
      ·
       exact hK _ _ eh_n0 h
     ·
      exact hK _ _ eh_n0 h
    ·
     obtain ⟨fx1, h_fx1, h⟩ := eh_fcK (eh_ka h_x2 h_x7) h
     refine er_write he h_fm22_root h_fm22_wayEnd h_fm22_waiting eh_n2 h_x7 h_fx1 h (fun r_2377 r_2377' h_r_2377 fm22_root_2378 fm22_root_2378' h_fm22_root_2378 fm22_wayEnd_2379 fm22_wayEnd_2379' h_fm22_wayEnd_2379 fm22_waiting_2380 fm22_waiting_2380' h_fm22_waiting_2380 am1731_2383 am1732_2386 am1733_2389 am1734_2392 am1735_2395 am1736_2398 am1737_2401 am1738_2404 am1739_2407 am17310_2410 am17311_2413 am17312_2416 am17313_2419 am17314_2422 h => ?_) 
     refine eh_if (eh_eq h_r_2377 eh_n0) h (fun h => ?_) (fun h => ?_)
     ·
      refine er_size he h_fm22_root_2378 h_fm22_wayEnd_2379 h_fm22_waiting_2380 eh_n2 h (fun r_2424 r_2424' h_r_2424 fm22_root_2425 fm22_root_2425' h_fm22_root_2425 fm22_wayEnd_2426 fm22_wayEnd_2426' h_fm22_wayEnd_2426 fm22_waiting_2427 fm22_waiting_2427' h_fm22_waiting_2427 am1821_2430 am1822_2433 am1823_2436 am1824_2439 am1825_2442 am1826_2445 am1827_2448 am1828_2451 am1829_2454 am18210_2457 am18211_2460 am18212_2463 am18213_2466 am18214_2469 h => ?_) 
      refine And.intro (by decide) ?_
      obtain ⟨g2, h⟩ := eh_g h
      refine eh_if (eh_eq h_r_2424 (eh_sb eh_n8 (eh_dv h_x7 eh_d4 g2))) h (fun h => ?_) (fun h => ?_)
      ·
       refine er_copies he h_fm22_root_2425 h_fm22_wayEnd_2426 h_fm22_waiting_2427 h (fun r_2472 r_2472' h_r_2472 fm22_root_2473 fm22_root_2473' h_fm22_root_2473 fm22_wayEnd_2474 fm22_wayEnd_2474' h_fm22_wayEnd_2474 fm22_waiting_2475 fm22_waiting_2475' h_fm22_waiting_2475 am1971_2478 am1972_2481 am1973_2484 am1974_2487 am1975_2490 am1976_2493 am1977_2496 am1978_2499 am1979_2502 am19710_2505 am19711_2508 am19712_2511 am19713_2514 am19714_2517 h => ?_) 
       refine And.intro (by decide) ?_
       refine eh_if (eh_eq h_r_2472 (eh_sb eh_n8 (eh_dv h_x7 eh_d4 g2))) h (fun h => ?_) (fun h => ?_)
       ·
        refine eh_let (eh_ad h_x7 eh_m1) h (fun x7_2520 x7_2520' h_x7_2520 h => ?_)
        exact ih _ _ h_x7_2520 _ _ h_fm22_root_2473 _ _ h_fm22_wayEnd_2474 _ _ h_fm22_waiting_2475 _ _ _ _ _ _ _ _ _ _ _ _ _ _ h
       ·
        exact hK _ _ eh_n0 h
      ·
       exact hK _ _ eh_n0 h
     ·
      exact hK _ _ eh_n0 h
theorem er_lawOf_54 {e : ef_E} (he : e.1 < 80) {post : Int32 → St0 → Prop} {K : ef_F1} {mc : Nat} {ms : Nat} {J34 : Int32 → Int32 → Int32 → Int32 → (Nat → Int32) → (Nat → Int32) → (Nat → Int32) → (Nat → Int32) → (Nat → Int32) → (Nat → Int32) → (Nat → Int32) → (Nat → Int32) → (Nat → Int32) → (Nat → Int32) → (Nat → Int32) → (Nat → Int32) → (Nat → Int32) → (Nat → Int32) → Prop} {JJ : ef_F18} {kc : Nat} {ks : Nat} {x2 : Nat} {x2' : Int32} {x3 : Nat} {x3' : Int32} {x4 : Nat} {x4' : Int32} {x5 : Nat} {x5' : Int32} {x7 : Nat} {x7' : Int32} {z0 : Nat} {z0' : Int32} {z1 : Nat} {z1' : Int32} {fm22_root : Nat} {fm22_root' : Int32} {fm22_wayEnd : Nat} {fm22_wayEnd' : Int32} {fm22_waiting : Nat} {fm22_waiting' : Int32} {am261 : Nat} {am262 : Nat} {am263 : Nat} {am264 : Nat} {am265 : Nat} {am266 : Nat} {am267 : Nat} {am268 : Nat} {am269 : Nat} {am2610 : Nat} {am2611 : Nat} {am2612 : Nat} {am2613 : Nat} {am2614 : Nat} (h_x2 : x2' = ef_kv e x2) (h_x3 : x3' = ef_kv e x3) (h_x4 : x4' = nI x4) (h_x5 : x5' = ef_kv e x5) (h_x7 : x7' = nI x7) (h_z0 : z0' = nI z0) (h_z1 : z1' = nI z1) (h_fm22_root : fm22_root' = nI fm22_root) (h_fm22_wayEnd : fm22_wayEnd' = nI fm22_wayEnd) (h_fm22_waiting : fm22_waiting' = nI fm22_waiting) (h : ef_lawOf_54 K JJ x2 x3 x4 x5 x7 z0 z1 fm22_root fm22_wayEnd fm22_waiting am261 am262 am263 am264 am265 am266 am267 am268 am269 am2610 am2611 am2612 am2613 am2614 = true) (hK : er_RI K post) (hJ : ∀ (q0 : Nat) (s0 : Int32) (_ : s0 = nI q0) (q1 : Nat) (s1 : Int32) (_ : s1 = nI q1) (q2 : Nat) (s2 : Int32) (_ : s2 = nI q2) (q3 : Nat) (s3 : Int32) (_ : s3 = nI q3) (q4 : Nat) (q5 : Nat) (q6 : Nat) (q7 : Nat) (q8 : Nat) (q9 : Nat) (q10 : Nat) (q11 : Nat) (q12 : Nat) (q13 : Nat) (q14 : Nat) (q15 : Nat) (q16 : Nat) (q17 : Nat), JJ q0 q1 q2 q3 q4 q5 q6 q7 q8 q9 q10 q11 q12 q13 q14 q15 q16 q17 = true → J34 s0 s1 s2 s3 (eb_ar q4) (eb_ak e q5) (eb_ar q6) (eb_ar q7) (eb_ar q8) (eb_ar q9) (eb_ar q10) (eb_ar q11) (eb_ar q12) (eb_ak e q13) (eb_ar q14) (eb_ar q15) (eb_ar q16) (eb_ar q17)) : wL_lawOf_54 post mc ms J34 x2' x3' x4' x5' x7' z0' z1' kc ks fm22_root' fm22_wayEnd' fm22_waiting' (eb_ar am261) (eb_ak e am262) (eb_ar am263) (eb_ar am264) (eb_ar am265) (eb_ar am266) (eb_ar am267) (eb_ar am268) (eb_ar am269) (eb_ak e am2610) (eb_ar am2611) (eb_ar am2612) (eb_ar am2613) (eb_ar am2614) := by
  unfold wL_lawOf_54
  obtain ⟨fx1, h_fx1, h⟩ := eh_fcK (eh_ka h_x5 h_x7) h
  refine er_make he h_fm22_root h_fm22_wayEnd h_fm22_waiting h_z1 h_z0 h_fx1 eh_n1 h (fun r_2522 r_2522' h_r_2522 fm22_root_2523 fm22_root_2523' h_fm22_root_2523 fm22_wayEnd_2524 fm22_wayEnd_2524' h_fm22_wayEnd_2524 fm22_waiting_2525 fm22_waiting_2525' h_fm22_waiting_2525 am601_2528 am602_2531 am603_2534 am604_2537 am605_2540 am606_2543 am607_2546 am608_2549 am609_2552 am6010_2555 am6011_2558 am6012_2561 am6013_2564 am6014_2567 h => ?_) 
  refine eh_if (eh_eq h_r_2522 eh_n0) h (fun h => ?_) (fun h => ?_)
  ·
   refine er_nodes he h_fm22_root_2523 h_fm22_wayEnd_2524 h_fm22_waiting_2525 h (fun r_2569 r_2569' h_r_2569 fm22_root_2570 fm22_root_2570' h_fm22_root_2570 fm22_wayEnd_2571 fm22_wayEnd_2571' h_fm22_wayEnd_2571 fm22_waiting_2572 fm22_waiting_2572' h_fm22_waiting_2572 am681_2575 am682_2578 am683_2581 am684_2584 am685_2587 am686_2590 am687_2593 am688_2596 am689_2599 am6810_2602 am6811_2605 am6812_2608 am6813_2611 am6814_2614 h => ?_) 
   refine eh_if (eh_eq h_r_2569 (eh_ad h_x7 eh_n2)) h (fun h => ?_) (fun h => ?_)
   ·
    refine er_kind he h_fm22_root_2570 h_fm22_wayEnd_2571 h_fm22_waiting_2572 eh_n1 h (fun r_2616 r_2616' h_r_2616 fm22_root_2617 fm22_root_2617' h_fm22_root_2617 fm22_wayEnd_2618 fm22_wayEnd_2618' h_fm22_wayEnd_2618 fm22_waiting_2619 fm22_waiting_2619' h_fm22_waiting_2619 am811_2622 am812_2625 am813_2628 am814_2631 am815_2634 am816_2637 am817_2640 am818_2643 am819_2646 am8110_2649 am8111_2652 am8112_2655 am8113_2658 am8114_2661 h => ?_) 
    refine eh_if (eh_eq h_r_2616 eh_n1) h (fun h => ?_) (fun h => ?_)
    ·
     refine er_size he h_fm22_root_2617 h_fm22_wayEnd_2618 h_fm22_waiting_2619 eh_n1 h (fun r_2663 r_2663' h_r_2663 fm22_root_2664 fm22_root_2664' h_fm22_root_2664 fm22_wayEnd_2665 fm22_wayEnd_2665' h_fm22_wayEnd_2665 fm22_waiting_2666 fm22_waiting_2666' h_fm22_waiting_2666 am911_2669 am912_2672 am913_2675 am914_2678 am915_2681 am916_2684 am917_2687 am918_2690 am919_2693 am9110_2696 am9111_2699 am9112_2702 am9113_2705 am9114_2708 h => ?_) 
     refine eh_if (eh_eq h_r_2663 eh_n0) h (fun h => ?_) (fun h => ?_)
     ·
      refine eh_let (eh_ad h_x7 eh_n1) h (fun x7_2710 x7_2710' h_x7_2710 h => ?_)
      exact hJ _ _ h_x7_2710 _ _ h_fm22_root_2664 _ _ h_fm22_wayEnd_2665 _ _ h_fm22_waiting_2666 _ _ _ _ _ _ _ _ _ _ _ _ _ _ h
     ·
      exact hK _ _ eh_n0 h
    ·
     exact hK _ _ eh_n0 h
   ·
    exact hK _ _ eh_n0 h
  ·
   exact hK _ _ eh_n0 h
theorem er_lawOf_34 {e : ef_E} (he : e.1 < 80) {post : Int32 → St0 → Prop} {K : ef_F1} {mc : Nat} {ms : Nat} {kc : Nat} {ks : Nat} {x2 : Nat} {x2' : Int32} {x3 : Nat} {x3' : Int32} {x4 : Nat} {x4' : Int32} {x5 : Nat} {x5' : Int32} (hK : er_RI K post)  (h_x2 : x2' = ef_kv e x2) (h_x3 : x3' = ef_kv e x3) (h_x4 : x4' = nI x4) (h_x5 : x5' = ef_kv e x5) : ∀ (n : Nat) (x7 : Nat) (x7' : Int32) (_ : x7' = nI x7) (fm22_root : Nat) (fm22_root' : Int32) (_ : fm22_root' = nI fm22_root) (fm22_wayEnd : Nat) (fm22_wayEnd' : Int32) (_ : fm22_wayEnd' = nI fm22_wayEnd) (fm22_waiting : Nat) (fm22_waiting' : Int32) (_ : fm22_waiting' = nI fm22_waiting) (am261 : Nat) (am262 : Nat) (am263 : Nat) (am264 : Nat) (am265 : Nat) (am266 : Nat) (am267 : Nat) (am268 : Nat) (am269 : Nat) (am2610 : Nat) (am2611 : Nat) (am2612 : Nat) (am2613 : Nat) (am2614 : Nat), ef_lawOf_34 K x2 x3 x4 x5 n x7 fm22_root fm22_wayEnd fm22_waiting am261 am262 am263 am264 am265 am266 am267 am268 am269 am2610 am2611 am2612 am2613 am2614 = true → wL_lawOf_34 post mc ms x2' x3' x4' x5' kc ks n x7' fm22_root' fm22_wayEnd' fm22_waiting' (eb_ar am261) (eb_ak e am262) (eb_ar am263) (eb_ar am264) (eb_ar am265) (eb_ar am266) (eb_ar am267) (eb_ar am268) (eb_ar am269) (eb_ak e am2610) (eb_ar am2611) (eb_ar am2612) (eb_ar am2613) (eb_ar am2614) := by
  intro n
  induction n with
  | zero =>
    intro x7 x7' h_x7 fm22_root fm22_root' h_fm22_root fm22_wayEnd fm22_wayEnd' h_fm22_wayEnd fm22_waiting fm22_waiting' h_fm22_waiting am261 am262 am263 am264 am265 am266 am267 am268 am269 am2610 am2611 am2612 am2613 am2614 h
    exact absurd (show false = true from h) Bool.false_ne_true
  | succ n ih =>
    intro x7 x7' h_x7 fm22_root fm22_root' h_fm22_root fm22_wayEnd fm22_wayEnd' h_fm22_wayEnd fm22_waiting fm22_waiting' h_fm22_waiting am261 am262 am263 am264 am265 am266 am267 am268 am269 am2610 am2611 am2612 am2613 am2614 h
    have h : ef_lawOf_34_b K x2 x3 x4 x5 (ef_lawOf_34 K x2 x3 x4 x5 n) x7 fm22_root fm22_wayEnd fm22_waiting am261 am262 am263 am264 am265 am266 am267 am268 am269 am2610 am2611 am2612 am2613 am2614 = true := h
    refine eh_if (eh_le h_x4 h_x7) h (fun h => ?_) (fun h => ?_)
    ·
     refine er_make he h_fm22_root h_fm22_wayEnd h_fm22_waiting eh_n2 eh_n1 h_x5 eh_n0 h (fun r_59 r_59' h_r_59 fm22_root_60 fm22_root_60' h_fm22_root_60 fm22_wayEnd_61 fm22_wayEnd_61' h_fm22_wayEnd_61 fm22_waiting_62 fm22_waiting_62' h_fm22_waiting_62 am1121_65 am1122_68 am1123_71 am1124_74 am1125_77 am1126_80 am1127_83 am1128_86 am1129_89 am11210_92 am11211_95 am11212_98 am11213_101 am11214_104 h => ?_) 
     refine eh_if (eh_eq h_r_59 eh_n0) h (fun h => ?_) (fun h => ?_)
     ·
      refine er_make he h_fm22_root_60 h_fm22_wayEnd_61 h_fm22_waiting_62 eh_n3 eh_n1 h_x5 eh_n1 h (fun r_106 r_106' h_r_106 fm22_root_107 fm22_root_107' h_fm22_root_107 fm22_wayEnd_108 fm22_wayEnd_108' h_fm22_wayEnd_108 fm22_waiting_109 fm22_waiting_109' h_fm22_waiting_109 am1251_112 am1252_115 am1253_118 am1254_121 am1255_124 am1256_127 am1257_130 am1258_133 am1259_136 am12510_139 am12511_142 am12512_145 am12513_148 am12514_151 h => ?_) 
      refine eh_if (eh_eq h_r_106 eh_m5) h (fun h => ?_) (fun h => ?_)
      ·
       refine er_kind he h_fm22_root_107 h_fm22_wayEnd_108 h_fm22_waiting_109 eh_n2 h (fun r_153 r_153' h_r_153 fm22_root_154 fm22_root_154' h_fm22_root_154 fm22_wayEnd_155 fm22_wayEnd_155' h_fm22_wayEnd_155 fm22_waiting_156 fm22_waiting_156' h_fm22_waiting_156 am1361_159 am1362_162 am1363_165 am1364_168 am1365_171 am1366_174 am1367_177 am1368_180 am1369_183 am13610_186 am13611_189 am13612_192 am13613_195 am13614_198 h => ?_) 
       refine eh_if (eh_eq h_r_153 eh_n2) h (fun h => ?_) (fun h => ?_)
       ·
        refine er_size he h_fm22_root_154 h_fm22_wayEnd_155 h_fm22_waiting_156 eh_n1 h (fun r_200 r_200' h_r_200 fm22_root_201 fm22_root_201' h_fm22_root_201 fm22_wayEnd_202 fm22_wayEnd_202' h_fm22_wayEnd_202 fm22_waiting_203 fm22_waiting_203' h_fm22_waiting_203 am1461_206 am1462_209 am1463_212 am1464_215 am1465_218 am1466_221 am1467_224 am1468_227 am1469_230 am14610_233 am14611_236 am14612_239 am14613_242 am14614_245 h => ?_) 
        refine eh_if (eh_eq h_r_200 eh_n1) h (fun h => ?_) (fun h => ?_)
        ·
         refine Exists.intro 120 ?_
         exact er_lawOf_159 he hK  h_x2 h_x3 h_x4 h_x5 120 _ _ eh_n31 _ _ h_fm22_root_201 _ _ h_fm22_wayEnd_202 _ _ h_fm22_waiting_203 _ _ _ _ _ _ _ _ _ _ _ _ _ _ h
        ·
         exact hK _ _ eh_n0 h
       ·
        exact hK _ _ eh_n0 h
      ·
       exact hK _ _ eh_n0 h
     ·
      exact hK _ _ eh_n0 h
    ·
     refine eh_if (eh_eq h_x7 eh_n0) h (fun h => ?_) (fun h => ?_)
     ·
      exact er_lawOf_54 he h_x2 h_x3 h_x4 h_x5 h_x7 eh_n0 eh_n1 h_fm22_root h_fm22_wayEnd h_fm22_waiting h hK ih
     ·
      exact er_lawOf_54 he h_x2 h_x3 h_x4 h_x5 h_x7 eh_n1 eh_n1 h_fm22_root h_fm22_wayEnd h_fm22_waiting h hK ih
end
section
/-! the whole law as one Bool, n being its depth -/
noncomputable def ef_run (n r w q a1 a2 a3 a4 a5 a6 a7 a8 a9 a10 a11 a12 a13 a14 : Nat) : Bool := ef_lawOf_34 (fun z => Nat.beq z 1) 1099511627776 281474976710656 n 4294967296 120 0 r w q a1 a2 a3 a4 a5 a6 a7 a8 a9 a10 a11 a12 a13 a14
noncomputable def ef_top (n : Nat) : Bool := ef_init_118 (fun r w q a1 a2 a3 a4 a5 a6 a7 a8 a9 a10 a11 a12 a13 a14 => ef_run n r w q a1 a2 a3 a4 a5 a6 a7 a8 a9 a10 a11 a12 a13 a14) 0 0 0 120 1 0 0 0 0 0 0 0 0 0 0 0 0 0 0
end
section
/-! the runs, evaluated -/
theorem ev_1 : ef_top 1 = true := by decide +kernel
theorem ev_2 : ef_top 2 = true := by decide +kernel
theorem ev_3 : ef_top 3 = true := by decide +kernel
theorem ev_4 : ef_top 4 = true := by decide +kernel
end
section
/-! the runs, evaluated -/
theorem ev_5 : ef_top 5 = true := by decide +kernel
theorem ev_6 : ef_top 6 = true := by decide +kernel
theorem ev_7 : ef_top 7 = true := by decide +kernel
theorem ev_8 : ef_top 8 = true := by decide +kernel
end
section
/-! the runs, evaluated -/
theorem ev_9 : ef_top 9 = true := by decide +kernel
theorem ev_10 : ef_top 10 = true := by decide +kernel
theorem ev_11 : ef_top 11 = true := by decide +kernel
theorem ev_12 : ef_top 12 = true := by decide +kernel
end
section
/-! ===== the law ===== -/
theorem er_init {e : ef_E} (he : e.1 < 80) {post : St2 → Prop} {K : ef_F17} {mc ms : Nat} (hm : 14 ≤ mc) (hs : 2418 ≤ ms) (h : ef_init_118 K 0 0 0 120 1 0 0 0 0 0 0 0 0 0 0 0 0 0 0 = true) (hK : er_PS e K post) : wpX_init post mc ms (0, 0, 0) := by
  have t := er_init_118 (mc := mc) (ms := ms) (kc := 14) (ks := 2418) he hK eh_n0 eh_n0 eh_n0 120 _ _ eh_n1 _ _ _ _ _ _ _ _ _ _ _ _ _ _ h
  simp only [eh_ak0, eh_ar0] at t
  unfold wpX_init
  dsimp only
  exact ⟨by omega, by omega, by omega, by omega, by omega, by omega, by omega, by omega, by omega, by omega, by omega, by omega, by omega, by omega, by omega, by omega, by omega, by omega, by omega, by omega, by omega, by omega, by omega, by omega, by omega, by omega, by omega, by omega, 120, t⟩
theorem er_cellAt {post : Int32 → Prop} {L : Nat} {xs : Nat → Int32} {p : Int32} (k : Nat) (hp : p = nI k) (hk : k < 4) (hL : L ≤ 4) (H : ∀ r, post r) : wpL_cellAt post L xs () p := by
  refine ⟨fun _ => H _, fun hn => ⟨?_, H _⟩⟩
  subst hp
  have h2 : ¬ nI L ≤ nI k := hn
  rw [nI_leI (by omega) (by omega)] at h2
  exact vp_in_nI (by omega) (by omega)
theorem er_of (x : Int32) : ∃ n : Nat, x = nI n := ⟨x.toBitVec.toNat, by
    apply Int32.toBitVec_inj.mp
    show x.toBitVec = BitVec.ofNat 32 x.toBitVec.toNat
    rw [BitVec.ofNat_toNat, BitVec.setWidth_eq]⟩
theorem er_rem (x : Int32) (d : Nat) (h0 : 0 < d) (hd : d < 256) : ∃ k : Nat, k < d ∧ (x &&& 255) - (x &&& 255) / nI d * nI d = nI k := by
  obtain ⟨n, rfl⟩ := er_of x
  refine ⟨n % 256 % d, Nat.mod_lt _ h0, ?_⟩
  rw [eh_an255]
  have h1 : nI (n % 256) / nI d = nI (n % 256 / d) := (Int32.ofNat_div (a := n % 256) (b := d) (by omega) (by omega)).symm
  have h3 : n % 256 / d * d ≤ n % 256 := Nat.div_mul_le_self _ _
  have h2 : nI (n % 256 - n % 256 / d * d) = nI (n % 256) - nI (n % 256 / d * d) := Int32.ofNat_sub _ _ h3
  rw [h1, ← eh_mlI, ← h2]
  congr 1
  have h4 := Nat.div_add_mod (n % 256) d
  rw [Nat.mul_comm] at h4
  omega
theorem er_kv_v (e : ef_E) : e.2.1 = ef_kv e 1099511627776 := by
  unfold ef_kv
  have h0 : nI 1099511627776 = 0 := by decide
  have h1 : nI (1099511627776 / 4294967296 % 256) = 0 := by decide
  have h2 : nI (1099511627776 / 1099511627776 % 256) = 1 := by decide
  rw [h0, h1, h2, Int32.zero_mul, Int32.zero_mul, Int32.one_mul, Int32.add_zero, Int32.add_zero, Int32.zero_add]
theorem er_kv_t (e : ef_E) : e.2.2 = ef_kv e 281474976710656 := by
  unfold ef_kv
  have h0 : nI 281474976710656 = 0 := by decide
  have h1 : nI (281474976710656 / 4294967296 % 256) = 0 := by decide
  have h3 : nI (281474976710656 / 281474976710656 % 256) = 1 := by decide
  rw [h0, h1, h3, Int32.zero_mul, Int32.zero_mul, Int32.one_mul, Int32.add_zero, Int32.add_zero, Int32.zero_add]
theorem er_kv_f (e : ef_E) : nI e.1 = ef_kv e 4294967296 := by
  rw [eh_kv1 e (by decide)]
  exact eh_mdE (by omega)
theorem er_lawOf {n f : Nat} (hf : f < 80) (h : ef_top n = true) (p0 p1 v t : Int32) (h4 : 1 + ((p0 &&& 255) - (p0 &&& 255) / 12 * 12) = nI n) (h5 : (p1 &&& 255) - (p1 &&& 255) / 80 * 80 = nI f) : wpL_lawOf (fun r _ => r = 1) 556 8880 () p0 p1 v t := by
  unfold wpL_lawOf
  refine ⟨by decide, fun x4 e4 => ⟨by decide, fun x5 e5 => ⟨by decide, by decide, 14, 2418, by decide, by decide, ?_⟩⟩⟩
  refine er_init (e := (f, v, t)) hf (by decide) (by decide) h (fun c0 c0' h0 c1 c1' h1 c2 c2' h2 a1 a2 a3 a4 a5 a6 a7 a8 a9 a10 a11 a12 a13 a14 hh => ?_)
  refine Exists.intro 120 ?_
  refine er_lawOf_34 (e := (f, v, t)) hf (K := fun z => Nat.beq z 1) ?_ (er_kv_v (f, v, t)) (er_kv_t (f, v, t)) (e4.trans h4) ((e5.trans h5).trans (er_kv_f (f, v, t))) 120 _ _ eh_n0 _ _ h0 _ _ h1 _ _ h2 _ _ _ _ _ _ _ _ _ _ _ _ _ _ hh
  intro r r' hr hk
  rw [hr, Nat.eq_of_beq_eq_true hk]
  rfl
theorem i_vc (xs : Nat → Int32) (L : Nat) (hL : L ≤ 4) : wpL_law (fun r => r = 1) L xs := by
  unfold wpL_law
  refine er_cellAt 0 rfl (by decide) hL (fun a => er_cellAt 1 rfl (by decide) hL (fun b => er_cellAt 2 rfl (by decide) hL (fun v => er_cellAt 3 rfl (by decide) hL (fun t => ?_))))
  refine ⟨556, 8880, by decide, by decide, ?_⟩
  obtain ⟨k, hk, e4⟩ := er_rem a 12 (by decide) (by decide)
  obtain ⟨f, hf, e5⟩ := er_rem b 80 (by decide) (by decide)
  have h4 : 1 + ((a &&& 255) - (a &&& 255) / 12 * 12) = nI (1 + k) := by
    have q : (a &&& 255) - (a &&& 255) / 12 * 12 = nI k := e4
    rw [q]
    exact nI_add 1 k
  have hn : 1 + k = 1 ∨ 1 + k = 2 ∨ 1 + k = 3 ∨ 1 + k = 4 ∨ 1 + k = 5 ∨ 1 + k = 6 ∨ 1 + k = 7 ∨ 1 + k = 8 ∨ 1 + k = 9 ∨ 1 + k = 10 ∨ 1 + k = 11 ∨ 1 + k = 12 := by omega
  have ht : ef_top (1 + k) = true := by
    rcases hn with z | z | z | z | z | z | z | z | z | z | z | z <;> rw [z]
    · exact ev_1
    · exact ev_2
    · exact ev_3
    · exact ev_4
    · exact ev_5
    · exact ev_6
    · exact ev_7
    · exact ev_8
    · exact ev_9
    · exact ev_10
    · exact ev_11
    · exact ev_12
  exact er_lawOf hf ht a b v t h4 e5
end
