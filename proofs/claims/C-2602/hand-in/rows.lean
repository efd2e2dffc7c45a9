section
/-! pure rows to paste: stores, nI and lN arithmetic, masks, shifts, narrowing, branches by naturals (pk_le, pk_lt, pk_eq), loops (lp1 .. lp16: the measure of the state; rp1 ..: recursion), negatives. Take what you need -/
theorem pk_us {f : Nat → Int32} {k : Nat} {x : Int32} : upd f k x k = x := if_pos rfl
theorem pk_un {f : Nat → Int32} {k j : Nat} {x : Int32} (h : j ≠ k) : upd f k x j = f j := if_neg h
theorem pk_uLs {f : Nat → Int64} {k : Nat} {x : Int64} : vp_updL f k x k = x := if_pos rfl
theorem pk_uLn {f : Nat → Int64} {k j : Nat} {x : Int64} (h : j ≠ k) : vp_updL f k x j = f j := if_neg h
theorem pk_sub {a b : Nat} (h : b ≤ a) : nI a - nI b = nI (a - b) := by
  obtain ⟨c, rfl⟩ : ∃ c, a = c + b := ⟨a - b, by omega⟩
  rw [← nI_add, Int32.add_sub_cancel, Nat.add_sub_cancel]
theorem pk_m1 (n : Nat) : nI (n + 1) + (-1) = nI n := by
  rw [← nI_1, Int32.add_assoc, show (1 : Int32) + (-1) = 0 from rfl, Int32.add_zero]
theorem pk_mul (a b : Nat) : nI a * nI b = nI (a * b) := (Int32.ofNat_mul a b).symm
theorem pk_div {a d : Nat} (ha : a < 2 ^ 31) (h0 : 0 < d) (hd : d < 2 ^ 31) : nI a / nI d = nI (a / d) := by
  apply Int32.toInt_inj.mp
  rw [lg_idiv_nonneg (by rw [nI_toInt ha]; omega) (by rw [nI_toInt hd]; omega), nI_toInt ha, nI_toInt hd, nI_toInt (Nat.lt_of_le_of_lt (Nat.div_le_self a d) ha)]
  first | rfl | exact (Int.natCast_ediv _ _).symm
theorem pk_rem {a d : Nat} (ha : a < 2 ^ 31) (h0 : 0 < d) (hd : d < 2 ^ 31) : nI a - nI a / nI d * nI d = nI (a % d) := by
  rw [pk_div ha h0 hd, pk_mul, pk_sub (Nat.div_mul_le_self a d)]
  exact congrArg nI (by have := Nat.div_add_mod' a d; omega)
theorem pk_sub_toInt {a b : Nat} (ha : a < 2 ^ 30) (hb : b < 2 ^ 30) : (nI a - nI b).toInt = (a : Int) - b := by
  rw [Int32.toInt_sub, nI_toInt (by omega), nI_toInt (by omega)]
  exact Int.bmod_eq_of_le (by omega) (by omega)
theorem pk_sneg {a b : Nat} (hb : b < 2 ^ 30) (h : a < b) : nI a - nI b < 0 := by
  rw [Int32.lt_iff_toInt_lt, pk_sub_toInt (by omega) hb, show (0 : Int32).toInt = 0 from by decide]
  omega
theorem pk_ix (x : Int32) {n : Nat} (hn : n < 2 ^ 31) : x < 0 ∨ nI n ≤ x ∨ ∃ j : Nat, j < n ∧ x = nI j := by
  by_cases h : x < 0
  · exact Or.inl h
  · obtain ⟨j, hj, rfl⟩ := nI_of h
    by_cases h2 : j < n
    · exact Or.inr (Or.inr ⟨j, h2, rfl⟩)
    · exact Or.inr (Or.inl (nI_le (by omega) hj))
theorem pk_le {x y : Int32} {A B : Prop} (a b : Nat) (f : a ≤ b → A) (g : b < a → B) (hx : x = nI a := by rfl) (hy : y = nI b := by rfl) (ha : a < 2 ^ 31 := by omega) (hb : b < 2 ^ 31 := by omega) : (x ≤ y → A) ∧ (¬ x ≤ y → B) := by
  subst hx hy
  rw [nI_leI ha hb]
  exact ⟨f, fun z => g (by omega)⟩
theorem pk_lt {x y : Int32} {A B : Prop} (a b : Nat) (f : a < b → A) (g : b ≤ a → B) (hx : x = nI a := by rfl) (hy : y = nI b := by rfl) (ha : a < 2 ^ 31 := by omega) (hb : b < 2 ^ 31 := by omega) : (x < y → A) ∧ (¬ x < y → B) := by
  subst hx hy
  rw [nI_ltI ha hb]
  exact ⟨f, fun z => g (by omega)⟩
theorem pk_eq {x y : Int32} {A B : Prop} (a b : Nat) (f : a = b → A) (g : a ≠ b → B) (hx : x = nI a := by rfl) (hy : y = nI b := by rfl) (ha : a < 2 ^ 31 := by omega) (hb : b < 2 ^ 31 := by omega) : (x = y → A) ∧ (¬ x = y → B) := by
  subst hx hy
  rw [nI_eq ha hb]
  exact ⟨f, g⟩
theorem pk_in {x : Int32} (n N : Nat) (h : n < N) (hx : x = nI n := by rfl) (hN : N < 2 ^ 31 := by omega) : vp_in x N := by
  subst hx
  exact vp_in_nI h hN
theorem pk_cl {x : Int32} (n : Nat) (hx : x = nI n := by rfl) (h : n < 2 ^ 31 := by omega) : x.toNatClampNeg = n := by
  subst hx
  exact nI_clamp h
theorem pk_tn {n : Nat} (h : n < 2 ^ 32) : (nI n).toBitVec.toNat = n := Nat.mod_eq_of_lt h
theorem pk_and (x : Int32) {m : Int32} (k : Nat) (hm : m.toBitVec.toNat = 2 ^ k - 1) : x &&& m = nI (x.toBitVec.toNat % 2 ^ k) := by
  apply Int32.toBitVec_inj.mp
  apply BitVec.eq_of_toNat_eq
  rw [Int32.toBitVec_and, BitVec.toNat_and, hm, Nat.and_two_pow_sub_one_eq_mod]
  show _ = (BitVec.ofNat 32 _).toNat
  rw [BitVec.toNat_ofNat]
  exact (Nat.mod_eq_of_lt (Nat.lt_of_le_of_lt (Nat.mod_le _ _) x.toBitVec.isLt)).symm
theorem pk_andN {n : Nat} (h : n < 2 ^ 32) {m : Int32} (k : Nat) (hm : m.toBitVec.toNat = 2 ^ k - 1) : nI n &&& m = nI (n % 2 ^ k) := by
  rw [pk_and _ k hm, pk_tn h]
theorem pk_andE (x : Int32) {m : Int32} (k : Nat) (hm : m.toBitVec.toNat = 2 ^ k - 1) : ∃ j : Nat, j < 2 ^ k ∧ x &&& m = nI j := ⟨_, Nat.mod_lt _ (Nat.two_pow_pos k), pk_and x k hm⟩
theorem pk_andIn (x : Int32) {m : Int32} (k : Nat) (hm : m.toBitVec.toNat = 2 ^ k - 1) (hk : k ≤ 30) : vp_in (x &&& m) (2 ^ k) := by
  obtain ⟨j, hj, e⟩ := pk_andE x k hm
  rw [e]
  exact vp_in_nI hj (Nat.lt_of_le_of_lt (Nat.pow_le_pow_right (by decide) hk) (by decide))
theorem pk_shl (a s : Int32) (k : Nat) (hs : (s.toBitVec.smod 32).toNat = k) : (a <<< s).toBitVec.toNat = a.toBitVec.toNat * 2 ^ k % 2 ^ 32 := by
  show (a.toBitVec <<< (s.toBitVec.smod 32).toNat).toNat = _
  rw [hs, BitVec.toNat_shiftLeft, Nat.shiftLeft_eq]
theorem pk_shlN {n : Nat} (s : Int32) (k : Nat) (hs : (s.toBitVec.smod 32).toNat = k) (h : n * 2 ^ k < 2 ^ 32) : nI n <<< s = nI (n * 2 ^ k) := by
  apply Int32.toBitVec_inj.mp
  apply BitVec.eq_of_toNat_eq
  have hn : n < 2 ^ 32 := Nat.lt_of_le_of_lt (Nat.le_mul_of_pos_right n (Nat.two_pow_pos k)) h
  rw [pk_shl _ _ k hs, pk_tn hn, pk_tn h, Nat.mod_eq_of_lt h]
theorem ek_if {c d A B : Prop} (e : c ↔ d) (f : d → A) (g : ¬ d → B) : (c → A) ∧ (¬ c → B) :=
  ⟨fun z => f (e.mp z), fun z => g (fun y => z (e.mpr y))⟩
theorem ek_v {α : Sort _} {P : α → Prop} {a b : α} (e : a = b) (h : P b) : P a := e ▸ h
theorem co_dec {N : Nat} {P : Nat → Prop} [DecidablePred P] (h : (List.range N).all (fun i => decide (P i)) = true) {i : Nat} (hi : i < N) : P i := by
  have := List.all_eq_true.mp h i (List.mem_range.mpr hi)
  exact of_decide_eq_true this
theorem co_tab {α : Type} {l : List α} {d : α} {P : α → Prop} (h : ∀ a, a ∈ l → P a) {i : Nat} (hi : i < l.length) : P (l.getD i d) := by
  rw [List.getD_eq_getElem?_getD, List.getElem?_eq_getElem hi]
  exact h _ (List.getElem_mem hi)
theorem s_l : ∀ n, n < 32 → ((nI n &&& 31).toBitVec.smod 32).toNat = n := by decide +kernel
end
section
/-! ===== shapes, cells, fillings, sums: the pure pictures ===== -/
def ta_shb (K : Nat) : Bool := Nat.ble (K % 10) (K / 10 % 10) && (Nat.ble (K / 10 % 10) (K / 100) && Nat.ble (K / 100 + K / 10 % 10 + K % 10) 6)
theorem ta_and {a b : Bool} (h : (a && b) = true) : a = true ∧ b = true := by rw [Bool.and_eq_true] at h; exact h
def ta_sz (K : Nat) : Nat := K / 100 + K / 10 % 10 + K % 10
def ta_kd (K : Nat) : Nat → Nat
  | 0 => K / 100
  | 1 => K / 10 % 10
  | _ => K % 10
theorem ta_shI {K : Nat} : ta_shb K = true ↔ (K % 10 ≤ K / 10 % 10 ∧ K / 10 % 10 ≤ K / 100 ∧ K / 100 + K / 10 % 10 + K % 10 ≤ 6) := by
  unfold ta_shb
  rw [Bool.and_eq_true, Bool.and_eq_true, Nat.ble_eq, Nat.ble_eq, Nat.ble_eq]
theorem ta_600 {K : Nat} (h : ta_shb K = true) : K ≤ 600 := by
  have := ta_shI.mp h
  omega
theorem ta_sz6 {K : Nat} (h : ta_shb K = true) : ta_sz K ≤ 6 := (ta_shI.mp h).2.2
theorem ta_kd6 {K : Nat} (h : ta_shb K = true) : ∀ i, ta_kd K i ≤ 6
  | 0 => by have := ta_shI.mp h; show K / 100 ≤ 6; omega
  | 1 => by have := ta_shI.mp h; show K / 10 % 10 ≤ 6; omega
  | _ + 2 => by have := ta_shI.mp h; show K % 10 ≤ 6; omega
def ta_shl : List Nat := [600, 510, 500, 420, 411, 410, 400, 330, 321, 320, 311, 310, 300, 222, 221, 220, 211, 210, 200, 111, 110, 100, 0]
theorem ta_mem0 : ∀ K, K < 601 → (ta_shb K = true → K ∈ ta_shl) := by decide +kernel
theorem ta_mem {K : Nat} (h : ta_shb K = true) : K ∈ ta_shl := ta_mem0 K (by have := ta_600 h; omega) h
theorem ta_all {P : Nat → Bool} (h : ta_shl.all P = true) {K : Nat} (hK : ta_shb K = true) : P K = true := List.all_eq_true.mp h K (ta_mem hK)
/-! counts below a bound -/
def ta_cn (f : Nat → Bool) : Nat → Nat
  | 0 => 0
  | n + 1 => ta_cn f n + cond (f n) 1 0
theorem ta_cnC {f g : Nat → Bool} : ∀ n, (∀ m, m < n → f m = g m) → ta_cn f n = ta_cn g n
  | 0, _ => rfl
  | n + 1, h => by
    show ta_cn f n + cond (f n) 1 0 = ta_cn g n + cond (g n) 1 0
    rw [ta_cnC n (fun m hm => h m (by omega)), h n (by omega)]
theorem ta_cnA (f : Nat → Bool) (a : Nat) : ∀ k, ta_cn f (a + k) = ta_cn f a + ta_cn (fun m => f (a + m)) k
  | 0 => rfl
  | k + 1 => by
    show ta_cn f (a + k) + cond (f (a + k)) 1 0 = ta_cn f a + (ta_cn (fun m => f (a + m)) k + cond (f (a + k)) 1 0)
    rw [ta_cnA f a k, Nat.add_assoc]
theorem ta_cn0 {f : Nat → Bool} : ∀ n, (∀ m, m < n → f m = false) → ta_cn f n = 0
  | 0, _ => rfl
  | n + 1, h => by
    show ta_cn f n + cond (f n) 1 0 = 0
    rw [ta_cn0 n (fun m hm => h m (by omega)), h n (by omega)]
    rfl
/-! lists: look and set -/
def ta_g : List Nat → Nat → Nat
  | [], _ => 0
  | x :: _, 0 => x
  | _ :: l, i + 1 => ta_g l i
def ta_st : List Nat → Nat → Nat → List Nat
  | [], _, _ => []
  | _ :: l, 0, v => v :: l
  | x :: l, i + 1, v => x :: ta_st l i v
theorem ta_stL : ∀ (l : List Nat) (k v : Nat), (ta_st l k v).length = l.length
  | [], _, _ => rfl
  | _ :: _, 0, _ => rfl
  | _ :: l, k + 1, v => congrArg (· + 1) (ta_stL l k v)
theorem ta_stS : ∀ (l : List Nat) (k v : Nat), k < l.length → ta_g (ta_st l k v) k = v
  | [], _, _, h => absurd h (Nat.not_lt_zero _)
  | _ :: _, 0, _, _ => rfl
  | _ :: l, k + 1, v, h => ta_stS l k v (Nat.lt_of_succ_lt_succ h)
theorem ta_stN : ∀ (l : List Nat) (k v i : Nat), i ≠ k → ta_g (ta_st l k v) i = ta_g l i
  | [], _, _, _, _ => rfl
  | _ :: _, 0, _, 0, h => absurd rfl h
  | _ :: _, 0, _, _ + 1, _ => rfl
  | _ :: _, _ + 1, _, 0, _ => rfl
  | _ :: l, k + 1, v, i + 1, h => ta_stN l k v i (fun e => h (congrArg (· + 1) e))
theorem ta_gA : ∀ (m l : List Nat) (i : Nat), ta_g (m ++ l) (m.length + i) = ta_g l i
  | [], l, i => by show ta_g l (0 + i) = ta_g l i; rw [Nat.zero_add]
  | x :: m, l, i => by
    have e : (x :: m).length + i = (m.length + i) + 1 := by rw [List.length_cons]; omega
    rw [e]
    exact ta_gA m l i
theorem ta_gB : ∀ (m l : List Nat) (i : Nat), i < m.length → ta_g (m ++ l) i = ta_g m i
  | [], _, _, h => absurd h (Nat.not_lt_zero _)
  | _ :: _, _, 0, _ => rfl
  | _ :: m, l, i + 1, h => ta_gB m l i (Nat.lt_of_succ_lt_succ h)
theorem ta_gR : ∀ (c i : Nat), ta_g (List.replicate c 0) i = 0
  | 0, _ => rfl
  | _ + 1, 0 => rfl
  | c + 1, i + 1 => ta_gR c i
/-! digits and the tree of fillings -/
def ta_lv (b : Nat) (q : List Nat → Bool) : Nat → List Nat → List (List Nat)
  | 0, l => [l]
  | c + 1, l => (List.range b).flatMap fun d => cond (q ((d + 1) :: l)) (ta_lv b q c ((d + 1) :: l)) []
def ta_dl (b : Nat) : Nat → Nat → List Nat
  | 0, _ => []
  | c + 1, n => (n % b + 1) :: ta_dl b c (n / b)
theorem ta_dlL (b : Nat) : ∀ c n, (ta_dl b c n).length = c
  | 0, _ => rfl
  | c + 1, n => congrArg (· + 1) (ta_dlL b c (n / b))
theorem ta_dlG (b : Nat) : ∀ c n i, i < c → ta_g (ta_dl b c n) i = n / b ^ i % b + 1
  | 0, _, _, h => absurd h (Nat.not_lt_zero _)
  | c + 1, n, 0, _ => by show n % b + 1 = n / b ^ 0 % b + 1; rw [Nat.pow_zero, Nat.div_one]
  | c + 1, n, i + 1, h => by
    show ta_g (ta_dl b c (n / b)) i = _
    rw [ta_dlG b c (n / b) i (by omega), Nat.div_div_eq_div_mul, Nat.pow_succ, Nat.mul_comm b (b ^ i)]
theorem ta_dlS {b : Nat} (hb : 0 < b) : ∀ c d m, d < b → m < b ^ c → ta_dl b (c + 1) (d * b ^ c + m) = ta_dl b c m ++ [d + 1]
  | 0, d, m, hd, hm => by
    have e : m = 0 := by rw [Nat.pow_zero] at hm; omega
    subst e
    have e2 : d * b ^ 0 + 0 = d := by rw [Nat.pow_zero]; omega
    show [(d * b ^ 0 + 0) % b + 1] = [d + 1]
    rw [e2, Nat.mod_eq_of_lt hd]
  | c + 1, d, m, hd, hm => by
    have e1 : (d * b ^ (c + 1) + m) % b = m % b := by
      rw [Nat.pow_succ, ← Nat.mul_assoc, Nat.add_comm, Nat.add_mul_mod_self_right]
    have e2 : (d * b ^ (c + 1) + m) / b = d * b ^ c + m / b := by
      rw [Nat.pow_succ, ← Nat.mul_assoc, Nat.add_comm, Nat.add_mul_div_right _ _ hb, Nat.add_comm]
    have e3 : m / b < b ^ c := by
      rw [Nat.div_lt_iff_lt_mul hb, ← Nat.pow_succ]; exact hm
    show ((d * b ^ (c + 1) + m) % b + 1) :: ta_dl b (c + 1) ((d * b ^ (c + 1) + m) / b) = ((m % b + 1) :: ta_dl b c (m / b)) ++ [d + 1]
    rw [e1, e2, ta_dlS hb c d (m / b) hd e3]
    rfl
theorem ta_tree {b N : Nat} (hb : 0 < b) {p q : List Nat → Bool} (hm : ∀ m l, (m ++ l).length = N → p (m ++ l) = true → q l = true) : ∀ c l, c + l.length = N → ta_cn (fun n => p (ta_dl b c n ++ l)) (b ^ c) = List.countP p (ta_lv b q c l)
  | 0, l, _ => by
    show 0 + cond (p ([] ++ l)) 1 0 = List.countP p [l]
    rw [List.countP_singleton, List.nil_append]
    cases p l <;> rfl
  | c + 1, l, hN => by
    have key : ∀ e, e ≤ b → ta_cn (fun n => p (ta_dl b (c + 1) n ++ l)) (e * b ^ c) = List.countP p ((List.range e).flatMap fun d => cond (q ((d + 1) :: l)) (ta_lv b q c ((d + 1) :: l)) []) := by
      intro e
      induction e with
      | zero => intro _; rw [Nat.zero_mul]; rfl
      | succ e ih =>
        intro he
        have es : (e + 1) * b ^ c = e * b ^ c + b ^ c := by rw [Nat.add_mul, Nat.one_mul]
        have ec : ta_cn (fun m => p (ta_dl b (c + 1) (e * b ^ c + m) ++ l)) (b ^ c) = ta_cn (fun m => p (ta_dl b c m ++ ((e + 1) :: l))) (b ^ c) := by
          apply ta_cnC
          intro m hm'
          show p (ta_dl b (c + 1) (e * b ^ c + m) ++ l) = p (ta_dl b c m ++ ((e + 1) :: l))
          rw [ta_dlS hb c e m (by omega) hm', List.append_assoc]
          rfl
        have ef : ta_cn (fun m => p (ta_dl b c m ++ ((e + 1) :: l))) (b ^ c) = List.countP p (cond (q ((e + 1) :: l)) (ta_lv b q c ((e + 1) :: l)) []) := by
          cases hq : q ((e + 1) :: l) with
          | true => exact ta_tree hb hm c ((e + 1) :: l) (by rw [List.length_cons]; omega)
          | false =>
            apply ta_cn0
            intro m _
            cases hp : p (ta_dl b c m ++ ((e + 1) :: l)) with
            | false => rfl
            | true =>
              have := hm _ _ (by rw [List.length_append, ta_dlL, List.length_cons]; omega) hp
              rw [hq] at this
              exact this.symm
        rw [es, ta_cnA, ih (by omega), List.range_succ, List.flatMap_append, List.countP_append, List.flatMap_singleton, ec, ef]
    have := key b (Nat.le_refl b)
    rw [Nat.pow_succ, Nat.mul_comm]
    exact this
/-! the order of a filling -/
def ta_ok (ris : Bool) (ca cb ga gb : Nat) : Bool := cond (Nat.beq cb (ca + 1)) (cond ris (Nat.blt ga gb) (Nat.ble ga gb)) (cond (Nat.beq cb (ca + 10)) (Nat.blt ga gb) true)
def ta_q (L : List Nat) (ris : Bool) (l : List Nat) : Bool :=
  (List.range l.length).all fun a => (List.range l.length).all fun b => ta_ok ris (ta_g L (L.length - l.length + a)) (ta_g L (L.length - l.length + b)) (ta_g l a) (ta_g l b)
theorem ta_qI {L : List Nat} {ris : Bool} {l : List Nat} : ta_q L ris l = true ↔ ∀ a, a < l.length → ∀ b, b < l.length → ta_ok ris (ta_g L (L.length - l.length + a)) (ta_g L (L.length - l.length + b)) (ta_g l a) (ta_g l b) = true := by
  unfold ta_q
  simp only [List.all_eq_true, List.mem_range]
theorem ta_qM {L : List Nat} {ris : Bool} (m l : List Nat) (h : (m ++ l).length = L.length) (hq : ta_q L ris (m ++ l) = true) : ta_q L ris l = true := by
  rw [ta_qI] at hq ⊢
  intro a ha b hb
  rw [List.length_append] at h
  have := hq (m.length + a) (by rw [List.length_append]; omega) (m.length + b) (by rw [List.length_append]; omega)
  rw [ta_gA, ta_gA] at this
  have e1 : L.length - (m ++ l).length + (m.length + a) = L.length - l.length + a := by rw [List.length_append]; omega
  have e2 : L.length - (m ++ l).length + (m.length + b) = L.length - l.length + b := by rw [List.length_append]; omega
  rw [e1, e2] at this
  exact this
/-! cells of a shape, row by row; the contents of its fillings -/
def ta_rowc (i : Nat) : Nat → List Nat
  | 0 => []
  | m + 1 => ta_rowc i m ++ [10 * i + m]
theorem ta_rowL (i : Nat) : ∀ m, (ta_rowc i m).length = m
  | 0 => rfl
  | m + 1 => by show (ta_rowc i m ++ [10 * i + m]).length = m + 1; rw [List.length_append, ta_rowL i m]; rfl
def ta_cl (K : Nat) : List Nat := ta_rowc 0 (K / 100) ++ ta_rowc 1 (K / 10 % 10) ++ ta_rowc 2 (K % 10)
theorem ta_clL (K : Nat) : (ta_cl K).length = ta_sz K := by
  unfold ta_cl ta_sz
  rw [List.length_append, List.length_append, ta_rowL, ta_rowL, ta_rowL]
def ta_ct (l : List Nat) : Nat := 49 * l.count 1 + 7 * l.count 2 + l.count 3
def ta_F (K : Nat) : List Nat := ((ta_lv 3 (ta_q (ta_cl K) false) (ta_sz K) []).filter (ta_q (ta_cl K) false)).map ta_ct
theorem ta_sec (K i : Nat) : ta_cn (fun n => ta_q (ta_cl K) false (ta_dl 3 (ta_sz K) n) && Nat.beq (ta_ct (ta_dl 3 (ta_sz K) n)) i) (3 ^ ta_sz K) = (ta_F K).count i := by
  have h := ta_tree (b := 3) (N := ta_sz K) (by decide) (p := fun l => ta_q (ta_cl K) false l && Nat.beq (ta_ct l) i) (q := ta_q (ta_cl K) false)
    (fun m l e hp => ta_qM m l (by rw [ta_clL]; exact e) (ta_and hp).1) (ta_sz K) [] rfl
  have e : ta_cn (fun n => ta_q (ta_cl K) false (ta_dl 3 (ta_sz K) n) && Nat.beq (ta_ct (ta_dl 3 (ta_sz K) n)) i) (3 ^ ta_sz K) = ta_cn (fun n => (fun l => ta_q (ta_cl K) false l && Nat.beq (ta_ct l) i) (ta_dl 3 (ta_sz K) n ++ [])) (3 ^ ta_sz K) := by
    apply ta_cnC
    intro m _
    show _ = (ta_q (ta_cl K) false (ta_dl 3 (ta_sz K) m ++ []) && Nat.beq (ta_ct (ta_dl 3 (ta_sz K) m ++ [])) i)
    rw [List.append_nil]
  rw [e, h]
  unfold ta_F
  rw [List.count_eq_countP, List.countP_map, List.countP_filter]
  apply List.countP_congr
  intro x _
  show (ta_q (ta_cl K) false x && Nat.beq (ta_ct x) i) = true ↔ ((ta_ct x == i) && ta_q (ta_cl K) false x) = true
  rw [Bool.and_eq_true, Bool.and_eq_true, Nat.beq_eq, beq_iff_eq]
  exact ⟨fun z => ⟨z.2, z.1⟩, fun z => ⟨z.2, z.1⟩⟩
/-! sums below a bound -/
def ta_sm (f : Nat → Nat) : Nat → Nat
  | 0 => 0
  | n + 1 => ta_sm f n + f n
theorem ta_smC {f g : Nat → Nat} : ∀ n, (∀ m, m < n → f m = g m) → ta_sm f n = ta_sm g n
  | 0, _ => rfl
  | n + 1, h => by
    show ta_sm f n + f n = ta_sm g n + g n
    rw [ta_smC n (fun m hm => h m (by omega)), h n (by omega)]
theorem ta_smA (f g : Nat → Nat) : ∀ n, ta_sm (fun i => f i + g i) n = ta_sm f n + ta_sm g n
  | 0 => rfl
  | n + 1 => by
    show ta_sm (fun i => f i + g i) n + (f n + g n) = ta_sm f n + f n + (ta_sm g n + g n)
    rw [ta_smA f g n]; omega
theorem ta_sm0 {f : Nat → Nat} : ∀ n, (∀ m, m < n → f m = 0) → ta_sm f n = 0
  | 0, _ => rfl
  | n + 1, h => by
    show ta_sm f n + f n = 0
    rw [ta_sm0 n (fun m hm => h m (by omega)), h n (by omega)]
theorem ta_sm1 (a : Nat) (h : Nat → Nat) : ∀ n, a < n → ta_sm (fun i => if a = i then h i else 0) n = h a
  | 0, ha => absurd ha (Nat.not_lt_zero _)
  | n + 1, ha => by
    show ta_sm (fun i => if a = i then h i else 0) n + (if a = n then h n else 0) = h a
    by_cases e : a = n
    · subst e
      rw [if_pos rfl, ta_sm0 a (fun m hm => if_neg (by omega)), Nat.zero_add]
    · rw [if_neg e, ta_sm1 a h n (by omega), Nat.add_zero]
theorem ta_smc (h : Nat → Nat) (N : Nat) : ∀ F : List Nat, (∀ x, x ∈ F → x < N) → ta_sm (fun i => F.count i * h i) N = (F.map h).sum
  | [], _ => by
    apply ta_sm0
    intro m _
    show List.count m [] * h m = 0
    rw [List.count_nil, Nat.zero_mul]
  | a :: F, hF => by
    have ih := ta_smc h N F (fun x hx => hF x (List.mem_cons_of_mem _ hx))
    have e : ta_sm (fun i => (a :: F).count i * h i) N = ta_sm (fun i => F.count i * h i + (if a = i then h i else 0)) N := by
      apply ta_smC
      intro m _
      show List.count m (a :: F) * h m = List.count m F * h m + (if a = m then h m else 0)
      rw [List.count_cons]
      by_cases e : a = m
      · subst e
        rw [if_pos rfl, if_pos (beq_self_eq_true a), Nat.add_mul, Nat.one_mul]
      · rw [if_neg e, if_neg (by rw [beq_iff_eq]; exact e), Nat.add_zero, Nat.add_zero]
    rw [e, ta_smA (fun i => F.count i * h i) (fun i => if a = i then h i else 0), ih, ta_sm1 a h N (hF a (List.mem_cons_self ..)), List.map_cons, List.sum_cons, Nat.add_comm]
/-! products: the list of the sums -/
def ta_pr (F G : List Nat) : List Nat := F.flatMap fun i => G.map fun j => i + j
theorem ta_cm (i k : Nat) : ∀ G : List Nat, (G.map fun j => i + j).count k = (G.map fun j => if i + j = k then 1 else 0).sum
  | [] => rfl
  | a :: G => by
    rw [List.map_cons, List.count_cons, ta_cm i k G, List.map_cons, List.sum_cons, Nat.add_comm]
    by_cases e : i + a = k
    · rw [if_pos e, if_pos (by rw [beq_iff_eq]; exact e)]
    · rw [if_neg e, if_neg (by rw [beq_iff_eq]; exact e)]
theorem ta_prC (F G : List Nat) (k : Nat) (hF : ∀ x, x ∈ F → x < 343) (hG : ∀ x, x ∈ G → x < 343) : ta_sm (fun i => ta_sm (fun j => if i + j = k then F.count i * G.count j else 0) 343) 343 = (ta_pr F G).count k := by
  have e : ta_sm (fun i => ta_sm (fun j => if i + j = k then F.count i * G.count j else 0) 343) 343 = ta_sm (fun i => F.count i * (G.map fun j => i + j).count k) 343 := by
    apply ta_smC
    intro i _
    show ta_sm (fun j => if i + j = k then F.count i * G.count j else 0) 343 = F.count i * (G.map fun j => i + j).count k
    have e2 : ∀ (c n : Nat), ta_sm (fun j => if i + j = k then c * G.count j else 0) n = c * ta_sm (fun j => G.count j * (if i + j = k then 1 else 0)) n := by
      intro c n
      induction n with
      | zero => rfl
      | succ n ih =>
        show ta_sm (fun j => if i + j = k then c * G.count j else 0) n + (if i + n = k then c * G.count n else 0) = c * (ta_sm (fun j => G.count j * (if i + j = k then 1 else 0)) n + G.count n * (if i + n = k then 1 else 0))
        rw [ih, Nat.mul_add]
        by_cases z : i + n = k
        · rw [if_pos z, if_pos z, Nat.mul_one]
        · rw [if_neg z, if_neg z, Nat.mul_zero, Nat.mul_zero]
    rw [e2, ta_smc (fun j => if i + j = k then 1 else 0) 343 G hG, ta_cm]
  rw [e, ta_smc (fun i => (G.map fun j => i + j).count k) 343 F hF]
  unfold ta_pr
  rw [List.count_flatMap]
  rfl
theorem ta_len (F : List Nat) (hF : ∀ x, x ∈ F → x < 343) : ta_sm (fun i => F.count i) 343 = F.length := by
  have e : ta_sm (fun i => F.count i) 343 = ta_sm (fun i => F.count i * 1) 343 := ta_smC _ (fun m _ => (Nat.mul_one _).symm)
  rw [e, ta_smc (fun _ => 1) 343 F hF]
  clear e hF
  induction F with
  | nil => rfl
  | cons a F ih => rw [List.map_cons, List.sum_cons, ih, List.length_cons, Nat.add_comm]
theorem ta_crep (k : Nat) (t : List Nat) : ∀ m, ((List.replicate m t).flatten).count k = m * t.count k
  | 0 => by rw [Nat.zero_mul]; rfl
  | m + 1 => by rw [List.replicate_succ, List.flatten_cons, List.count_append, ta_crep k t m, Nat.add_mul, Nat.one_mul, Nat.add_comm]
end
section
/-! ===== tables, the search as a machine, and what the kernel checks of them ===== -/
def ta_tab (K : Nat) : List Nat :=
  cond (Nat.beq K 600) [294, 252, 210, 168, 126, 84, 42, 246, 204, 162, 120, 78, 36, 198, 156, 114, 72, 30, 150, 108, 66, 24, 102, 60, 18, 54, 12, 6]
  (cond (Nat.beq K 510) [252, 210, 168, 126, 84, 204, 162, 120, 78, 156, 114, 72, 108, 66, 60, 246, 204, 162, 120, 78, 36, 198, 156, 114, 72, 30, 150, 108, 66, 24, 102, 60, 18, 54, 12]
  (cond (Nat.beq K 500) [245, 203, 161, 119, 77, 35, 197, 155, 113, 71, 29, 149, 107, 65, 23, 101, 59, 17, 53, 11, 5]
  (cond (Nat.beq K 420) [210, 168, 126, 162, 120, 114, 204, 162, 120, 78, 156, 114, 72, 108, 66, 198, 156, 114, 72, 30, 150, 108, 66, 24, 102, 60, 18]
  (cond (Nat.beq K 411) [204, 162, 120, 78, 156, 114, 72, 108, 66, 60]
  (cond (Nat.beq K 410) [203, 161, 119, 77, 155, 113, 71, 107, 65, 59, 197, 155, 113, 71, 29, 149, 107, 65, 23, 101, 59, 17, 53, 11]
  (cond (Nat.beq K 400) [196, 154, 112, 70, 28, 148, 106, 64, 22, 100, 58, 16, 52, 10, 4]
  (cond (Nat.beq K 330) [168, 162, 120, 156, 114, 72, 150, 108, 66, 24]
  (cond (Nat.beq K 321) [162, 120, 114, 156, 114, 72, 108, 66]
  (cond (Nat.beq K 320) [161, 119, 113, 155, 113, 71, 107, 65, 149, 107, 65, 23, 101, 59, 17]
  (cond (Nat.beq K 311) [155, 113, 71, 107, 65, 59]
  (cond (Nat.beq K 310) [154, 112, 70, 106, 64, 58, 148, 106, 64, 22, 100, 58, 16, 52, 10]
  (cond (Nat.beq K 300) [147, 105, 63, 21, 99, 57, 15, 51, 9, 3]
  (cond (Nat.beq K 222) [114]
  (cond (Nat.beq K 221) [113, 107, 65]
  (cond (Nat.beq K 220) [112, 106, 64, 100, 58, 16]
  (cond (Nat.beq K 211) [106, 64, 58]
  (cond (Nat.beq K 210) [105, 63, 57, 99, 57, 15, 51, 9]
  (cond (Nat.beq K 200) [98, 56, 14, 50, 8, 2]
  (cond (Nat.beq K 111) [57]
  (cond (Nat.beq K 110) [56, 50, 8]
  (cond (Nat.beq K 100) [49, 7, 1]
  (cond (Nat.beq K 0) [0]
  ([])))))))))))))))))))))))
theorem ta_tabF0 : ta_shl.all (fun K => ta_F K == ta_tab K) = true := by decide +kernel
theorem ta_tabF {K : Nat} (h : ta_shb K = true) : ta_F K = ta_tab K := eq_of_beq (ta_all ta_tabF0 h)
theorem ta_tabB0 : ta_shl.all (fun K => (ta_tab K).all fun x => Nat.ble x (49 * ta_sz K)) = true := by decide +kernel
theorem ta_tabB {K : Nat} (h : ta_shb K = true) {x : Nat} (hx : x ∈ ta_tab K) : x ≤ 49 * ta_sz K := by
  have := List.all_eq_true.mp (ta_all ta_tabB0 h) x hx
  rw [Nat.ble_eq] at this
  exact this
theorem ta_tab343 {K : Nat} (h : ta_shb K = true) {x : Nat} (hx : x ∈ ta_tab K) : x < 343 := by
  have := ta_tabB h hx
  have := ta_sz6 h
  omega
theorem ta_tabL0 : ta_shl.all (fun K => Nat.ble (ta_tab K).length 100) = true := by decide +kernel
theorem ta_tabL {K : Nat} (h : ta_shb K = true) : (ta_tab K).length ≤ 100 := by
  have := ta_all ta_tabL0 h
  rw [Nat.ble_eq] at this
  exact this
/-! the component's search -/
def tc_row (i k : Nat) : Nat → List Nat
  | 0 => []
  | m + 1 => cond (Nat.ble k m) ((10 * i + m) :: tc_row i k m) []
def tc_cl (K S : Nat) : List Nat := tc_row 0 (K / 100) (S / 100) ++ tc_row 1 (K / 10 % 10) (S / 10 % 10) ++ tc_row 2 (K % 10) (S % 10)
def tc_fk (L N : List Nat) (a x k : Nat) : Bool := cond (Nat.beq (ta_g L k) (ta_g L a + 1)) (Nat.ble x (ta_g N k)) true && cond (Nat.beq (ta_g L k + 10) (ta_g L a)) (Nat.blt (ta_g N k) x) true
def tc_fit (L N : List Nat) (a x : Nat) : Bool := (List.range a).all (tc_fk L N a x)
def tc_en (T : List Nat) (B x : Nat) : Bool := Nat.blt (ta_g T x) (ta_kd B (x - 1)) && (Nat.beq x 1 || Nat.blt (ta_g T x) (ta_g T (x - 1)))
def tc_nx (L N T : List Nat) (B a : Nat) : Nat → Nat → Nat
  | 0, _ => 0
  | d + 1, x => cond (tc_en T B x && tc_fit L N a x) x (tc_nx L N T B a d (x + 1))
def tc_T1 (N T : List Nat) (a : Nat) : List Nat := cond (Nat.beq (ta_g N a) 0) T (ta_st T (ta_g N a) (ta_g T (ta_g N a) - 1))
def tc_w (L N T : List Nat) (B a : Nat) : Nat := tc_nx L N (tc_T1 N T a) B a (3 - ta_g N a) (ta_g N a + 1)
def tc_bad (L N T : List Nat) (a : Nat) : Bool := Nat.ble L.length a || (Nat.blt 3 (ta_g N a) || (Nat.blt 0 (ta_g N a) && Nat.beq (ta_g T (ta_g N a)) 0))
def tc_run (L : List Nat) (B : Nat) : Nat → Nat → Nat → List Nat → List Nat → Option Nat
  | 0, _, _, _, _ => none
  | k + 1, f, a1, N, T => match a1 with
    | 0 => some f
    | a + 1 => cond (Nat.beq a L.length) (tc_run L B k (f + 1) a N T) (cond (tc_bad L N T a) none (cond (Nat.beq (tc_w L N T B a) 0) (tc_run L B k f a (ta_st N a 0) (tc_T1 N T a)) (tc_run L B k f (a + 2) (ta_st N a (tc_w L N T B a)) (ta_st (tc_T1 N T a) (tc_w L N T B a) (ta_g (tc_T1 N T a) (tc_w L N T B a) + 1)))))
def tc_in (K B S : Nat) : Bool := Nat.ble (K / 100) (S / 100) && (Nat.ble (K / 10 % 10) (S / 10 % 10) && (Nat.ble (K % 10) (S % 10) && Nat.beq (ta_sz S) (ta_sz K + ta_sz B)))
def tc_cf (K B S : Nat) : Option Nat := cond (tc_in K B S) (tc_run (tc_cl K S) B 20 0 1 (List.replicate (tc_cl K S).length 0) [0, 0, 0, 0]) (some 0)
def ta_c (K B S : Nat) : Nat := (tc_cf K B S).getD 0
/-! pairs of shapes -/
def td_pr (P : Nat → Nat → Bool) : Bool := ta_shl.all fun K => ta_shl.all fun B => cond (Nat.ble (ta_sz K + ta_sz B) 6) (P K B) true
theorem td_prE {P : Nat → Nat → Bool} (h : td_pr P = true) {K B : Nat} (hK : ta_shb K = true) (hB : ta_shb B = true) (hs : ta_sz K + ta_sz B ≤ 6) : P K B = true := by
  have h1 := ta_all (ta_all h hK) hB
  have h2 : Nat.ble (ta_sz K + ta_sz B) 6 = true := by rw [Nat.ble_eq]; exact hs
  try dsimp only at h1
  rw [h2] at h1
  exact h1
theorem td_some0 : td_pr (fun K B => ta_shl.all fun S => (tc_cf K B S).isSome) = true := by decide +kernel
theorem td_cfE {K B S : Nat} (hK : ta_shb K = true) (hB : ta_shb B = true) (hs : ta_sz K + ta_sz B ≤ 6) (hS : ta_shb S = true) : tc_cf K B S = some (ta_c K B S) := by
  have h := ta_all (td_prE td_some0 hK hB hs) hS
  unfold ta_c
  cases e : tc_cf K B S with
  | none => rw [e] at h; exact absurd h (by decide)
  | some r => rfl
theorem td_cB0 : td_pr (fun K B => ta_shl.all fun S => Nat.ble (ta_c K B S) 100) = true := by decide +kernel
theorem td_cB {K B S : Nat} (hK : ta_shb K = true) (hB : ta_shb B = true) (hs : ta_sz K + ta_sz B ≤ 6) (hS : ta_shb S = true) : ta_c K B S ≤ 100 := by
  have h := ta_all (td_prE td_cB0 hK hB hs) hS
  rw [Nat.ble_eq] at h
  exact h
theorem td_cl60 : ta_shl.all (fun K => ta_shl.all fun S => Nat.ble (tc_cl K S).length 6 && (tc_cl K S).all fun x => Nat.ble x 29 && Nat.ble (x % 10) 5) = true := by decide +kernel
theorem ta_gAll {P : Nat → Bool} (h0 : P 0 = true) : ∀ l : List Nat, l.all P = true → ∀ i, P (ta_g l i) = true
  | [], _, _ => h0
  | x :: l, h, 0 => by rw [List.all_cons] at h; exact (ta_and h).1
  | x :: l, h, i + 1 => by rw [List.all_cons] at h; exact ta_gAll h0 l (ta_and h).2 i
theorem td_cl6 {K S : Nat} (hK : ta_shb K = true) (hS : ta_shb S = true) : (tc_cl K S).length ≤ 6 ∧ ∀ i, ta_g (tc_cl K S) i ≤ 29 ∧ ta_g (tc_cl K S) i % 10 ≤ 5 := by
  have h := ta_and (ta_all (ta_all td_cl60 hK) hS)
  rw [Nat.ble_eq] at h
  refine ⟨h.1, fun i => ?_⟩
  have h2 := ta_and (ta_gAll (P := fun x => Nat.ble x 29 && Nat.ble (x % 10) 5) rfl _ h.2 i)
  rw [Nat.ble_eq, Nat.ble_eq] at h2
  exact h2
/-! taking off -/
def td_bl (n : Nat) : Nat → List Nat
  | 0 => []
  | t + 1 => cond (ta_shb t && Nat.beq (ta_sz t) n) (t :: td_bl n t) (td_bl n t)
def td_ls (n : Nat) : List Nat := ta_shl.filter fun s => Nat.beq (ta_sz s) n
theorem td_blE : ∀ n, n < 7 → td_bl n 601 = td_ls n := by decide +kernel
def td_al : Nat → List Nat
  | 0 => []
  | t + 1 => cond (ta_shb t) (t :: td_al t) (td_al t)
theorem td_alE : td_al 601 = ta_shl := by decide +kernel
def td_cp (K B s : Nat) : List Nat := (List.replicate (ta_c K B s) (ta_tab s)).flatten
def td_rs (K B : Nat) (l : List Nat) : List Nat := l.flatMap (td_cp K B)
def td_at (s : Nat) : Nat := 49 * (s / 100) + 7 * (s / 10 % 10) + s % 10
def td_ck (K B : Nat) : List Nat → Bool
  | [] => true
  | s :: l => Nat.beq ((td_rs K B (s :: l)).count (td_at s)) (ta_c K B s) && td_ck K B l
def td_an (K B q : Nat) : List Nat → Nat → Nat
  | [], m => cond (Nat.beq q 1000) m 0
  | s :: l, m => cond (Nat.blt 0 (ta_c K B s) && Nat.beq q 1001) s (cond (Nat.beq s q) (ta_c K B s) (td_an K B q l (m + ta_c K B s)))
theorem td_A0 : td_pr (fun K B => (ta_pr (ta_tab K) (ta_tab B)).isPerm (td_rs K B (td_ls (ta_sz K + ta_sz B)))) = true := by decide +kernel
theorem td_A {K B : Nat} (hK : ta_shb K = true) (hB : ta_shb B = true) (hs : ta_sz K + ta_sz B ≤ 6) (k : Nat) : (ta_pr (ta_tab K) (ta_tab B)).count k = (td_rs K B (td_bl (ta_sz K + ta_sz B) 601)).count k := by
  rw [td_blE _ (by omega)]
  exact (List.isPerm_iff.mp (td_prE td_A0 hK hB hs)).count_eq k
theorem td_B0 : td_pr (fun K B => td_ck K B (td_ls (ta_sz K + ta_sz B))) = true := by decide +kernel
theorem td_B {K B : Nat} (hK : ta_shb K = true) (hB : ta_shb B = true) (hs : ta_sz K + ta_sz B ≤ 6) : td_ck K B (td_bl (ta_sz K + ta_sz B) 601) = true := by
  rw [td_blE _ (by omega)]
  exact td_prE td_B0 hK hB hs
theorem td_an0 : td_pr (fun K B => ta_shl.all fun S => Nat.beq (td_an K B S (td_ls (ta_sz K + ta_sz B)) 0) (ta_c K B S)) = true := by decide +kernel
theorem td_an1 : td_pr (fun K B => Nat.beq (td_an K B 1000 (td_ls (ta_sz K + ta_sz B)) 0) ((ta_shl.map (ta_c K B)).sum)) = true := by decide +kernel
theorem td_an2 : td_pr (fun K B => Nat.beq (td_an K B 1001 (td_ls (ta_sz K + ta_sz B)) 0) (K + B)) = true := by decide +kernel
theorem td_anS {K B S : Nat} (hK : ta_shb K = true) (hB : ta_shb B = true) (hs : ta_sz K + ta_sz B ≤ 6) (hS : ta_shb S = true) : td_an K B S (td_bl (ta_sz K + ta_sz B) 601) 0 = ta_c K B S := by
  have h := ta_all (td_prE td_an0 hK hB hs) hS
  rw [Nat.beq_eq] at h
  rw [td_blE _ (by omega)]
  exact h
theorem td_anP {K B : Nat} (hK : ta_shb K = true) (hB : ta_shb B = true) (hs : ta_sz K + ta_sz B ≤ 6) : td_an K B 1000 (td_bl (ta_sz K + ta_sz B) 601) 0 = ((td_al 601).map (ta_c K B)).sum := by
  have h := td_prE td_an1 hK hB hs
  rw [Nat.beq_eq] at h
  rw [td_blE _ (by omega), td_alE]
  exact h
theorem td_anG {K B : Nat} (hK : ta_shb K = true) (hB : ta_shb B = true) (hs : ta_sz K + ta_sz B ≤ 6) : td_an K B 1001 (td_bl (ta_sz K + ta_sz B) 601) 0 = K + B := by
  have h := td_prE td_an2 hK hB hs
  rw [Nat.beq_eq] at h
  rw [td_blE _ (by omega)]
  exact h
/-! fillings, contents, orders -/
theorem te_fil0 : ta_shl.all (fun K => Nat.beq ((K / 100 - K / 10 % 10 + 1) * (K / 10 % 10 - K % 10 + 1) * (K / 100 - K % 10 + 2) / 2) (ta_tab K).length) = true := by decide +kernel
theorem te_fil {K : Nat} (h : ta_shb K = true) : (K / 100 - K / 10 % 10 + 1) * (K / 10 % 10 - K % 10 + 1) * (K / 100 - K % 10 + 2) / 2 = (ta_tab K).length := by
  have := ta_all te_fil0 h
  rw [Nat.beq_eq] at this
  exact this
def te_wt (K c1 c2 u : Nat) : Bool := Nat.ble (K % 10 + u) (c1 + c2) && (Nat.ble (c1 + c2) (K / 10 % 10 + u) && (Nat.ble c2 u && Nat.ble c1 u))
def te_wc (K c1 c2 : Nat) : Nat → Nat → Nat
  | 0, _ => 0
  | d + 1, u => cond (te_wt K c1 c2 u) 1 0 + te_wc K c1 c2 d (u + 1)
def te_wv (K a b c : Nat) : Nat := cond (Nat.beq (a + b + c) (ta_sz K)) (te_wc K a b (K / 100 + 1 - K / 10 % 10) (K / 10 % 10)) 0
theorem te_wc0 : ta_shl.all (fun K => (List.range 7).all fun a => (List.range 7).all fun b => (List.range 7).all fun c => Nat.beq (te_wv K a b c) ((ta_tab K).count (49 * a + 7 * b + c))) = true := by decide +kernel
theorem te_wcE {K a b c : Nat} (h : ta_shb K = true) (ha : a < 7) (hb : b < 7) (hc : c < 7) : te_wv K a b c = (ta_tab K).count (49 * a + 7 * b + c) := by
  have h1 := List.all_eq_true.mp (List.all_eq_true.mp (List.all_eq_true.mp (ta_all te_wc0 h) a (List.mem_range.mpr ha)) b (List.mem_range.mpr hb)) c (List.mem_range.mpr hc)
  rw [Nat.beq_eq] at h1
  exact h1
def te_hs (K j : Nat) : Nat → Nat → Nat
  | 0, _ => 0
  | d + 1, k => cond (Nat.blt j (ta_kd K k)) 1 0 + te_hs K j d (k + 1)
def te_hk (K i j : Nat) : Nat := ta_kd K i - j + te_hs K j (2 - i) (i + 1)
def te_in (K i : Nat) : Nat → Nat → Nat → Nat → Nat → Nat × Nat × Nat
  | 0, _, n, a, h => (n, a, h)
  | d + 1, j, n, a, h => te_in K i d (j + 1) (n + 1) (a * (n + 1)) (h * te_hk K i j)
def te_o0 (K : Nat) : Nat × Nat × Nat := te_in K 0 (ta_kd K 0) 0 0 1 1
def te_o1 (K : Nat) : Nat × Nat × Nat := te_in K 1 (ta_kd K 1) 0 (te_o0 K).1 (te_o0 K).2.1 (te_o0 K).2.2
def te_o2 (K : Nat) : Nat × Nat × Nat := te_in K 2 (ta_kd K 2) 0 (te_o1 K).1 (te_o1 K).2.1 (te_o1 K).2.2
def te_mk (g : List Nat) : Nat → Nat
  | 0 => 0
  | i + 1 => te_mk g i ||| 2 ^ (ta_g g i)
def te_df (c : Nat) (g : List Nat) : Bool := Nat.beq (te_mk g c) (2 * 2 ^ c - 2)
def te_op (K : Nat) (l : List Nat) : Bool := te_df (ta_sz K) l && ta_q (ta_cl K) true l
def te_oy (K : Nat) : Nat := List.countP (te_op K) (ta_lv (ta_sz K) (ta_q (ta_cl K) true) (ta_sz K) [])
theorem te_or0 : ta_shl.all (fun K => Nat.beq ((te_o2 K).2.1 / (te_o2 K).2.2) (te_oy K) && (Nat.blt 0 (te_o2 K).2.2 && (Nat.ble (te_o2 K).2.1 1000000 && Nat.ble (te_o2 K).2.2 1000000))) = true := by decide +kernel
theorem te_orE {K : Nat} (h : ta_shb K = true) : (te_o2 K).2.1 / (te_o2 K).2.2 = te_oy K ∧ 0 < (te_o2 K).2.2 ∧ (te_o2 K).2.1 ≤ 1000000 ∧ (te_o2 K).2.2 ≤ 1000000 := by
  have := ta_all te_or0 h
  rw [Bool.and_eq_true, Bool.and_eq_true, Bool.and_eq_true, Nat.beq_eq, Nat.blt_eq, Nat.ble_eq, Nat.ble_eq] at this
  exact this
theorem te_oyE (K : Nat) : ta_cn (fun n => te_op K (ta_dl (ta_sz K) (ta_sz K) n)) (ta_sz K ^ ta_sz K) = te_oy K := by
  have e : ta_cn (fun n => te_op K (ta_dl (ta_sz K) (ta_sz K) n)) (ta_sz K ^ ta_sz K) = ta_cn (fun n => te_op K (ta_dl (ta_sz K) (ta_sz K) n ++ [])) (ta_sz K ^ ta_sz K) :=
    ta_cnC _ (fun m _ => by rw [List.append_nil])
  rw [e]
  unfold te_oy
  have hc := ta_clL K
  rcases Nat.eq_zero_or_pos (ta_sz K) with z | z
  · rw [z]
    show 0 + cond (te_op K ([] ++ [])) 1 0 = List.countP (te_op K) [[]]
    rw [List.countP_singleton, List.nil_append]
    cases te_op K [] <;> rfl
  · exact ta_tree (N := ta_sz K) z (fun m l em hp => ta_qM m l (by rw [hc]; exact em) (ta_and hp).2) (ta_sz K) [] rfl
end
section
/-! ===== digits of a number, sizes, the shape test on both sides ===== -/
theorem tf_100 {K : Nat} (h : K < 2 ^ 31) : nI K / 100 = nI (K / 100) := pk_div (d := 100) h (by decide) (by decide)
theorem tf_10 {K : Nat} (h : K < 2 ^ 31) : nI K / 10 - nI K / 10 / 10 * 10 = nI (K / 10 % 10) := by
  have e : nI K / 10 = nI (K / 10) := pk_div (d := 10) h (by decide) (by decide)
  rw [e]
  exact pk_rem (d := 10) (by omega) (by decide) (by decide)
theorem tf_1 {K : Nat} (h : K < 2 ^ 31) : nI K - nI K / 10 * 10 = nI (K % 10) := pk_rem (d := 10) h (by decide) (by decide)
theorem tf_szB {K : Nat} (h : K < 2 ^ 31) : ta_sz K < 2 ^ 31 := by unfold ta_sz; omega
theorem tf_no {s : Nat} (hs : s < 2 ^ 31) (h : ¬ ta_shb s = true) : ∀ K, ta_shb K = true → nI s ≠ nI K := by
  intro K hK e
  have := ta_600 hK
  rw [nI_eq hs (by omega)] at e
  subst e
  exact h hK
theorem tx_sz {post : Int32 → Prop} {K : Nat} (h : K < 2 ^ 31) (hp : post (nI (ta_sz K))) : wpX_size post (nI K) := by
  unfold wpX_size
  rw [tf_100 h, tf_10 h, tf_1 h, nI_add, nI_add]
  exact ⟨by decide, by decide, by decide, by decide, hp⟩
theorem ty_sz {post : Int32 → Prop} {K : Nat} (h : K < 2 ^ 31) (hp : post (nI (ta_sz K))) : wpY_size post (nI K) := by
  unfold wpY_size
  rw [tf_100 h, tf_10 h, tf_1 h, nI_add, nI_add]
  exact ⟨by decide, by decide, by decide, by decide, hp⟩
theorem tx_isT {post : Int32 → Prop} {K : Nat} (h : ta_shb K = true) (hp : post 1) : wpX_isShape post (nI K) := by
  have ⟨h1, h2, h3⟩ := ta_shI.mp h
  have h6 := ta_600 h
  have hK : K < 2 ^ 31 := by omega
  unfold wpX_isShape
  rw [tf_100 hK, tf_10 hK, tf_1 hK]
  exact br_f (nI_pos hK) (br_t (nI_le (b := 600) h6 (by decide)) ⟨by decide, by decide, nm_e ⟨by decide, br_f (nI_nlt h2 (by omega)) ⟨by decide, br_f (nI_nlt h1 (by omega)) (tx_sz hK (br_f (nI_nlt (a := 6) h3 (by decide)) hp))⟩⟩⟩)
theorem tx_isF {post : Int32 → Prop} {p0 : Int32} (h : ∀ K, ta_shb K = true → p0 ≠ nI K) (hp : post 0) : wpX_isShape post p0 := by
  unfold wpX_isShape
  refine br_c (fun _ => hp) (fun h0 => br_c (fun h6 => ?_) (fun _ => hp))
  obtain ⟨K, hk6, rfl⟩ := nI_of2 (n := 600) (M := 600) (by decide) h0 h6
  have hK : K < 2 ^ 31 := by omega
  have hz := tf_szB hK
  have hn : ¬ (K % 10 ≤ K / 10 % 10 ∧ K / 10 % 10 ≤ K / 100 ∧ K / 100 + K / 10 % 10 + K % 10 ≤ 6) := fun z => h K (ta_shI.mpr z) rfl
  rw [tf_100 hK, tf_10 hK, tf_1 hK]
  exact ⟨by decide, by decide, nm_e ⟨by decide, pk_lt (K / 100) (K / 10 % 10) (fun _ => hp) (fun a => ⟨by decide, pk_lt (K / 10 % 10) (K % 10) (fun _ => hp) (fun b => tx_sz hK (pk_lt 6 (ta_sz K) (fun _ => hp) (fun c => (hn ⟨b, a, c⟩).elim)))⟩)⟩⟩
theorem ty_isT {post : Int32 → Prop} {K : Nat} (h : ta_shb K = true) (hp : post 1) : wpY_isShape post (nI K) := by
  have ⟨h1, h2, h3⟩ := ta_shI.mp h
  have h6 := ta_600 h
  have hK : K < 2 ^ 31 := by omega
  unfold wpY_isShape
  exact ⟨by decide, nm_r (tf_100 hK) ⟨by decide, by decide, nm_r (tf_10 hK) ⟨by decide, nm_r (tf_1 hK) (br_f (nI_pos hK) (br_f (nI_nlt h2 (by omega)) (br_f (nI_nlt h1 (by omega)) (br_f (by rw [nI_add, nI_add]; exact nI_nlt (a := 6) h3 (by decide)) hp))))⟩⟩⟩
theorem ty_isF {post : Int32 → Prop} {p0 : Int32} (h : ∀ K, ta_shb K = true → p0 ≠ nI K) (hp : post 0) : wpY_isShape post p0 := by
  unfold wpY_isShape
  refine ⟨by decide, nm_e ⟨by decide, by decide, nm_e ⟨by decide, nm_e (br_c (fun _ => hp) (fun h0 => ?_))⟩⟩⟩
  obtain ⟨K, hK, rfl⟩ := nI_of h0
  have hn : ¬ (K % 10 ≤ K / 10 % 10 ∧ K / 10 % 10 ≤ K / 100 ∧ K / 100 + K / 10 % 10 + K % 10 ≤ 6) := fun z => h K (ta_shI.mpr z) rfl
  rw [tf_100 hK, tf_10 hK, tf_1 hK, nI_add, nI_add]
  exact pk_lt (K / 100) (K / 10 % 10) (fun _ => hp) (fun a => pk_lt (K / 10 % 10) (K % 10) (fun _ => hp) (fun b => pk_lt 6 (K / 100 + K / 10 % 10 + K % 10) (fun _ => hp) (fun c => (hn ⟨b, a, c⟩).elim)))
theorem ty_row {post : Int32 → Prop} {K i : Nat} (h : K < 2 ^ 31) (hi : i < 3) (hp : post (nI (ta_kd K i))) : wpY_rowOf post (nI K) (nI i) := by
  unfold wpY_rowOf
  rw [tf_100 h, tf_10 h, tf_1 h]
  match i, hi, hp with
  | 0, _, hp => exact br_t (by decide) ⟨by decide, hp⟩
  | 1, _, hp => exact br_f (by decide) (br_t (by decide) ⟨by decide, by decide, hp⟩)
  | 2, _, hp => exact br_f (by decide) (br_f (by decide) ⟨by decide, hp⟩)
end
section
/-! ===== the component's small methods ===== -/
theorem tg_zlt {a u k : Nat} (ha : a < 2 ^ 30) (hu : u < 2 ^ 30) (hk : k < 2 ^ 30) : nI a - nI u < nI k ↔ a < k + u := by
  rw [Int32.lt_iff_toInt_lt, pk_sub_toInt ha hu, nI_toInt (by omega)]
  omega
theorem tg_ltz {a u k : Nat} (ha : a < 2 ^ 30) (hu : u < 2 ^ 30) (hk : k < 2 ^ 30) : nI k < nI a - nI u ↔ k + u < a := by
  rw [Int32.lt_iff_toInt_lt, pk_sub_toInt ha hu, nI_toInt (by omega)]
  omega
theorem tg_wtI {K c1 c2 u : Nat} : te_wt K c1 c2 u = true ↔ (K % 10 + u ≤ c1 + c2 ∧ c1 + c2 ≤ K / 10 % 10 + u ∧ c2 ≤ u ∧ c1 ≤ u) := by
  unfold te_wt
  rw [Bool.and_eq_true, Bool.and_eq_true, Bool.and_eq_true, Nat.ble_eq, Nat.ble_eq, Nat.ble_eq, Nat.ble_eq]
theorem tg_wtF {K c1 c2 u : Nat} (h : ¬ (K % 10 + u ≤ c1 + c2 ∧ c1 + c2 ≤ K / 10 % 10 + u ∧ c2 ≤ u ∧ c1 ≤ u)) : te_wt K c1 c2 u = false := by
  cases e : te_wt K c1 c2 u with
  | false => rfl
  | true => exact (h (tg_wtI.mp e)).elim
theorem tg_add0 (r : Nat) : nI r + 0 = nI r := Int32.add_zero _
def ta_ctb (c : Nat) : Prop := c / 100 ≤ 6 ∧ c / 10 % 10 ≤ 6 ∧ c % 10 ≤ 6
theorem tx_icT {post : Int32 → Prop} {c : Nat} (h : ta_ctb c) (hp : post 1) : wpX_isContent post (nI c) := by
  have ⟨h1, h2, h3⟩ := h
  have hc : c < 2 ^ 31 := by omega
  unfold wpX_isContent
  rw [tf_10 hc, tf_1 hc]
  exact br_f (nI_pos hc) (br_f (nI_nlt (a := 666) (by omega) (by decide)) ⟨by decide, by decide, br_f (nI_nlt (a := 6) h2 (by decide)) ⟨by decide, br_f (nI_nlt (a := 6) h3 (by decide)) hp⟩⟩)
theorem tx_icF {post : Int32 → Prop} {p0 : Int32} (h : ∀ c, ta_ctb c → p0 ≠ nI c) (hp : post 0) : wpX_isContent post p0 := by
  unfold wpX_isContent
  refine br_c (fun _ => hp) (fun h0 => ?_)
  obtain ⟨c, hc, rfl⟩ := nI_of h0
  have hn : ¬ (c / 100 ≤ 6 ∧ c / 10 % 10 ≤ 6 ∧ c % 10 ≤ 6) := fun z => h c z rfl
  rw [tf_10 hc, tf_1 hc]
  exact pk_lt 666 c (fun _ => hp) (fun a => ⟨by decide, by decide, pk_lt 6 (c / 10 % 10) (fun _ => hp) (fun b => ⟨by decide, pk_lt 6 (c % 10) (fun _ => hp) (fun d => (hn ⟨by omega, b, d⟩).elim)⟩)⟩)
section
variable {f_cells : Int32} {a_kept a_large a_content a_rowOf a_placeOf a_number a_counts : Nat → Int32}
theorem tx_fil {post : Int32 → Prop} {K : Nat} (hK : ta_shb K = true) (hk : ∀ i, i < 3 → a_kept i = nI (ta_kd K i)) (hp : post (nI (ta_tab K).length)) : wpX_fillings post (f_cells, a_kept, a_large, a_content, a_rowOf, a_placeOf, a_number, a_counts) := by
  have k0 : a_kept 0 = nI (K / 100) := hk 0 (by decide)
  have k1 : a_kept 1 = nI (K / 10 % 10) := hk 1 (by decide)
  have k2 : a_kept 2 = nI (K % 10) := hk 2 (by decide)
  have ⟨h1, h2, h3⟩ := ta_shI.mp hK
  have hf := te_fil hK
  have hl := ta_tabL hK
  have e2 : nI (K / 100 - K % 10) + 2 = nI (K / 100 - K % 10 + 2) := nI_add _ 2
  have e3 : nI ((K / 100 - K / 10 % 10 + 1) * (K / 10 % 10 - K % 10 + 1) * (K / 100 - K % 10 + 2)) / 2 = nI ((K / 100 - K / 10 % 10 + 1) * (K / 10 % 10 - K % 10 + 1) * (K / 100 - K % 10 + 2) / 2) := by
    refine pk_div (d := 2) ?_ (by decide) (by decide)
    generalize (K / 100 - K / 10 % 10 + 1) * (K / 10 % 10 - K % 10 + 1) * (K / 100 - K % 10 + 2) = A at hf ⊢
    omega
  unfold wpX_fillings
  try dsimp only
  rw [k0, k1, k2, pk_sub h2, pk_sub h1, pk_sub (Nat.le_trans h1 h2), nI_1, nI_1, pk_mul, e2]
  refine nm_e ⟨by decide, ?_⟩
  rw [pk_mul, e3, hf]
  exact hp
theorem tx_wcA {post : Int32 → Prop} {J : Int32 → Int32 → Prop} {x2 x3 x6 : Int32} {r u : Nat} (h : J (nI r) (nI (u + 1))) : wX_withContent_112 post J x2 x3 (nI r) (nI u) x6 0 f_cells a_kept a_large a_content a_rowOf a_placeOf a_number a_counts := by
  unfold wX_withContent_112
  exact br_t rfl (nm_r (tg_add0 r) (nm_r (nI_1 u) h))
theorem tx_wc66 {post : Int32 → Prop} {K c1 c2 : Nat} (hK : ta_shb K = true) (hk : ∀ i, i < 3 → a_kept i = nI (ta_kd K i)) (h1 : c1 ≤ 6) (h2 : c2 ≤ 6) : ∀ d u r n, u + d = K / 100 + 1 → d < n → post (nI (r + te_wc K c1 c2 d u)) → wX_withContent_66 post (nI c1) (nI c2) f_cells a_kept a_large a_content a_rowOf a_placeOf a_number a_counts n (nI r) (nI u) := by
  have k0 : a_kept 0 = nI (K / 100) := hk 0 (by decide)
  have k1 : a_kept 1 = nI (K / 10 % 10) := hk 1 (by decide)
  have k2 : a_kept 2 = nI (K % 10) := hk 2 (by decide)
  have h6 := ta_600 hK
  intro d
  induction d with
  | zero =>
    intro u r n hu hn hp
    obtain ⟨m, rfl⟩ : ∃ m, n = m + 1 := ⟨n - 1, by omega⟩
    exact br_t (by rw [k0]; exact nI_lt (by omega) (by omega)) hp
  | succ d ih =>
    intro u r n hu hn hp
    obtain ⟨m, rfl⟩ : ∃ m, n = m + 1 := ⟨n - 1, by omega⟩
    have hp' : ∀ b, te_wt K c1 c2 u = b → post (nI (r + (cond b 1 0 + te_wc K c1 c2 d (u + 1)))) := by
      intro b hb
      rw [← hb]
      exact hp
    have hF : ¬ (K % 10 + u ≤ c1 + c2 ∧ c1 + c2 ≤ K / 10 % 10 + u ∧ c2 ≤ u ∧ c1 ≤ u) → wX_withContent_66 post (nI c1) (nI c2) f_cells a_kept a_large a_content a_rowOf a_placeOf a_number a_counts m (nI r) (nI (u + 1)) := by
      intro z
      refine ih (u + 1) r m (by omega) (by omega) ?_
      have := hp' false (tg_wtF z)
      rw [show cond false 1 0 = 0 from rfl, Nat.zero_add] at this
      exact this
    refine br_f (by rw [k0]; exact nI_nlt (by omega) (by omega)) (nm_r (e' := nI (c1 + c2) - nI u) (by rw [nI_add]) ?_)
    rw [k2, k1]
    refine ek_if (tg_zlt (by omega) (by omega) (by omega)) (fun z => ?_) (fun z => ek_if (tg_ltz (by omega) (by omega) (by omega)) (fun y => ?_) (fun y => ?_))
    · exact tx_wcA (hF (fun t => by omega))
    · exact tx_wcA (hF (fun t => by omega))
    · unfold wX_withContent_112
      refine br_f (by decide) (ek_if (tg_ltz (by omega) (by omega) (by omega)) (fun x => ?_) (fun x => pk_lt u c1 (fun w => ?_) (fun w => ?_)))
      · exact nm_r (tg_add0 r) (nm_r (nI_1 u) (hF (fun t => by omega)))
      · exact nm_r (tg_add0 r) (nm_r (nI_1 u) (hF (fun t => by omega)))
      · refine nm_r (nI_1 r) (nm_r (nI_1 u) (ih (u + 1) (r + 1) m (by omega) (by omega) ?_))
        have := hp' true (tg_wtI.mpr ⟨by omega, by omega, by omega, by omega⟩)
        rw [show cond true 1 0 = 1 from rfl, ← Nat.add_assoc] at this
        exact this
theorem tx_wcT {post : Int32 → Prop} {K c : Nat} (hK : ta_shb K = true) (hk : ∀ i, i < 3 → a_kept i = nI (ta_kd K i)) (h : ta_ctb c) (hp : post (nI (te_wv K (c / 100) (c / 10 % 10) (c % 10)))) : wpX_withContent post (f_cells, a_kept, a_large, a_content, a_rowOf, a_placeOf, a_number, a_counts) (nI c) := by
  have k0 : a_kept 0 = nI (K / 100) := hk 0 (by decide)
  have k1 : a_kept 1 = nI (K / 10 % 10) := hk 1 (by decide)
  have k2 : a_kept 2 = nI (K % 10) := hk 2 (by decide)
  have ⟨h1, h2, h3⟩ := h
  have ⟨s1, s2, s3⟩ := ta_shI.mp hK
  have hc : c < 2 ^ 31 := by omega
  have hz : ta_sz K = K / 100 + K / 10 % 10 + K % 10 := rfl
  unfold wpX_withContent
  try dsimp only
  refine tx_icT h (br_f (by decide) ?_)
  rw [tf_100 hc, tf_10 hc, tf_1 hc]
  refine ⟨by decide, nm_e ⟨by decide, by decide, nm_e ⟨by decide, ?_⟩⟩⟩
  rw [nI_add, nI_add]
  refine pk_eq (c / 100 + c / 10 % 10 + c % 10) (ta_sz K) (fun e => ?_) (fun e => ?_) (hy := by rw [k0, k1, k2, nI_add, nI_add]; rfl)
  · refine nm_r k1 ⟨K / 100 + 1 - K / 10 % 10 + 1, ?_⟩
    refine tx_wc66 (r := 0) hK hk h1 h2 (K / 100 + 1 - K / 10 % 10) (K / 10 % 10) _ (by omega) (by omega) ?_
    rw [Nat.zero_add]
    have e2 : te_wv K (c / 100) (c / 10 % 10) (c % 10) = te_wc K (c / 100) (c / 10 % 10) (K / 100 + 1 - K / 10 % 10) (K / 10 % 10) := by
      unfold te_wv
      rw [show Nat.beq (c / 100 + c / 10 % 10 + c % 10) (ta_sz K) = true from by rw [Nat.beq_eq]; exact e]
      rfl
    rw [← e2]
    exact hp
  · have e2 : te_wv K (c / 100) (c / 10 % 10) (c % 10) = 0 := by
      unfold te_wv
      cases z : Nat.beq (c / 100 + c / 10 % 10 + c % 10) (ta_sz K) with
      | false => rfl
      | true => rw [Nat.beq_eq] at z; exact (e z).elim
    rw [e2] at hp
    exact hp
theorem tx_wcF {post : Int32 → Prop} {p0 : Int32} (h : ∀ c, ta_ctb c → p0 ≠ nI c) (hp : post (-1)) : wpX_withContent post (f_cells, a_kept, a_large, a_content, a_rowOf, a_placeOf, a_number, a_counts) p0 := by
  unfold wpX_withContent
  try dsimp only
  exact tx_icF h (br_t rfl hp)
/-! hooks, orders, turned -/
theorem tx_hk14 {post : Int32 → Prop} {K j : Nat} (hK : ta_shb K = true) (hk : ∀ i, i < 3 → a_kept i = nI (ta_kd K i)) (hj : j ≤ 6) : ∀ d k h n, k + d = 3 → d < n → post (nI (h + te_hs K j d k)) → wX_hook_14 post (nI j) f_cells a_kept a_large a_content a_rowOf a_placeOf a_number a_counts n (nI h) (nI k) := by
  intro d
  induction d with
  | zero =>
    intro k h n hd hn hp
    obtain ⟨m, rfl⟩ : ∃ m, n = m + 1 := ⟨n - 1, by omega⟩
    exact br_t (nI_le (a := 3) (by omega) (by omega)) hp
  | succ d ih =>
    intro k h n hd hn hp
    obtain ⟨m, rfl⟩ : ∃ m, n = m + 1 := ⟨n - 1, by omega⟩
    have h6 := ta_kd6 hK k
    have hp' : ∀ b, Nat.blt j (ta_kd K k) = b → post (nI (h + (cond b 1 0 + te_hs K j d (k + 1)))) := by
      intro b hb
      rw [← hb]
      exact hp
    refine br_f (nI_ge (b := 3) (by omega) (by decide)) ⟨vp_in_nI (by omega) (by decide), ?_⟩
    rw [nI_clamp (by omega), hk k (by omega)]
    refine pk_le (ta_kd K k) j (fun z => ?_) (fun z => ?_)
    · refine nm_r (tg_add0 h) (nm_r (nI_1 k) (ih (k + 1) h m (by omega) (by omega) ?_))
      have e : Nat.blt j (ta_kd K k) = false := by
        cases e : Nat.blt j (ta_kd K k) with
        | false => rfl
        | true => rw [Nat.blt_eq] at e; omega
      have := hp' false e
      rw [show cond false 1 0 = 0 from rfl, Nat.zero_add] at this
      exact this
    · refine nm_r (nI_1 h) (nm_r (nI_1 k) (ih (k + 1) (h + 1) m (by omega) (by omega) ?_))
      have := hp' true (by rw [Nat.blt_eq]; exact z)
      rw [show cond true 1 0 = 1 from rfl, ← Nat.add_assoc] at this
      exact this
theorem tx_hook {post : Int32 → Prop} {K i j : Nat} (hK : ta_shb K = true) (hk : ∀ i, i < 3 → a_kept i = nI (ta_kd K i)) (hi : i < 3) (hj : j ≤ ta_kd K i) (hp : post (nI (te_hk K i j))) : wpX_hook post (f_cells, a_kept, a_large, a_content, a_rowOf, a_placeOf, a_number, a_counts) (nI i) (nI j) := by
  have h6 := ta_kd6 hK i
  unfold wpX_hook
  try dsimp only
  rw [nI_clamp (by omega), hk i hi]
  exact ⟨vp_in_nI hi (by decide), nm_r (pk_sub hj) (nm_r (nI_1 i) ⟨4, tx_hk14 hK hk (by omega) (2 - i) (i + 1) _ _ (by omega) (by omega) hp⟩)⟩
theorem tx_or18 {post : Int32 → Prop} {J : Int32 → Int32 → Int32 → Int32 → Prop} {K i : Nat} (hK : ta_shb K = true) (hk : ∀ i, i < 3 → a_kept i = nI (ta_kd K i)) (hi : i < 3) : ∀ d j a b c n, j + d = ta_kd K i → d < n → J (nI (te_in K i d j a b c).1) (nI (te_in K i d j a b c).2.1) (nI (te_in K i d j a b c).2.2) (nI (i + 1)) → wX_orders_18 post J (nI i) f_cells a_kept a_large a_content a_rowOf a_placeOf a_number a_counts n (nI a) (nI b) (nI c) (nI j) := by
  have h6 := ta_kd6 hK i
  intro d
  induction d with
  | zero =>
    intro j a b c n hd hn hp
    obtain ⟨m, rfl⟩ : ∃ m, n = m + 1 := ⟨n - 1, by omega⟩
    refine ⟨vp_in_nI hi (by decide), ?_⟩
    rw [nI_clamp (by omega), hk i hi]
    exact br_t (nI_le (by omega) (by omega)) (nm_r (nI_1 i) hp)
  | succ d ih =>
    intro j a b c n hd hn hp
    obtain ⟨m, rfl⟩ : ∃ m, n = m + 1 := ⟨n - 1, by omega⟩
    refine ⟨vp_in_nI hi (by decide), ?_⟩
    rw [nI_clamp (by omega), hk i hi]
    refine br_f (nI_ge (by omega) (by omega)) (nm_r (nI_1 a) (nm_r (pk_mul b (a + 1)) (tx_hook hK hk hi (by omega) ?_)))
    exact nm_r (pk_mul c (te_hk K i j)) (nm_r (nI_1 j) (ih (j + 1) (a + 1) (b * (a + 1)) (c * te_hk K i j) m (by omega) (by omega) hp))
theorem tx_ord {post : Int32 → Prop} {K : Nat} (hK : ta_shb K = true) (hk : ∀ i, i < 3 → a_kept i = nI (ta_kd K i)) (hp : post (nI (te_oy K))) : wpX_orders post (f_cells, a_kept, a_large, a_content, a_rowOf, a_placeOf, a_number, a_counts) := by
  have ⟨o1, o2, o3, o4⟩ := te_orE hK
  unfold wpX_orders
  try dsimp only
  refine ⟨4, br_f (by decide) ⟨ta_kd K 0 + 1, tx_or18 (i := 0) hK hk (by decide) (ta_kd K 0) 0 0 1 1 _ (by omega) (by omega) ?_⟩⟩
  refine br_f (by decide) ⟨ta_kd K 1 + 1, tx_or18 (i := 1) hK hk (by decide) (ta_kd K 1) 0 _ _ _ _ (by omega) (by omega) ?_⟩
  refine br_f (by decide) ⟨ta_kd K 2 + 1, tx_or18 (i := 2) hK hk (by decide) (ta_kd K 2) 0 _ _ _ _ (by omega) (by omega) ?_⟩
  refine br_t (by decide) ⟨nI_ne0 (n := (te_o2 K).2.2) o2 (by omega), ?_⟩
  have e : nI (te_o2 K).2.1 / nI (te_o2 K).2.2 = nI (te_oy K) := by rw [pk_div (by omega) o2 (by omega), o1]
  show post (nI (te_o2 K).2.1 / nI (te_o2 K).2.2)
  rw [e]
  exact hp
theorem tx_tu26 {post : Int32 → Prop} {J : Int32 → Int32 → Prop} {K j r : Nat} (hK : ta_shb K = true) (hk : ∀ i, i < 3 → a_kept i = nI (ta_kd K i)) (hj : j ≤ 6) : ∀ d k h n, k + d = 3 → d < n → J (nI (10 * r + (h + te_hs K j d k))) (nI (j + 1)) → wX_turned_26 post J (nI r) (nI j) f_cells a_kept a_large a_content a_rowOf a_placeOf a_number a_counts n (nI h) (nI k) := by
  intro d
  induction d with
  | zero =>
    intro k h n hd hn hp
    obtain ⟨m, rfl⟩ : ∃ m, n = m + 1 := ⟨n - 1, by omega⟩
    exact br_t (nI_le (a := 3) (by omega) (by omega)) (nm_r (e' := nI (10 * r + h)) (by rw [show (10 : Int32) * nI r = nI (10 * r) from pk_mul 10 r, nI_add]) (nm_r (nI_1 j) hp))
  | succ d ih =>
    intro k h n hd hn hp
    obtain ⟨m, rfl⟩ : ∃ m, n = m + 1 := ⟨n - 1, by omega⟩
    have h6 := ta_kd6 hK k
    have hp' : ∀ b, Nat.blt j (ta_kd K k) = b → J (nI (10 * r + (h + (cond b 1 0 + te_hs K j d (k + 1))))) (nI (j + 1)) := by
      intro b hb
      rw [← hb]
      exact hp
    refine br_f (nI_ge (b := 3) (by omega) (by decide)) ⟨vp_in_nI (by omega) (by decide), ?_⟩
    rw [nI_clamp (by omega), hk k (by omega)]
    refine pk_le (ta_kd K k) j (fun z => ?_) (fun z => ?_)
    · refine nm_r (tg_add0 h) (nm_r (nI_1 k) (ih (k + 1) h m (by omega) (by omega) ?_))
      have e : Nat.blt j (ta_kd K k) = false := by
        cases e : Nat.blt j (ta_kd K k) with
        | false => rfl
        | true => rw [Nat.blt_eq] at e; omega
      have := hp' false e
      rw [show cond false 1 0 = 0 from rfl, Nat.zero_add] at this
      exact this
    · refine nm_r (nI_1 h) (nm_r (nI_1 k) (ih (k + 1) (h + 1) m (by omega) (by omega) ?_))
      have := hp' true (by rw [Nat.blt_eq]; exact z)
      rw [show cond true 1 0 = 1 from rfl, ← Nat.add_assoc h 1] at this
      exact this
def te_tu (K : Nat) : Nat := 10 * (10 * (10 * 0 + (0 + te_hs K 0 3 0)) + (0 + te_hs K 1 3 0)) + (0 + te_hs K 2 3 0)
theorem tx_turn {post : Int32 → Prop} {K : Nat} (hK : ta_shb K = true) (hk : ∀ i, i < 3 → a_kept i = nI (ta_kd K i)) (h3 : K / 100 ≤ 3 → post (nI (te_tu K))) (h4 : ¬ K / 100 ≤ 3 → post (-1)) : wpX_turned post (f_cells, a_kept, a_large, a_content, a_rowOf, a_placeOf, a_number, a_counts) := by
  have k0 : a_kept 0 = nI (K / 100) := hk 0 (by decide)
  have h6 := ta_600 hK
  unfold wpX_turned
  try dsimp only
  rw [k0]
  refine pk_le (K / 100) 3 (fun z => ?_) (fun z => h4 (by omega))
  refine ⟨4, br_f (by decide) ⟨4, tx_tu26 (r := 0) (j := 0) hK hk (by decide) 3 0 0 _ (by decide) (by decide) ?_⟩⟩
  refine br_f (by decide) ⟨4, tx_tu26 (j := 1) hK hk (by decide) 3 0 0 _ (by decide) (by decide) ?_⟩
  refine br_f (by decide) ⟨4, tx_tu26 (j := 2) hK hk (by decide) 3 0 0 _ (by decide) (by decide) ?_⟩
  exact br_t (by decide) (h3 z)
theorem tx_gr {post : Int32 → Prop} {K B : Nat} (hK : ta_shb K = true) (hB : ta_shb B = true) (hk : ∀ i, i < 3 → a_kept i = nI (ta_kd K i)) (hp : ta_sz K + ta_sz B ≤ 6 → post (nI (K + B))) (hq : ¬ ta_sz K + ta_sz B ≤ 6 → post (-1)) : wpX_greatest post (f_cells, a_kept, a_large, a_content, a_rowOf, a_placeOf, a_number, a_counts) (nI B) := by
  have k0 : a_kept 0 = nI (K / 100) := hk 0 (by decide)
  have k1 : a_kept 1 = nI (K / 10 % 10) := hk 1 (by decide)
  have k2 : a_kept 2 = nI (K % 10) := hk 2 (by decide)
  have h6 := ta_600 hK
  have g6 := ta_600 hB
  have s6 := ta_sz6 hK
  have t6 := ta_sz6 hB
  unfold wpX_greatest
  try dsimp only
  refine tx_isT hB (br_f (by decide) ?_)
  unfold wpX_keptSize
  try dsimp only
  rw [k0, k1, k2, nI_add, nI_add]
  refine tx_sz (by omega) ?_
  refine pk_le (ta_sz K + ta_sz B) 6 (fun z => ?_) (fun z => hq (by omega)) (hx := nI_add (ta_sz K) (ta_sz B))
  rw [show (100 : Int32) * nI (K / 100) = nI (100 * (K / 100)) from pk_mul 100 _, show (10 : Int32) * nI (K / 10 % 10) = nI (10 * (K / 10 % 10)) from pk_mul 10 _, nI_add, nI_add, nI_add, show 100 * (K / 100) + 10 * (K / 10 % 10) + K % 10 + B = K + B from by omega]
  exact hp z
end
end
section
/-! ===== the component's search: cells, one number after the other ===== -/
def tc_hd (L : List Nat) (r p : Nat → Int32) : Prop := ∀ i, i < L.length → r i = nI (ta_g L i / 10) ∧ p i = nI (ta_g L i % 10)
theorem tc_hdP {L : List Nat} {r p : Nat → Int32} (c : Nat) (h : tc_hd L r p) : tc_hd (L ++ [c]) (upd r L.length (nI (c / 10))) (upd p L.length (nI (c % 10))) := by
  intro i hi
  rw [List.length_append, List.length_singleton] at hi
  by_cases e : i = L.length
  · subst e
    rw [pk_us, pk_us, show ta_g (L ++ [c]) L.length = c from ta_gA L [c] 0]
    exact ⟨rfl, rfl⟩
  · rw [pk_un e, pk_un e, ta_gB L [c] i (by omega)]
    exact h i (by omega)
theorem tg_m1 (m : Nat) : nI m + (-1) = nI m - 1 := (Int32.sub_eq_add_neg (nI m) 1).symm
theorem tg_neg : (nI 0 - 1 : Int32) < 0 := by decide
theorem tg_negk {k : Nat} (hk : k < 2 ^ 30) : nI 0 - 1 < nI k := (tg_zlt (a := 0) (u := 1) (by decide) (by decide) hk).mpr (by omega)
theorem tg_e1 {a b : Nat} (ha : a < 2 ^ 30) (hb : b < 2 ^ 30) : nI a = nI b - 1 ↔ a + 1 = b := by
  have e : (nI b - 1).toInt = (b : Int) - 1 := pk_sub_toInt (b := 1) hb (by decide)
  rw [← Int32.toInt_inj, e, nI_toInt (by omega)]
  omega
section
variable {f_cells : Int32} {a_kept a_large a_content a_rowOf a_placeOf a_number a_counts : Nat → Int32}
theorem tx_lc85 {post : SX → Prop} : ∀ d i n (a_counts : Nat → Int32), i + d = 4 → d < n → (∀ j, j < i → a_counts j = 0) → (∀ ct : Nat → Int32, (∀ j, j < 4 → ct j = 0) → post (f_cells, a_kept, a_large, a_content, a_rowOf, a_placeOf, a_number, ct)) → wX_listCells_85 post f_cells n (nI i) a_kept a_large a_content a_rowOf a_placeOf a_number a_counts := by
  intro d
  induction d with
  | zero =>
    intro i n ct hd hn hc hp
    obtain ⟨m, rfl⟩ : ∃ m, n = m + 1 := ⟨n - 1, by omega⟩
    exact br_t (nI_le (a := 4) (by omega) (by omega)) (hp ct (fun j hj => hc j (by omega)))
  | succ d ih =>
    intro i n ct hd hn hc hp
    obtain ⟨m, rfl⟩ : ∃ m, n = m + 1 := ⟨n - 1, by omega⟩
    refine br_f (nI_ge (b := 4) (by omega) (by decide)) ⟨vp_in_nI (by omega) (by decide), nm_r (e' := upd ct i 0) (by rw [nI_clamp (by omega)]) (nm_r (nI_1 i) (ih (i + 1) m (upd ct i 0) (by omega) (by omega) ?_ hp))⟩
    intro j hj
    by_cases e : j = i
    · subst e
      exact pk_us
    · rw [pk_un e]
      exact hc j (by omega)
theorem tx_lc21 {post : SX → Prop} {J : Int32 → Int32 → (Nat → Int32) → (Nat → Int32) → (Nat → Int32) → (Nat → Int32) → (Nat → Int32) → (Nat → Int32) → (Nat → Int32) → Prop} {i k : Nat} (hi : i < 3) (hk : a_kept i = nI k) (hk6 : k ≤ 6) : ∀ m x2 n (L : List Nat) (r p u : Nat → Int32), m ≤ 6 → x2 = nI m - 1 → m < n → L.length + (tc_row i k m).length ≤ 6 → tc_hd L r p → (∀ j, j < L.length → u j = 0) → (∀ r' p' u' : Nat → Int32, tc_hd (L ++ tc_row i k m) r' p' → (∀ j, j < (L ++ tc_row i k m).length → u' j = 0) → J (nI (i + 1)) (nI (L ++ tc_row i k m).length) a_kept a_large a_content r' p' u' a_counts) → wX_listCells_21 post J (nI i) n x2 (nI L.length) a_kept a_large a_content r p u a_counts := by
  intro m
  induction m with
  | zero =>
    intro x2 n L r p u h6 hx hn hl hh hu hJ
    obtain ⟨m, rfl⟩ : ∃ m, n = m + 1 := ⟨n - 1, by omega⟩
    subst hx
    rw [show tc_row i k 0 = [] from rfl, List.append_nil] at hJ
    refine ⟨vp_in_nI hi (by decide), ?_⟩
    rw [nI_clamp (by omega), hk]
    exact br_t (tg_negk (by omega)) (nm_r (nI_1 i) (hJ r p u hh hu))
  | succ m ih =>
    intro x2 n L r p u h6 hx hn hl hh hu hJ
    obtain ⟨n', rfl⟩ : ∃ n', n = n' + 1 := ⟨n - 1, by omega⟩
    rw [nI_pred] at hx
    subst hx
    refine ⟨vp_in_nI hi (by decide), ?_⟩
    rw [nI_clamp (by omega), hk]
    refine pk_lt m k (fun z => ?_) (fun z => ?_)
    · have e : tc_row i k (m + 1) = [] := by
        show cond (Nat.ble k m) ((10 * i + m) :: tc_row i k m) [] = []
        cases e : Nat.ble k m with
        | false => rfl
        | true => rw [Nat.ble_eq] at e; omega
      rw [e, List.append_nil] at hJ
      exact nm_r (nI_1 i) (hJ r p u hh hu)
    · have e : tc_row i k (m + 1) = (10 * i + m) :: tc_row i k m := by
        show cond (Nat.ble k m) ((10 * i + m) :: tc_row i k m) [] = _
        rw [show Nat.ble k m = true from by rw [Nat.ble_eq]; exact z]
        rfl
      rw [e, List.append_cons] at hJ
      rw [e, List.length_cons] at hl
      have d1 : (10 * i + m) / 10 = i := by omega
      have d2 : (10 * i + m) % 10 = m := by omega
      refine ⟨vp_in_nI (by omega) (by decide), nm_r (e' := upd r L.length (nI ((10 * i + m) / 10))) (by rw [nI_clamp (by omega), d1]) ⟨vp_in_nI (by omega) (by decide), nm_r (e' := upd p L.length (nI ((10 * i + m) % 10))) (by rw [nI_clamp (by omega), d2]) ⟨vp_in_nI (by omega) (by decide), nm_r (e' := upd u L.length 0) (by rw [nI_clamp (by omega)]) (nm_r (e' := nI (L ++ [10 * i + m]).length) (by rw [nI_1, List.length_append, List.length_singleton]) (nm_r (tg_m1 m) (ih _ n' (L ++ [10 * i + m]) _ _ _ (by omega) rfl (by omega) (by rw [List.length_append, List.length_singleton]; omega) (tc_hdP _ hh) ?_ hJ)))⟩⟩⟩
      intro j hj
      rw [List.length_append, List.length_singleton] at hj
      by_cases ej : j = L.length
      · subst ej
        exact pk_us
      · rw [pk_un ej]
        exact hu j (by omega)
theorem tx_lc {post : SX → Prop} {K S : Nat} (hK : ta_shb K = true) (hS : ta_shb S = true) (hk : ∀ i, i < 3 → a_kept i = nI (ta_kd K i)) (hl : ∀ i, i < 3 → a_large i = nI (ta_kd S i)) (hp : ∀ r p u ct : Nat → Int32, tc_hd (tc_cl K S) r p → (∀ j, j < (tc_cl K S).length → u j = 0) → (∀ j, j < 4 → ct j = 0) → post (nI (tc_cl K S).length, a_kept, a_large, a_content, r, p, u, ct)) : wpX_listCells post (f_cells, a_kept, a_large, a_content, a_rowOf, a_placeOf, a_number, a_counts) := by
  have h6 := (td_cl6 hK hS).1
  have hlen : (tc_row 0 (ta_kd K 0) (ta_kd S 0)).length + (tc_row 1 (ta_kd K 1) (ta_kd S 1)).length + (tc_row 2 (ta_kd K 2) (ta_kd S 2)).length ≤ 6 := by
    have e : (tc_cl K S).length = (tc_row 0 (ta_kd K 0) (ta_kd S 0)).length + (tc_row 1 (ta_kd K 1) (ta_kd S 1)).length + (tc_row 2 (ta_kd K 2) (ta_kd S 2)).length := by
      unfold tc_cl
      rw [List.length_append, List.length_append]
      rfl
    omega
  unfold wpX_listCells
  try dsimp only
  refine ⟨4, br_f (by decide) ⟨vp_in_nI (n := 0) (by decide) (by decide), nm_r (e' := nI (ta_kd S 0) - 1) (by rw [show (0 : Int32).toNatClampNeg = 0 from by decide, hl 0 (by decide)]) ⟨7, ?_⟩⟩⟩
  refine tx_lc21 (i := 0) (by decide) (hk 0 (by decide)) (ta_kd6 hK 0) (ta_kd S 0) _ _ [] _ _ _ (ta_kd6 hS 0) rfl (by have := ta_kd6 hS 0; omega) (by rw [List.length_nil]; omega) (fun i hi => absurd hi (Nat.not_lt_zero _)) (fun i hi => absurd hi (Nat.not_lt_zero _)) ?_
  intro r p u hh hu
  rw [List.nil_append] at hh hu ⊢
  refine br_f (by decide) ⟨vp_in_nI (n := 1) (by decide) (by decide), nm_r (e' := nI (ta_kd S 1) - 1) (by rw [nI_clamp (by decide), hl 1 (by decide)]) ⟨7, ?_⟩⟩
  refine tx_lc21 (i := 1) (by decide) (hk 1 (by decide)) (ta_kd6 hK 1) (ta_kd S 1) _ _ _ _ _ _ (ta_kd6 hS 1) rfl (by have := ta_kd6 hS 1; omega) (by omega) hh hu ?_
  intro r p u hh hu
  refine br_f (by decide) ⟨vp_in_nI (n := 2) (by decide) (by decide), nm_r (e' := nI (ta_kd S 2) - 1) (by rw [nI_clamp (by decide), hl 2 (by decide)]) ⟨7, ?_⟩⟩
  refine tx_lc21 (i := 2) (by decide) (hk 2 (by decide)) (ta_kd6 hK 2) (ta_kd S 2) _ _ _ _ _ _ (ta_kd6 hS 2) rfl (by have := ta_kd6 hS 2; omega) (by rw [List.length_append]; omega) hh hu ?_
  intro r p u hh hu
  refine br_t (by decide) ⟨5, tx_lc85 4 0 5 _ (by decide) (by decide) (fun j hj => absurd hj (Nat.not_lt_zero _)) (fun ct hct => ?_)⟩
  exact hp r p u ct hh hu hct
end
end
section
/-! ===== the component's search: fits, next number, the steps ===== -/
def tc_env (L : List Nat) (B : Nat) (ac ar ap : Nat → Int32) : Prop := L.length ≤ 6 ∧ tc_hd L ar ap ∧ (∀ i, ta_g L i ≤ 29 ∧ ta_g L i % 10 ≤ 5) ∧ (∀ i, i < 3 → ac i = nI (ta_kd B i)) ∧ (∀ i, ta_kd B i ≤ 6)
def tc_arr (L N T : List Nat) (an ct : Nat → Int32) : Prop := (∀ i, i < L.length → an i = nI (ta_g N i)) ∧ (∀ i, i < 4 → ct i = nI (ta_g T i)) ∧ N.length = L.length ∧ T.length = 4 ∧ (∀ i, ta_g N i ≤ 3) ∧ (∀ i, ta_g T i ≤ 9)
theorem tc_fkI {L N : List Nat} {a x k : Nat} (hL : ∀ i, ta_g L i ≤ 29 ∧ ta_g L i % 10 ≤ 5) : tc_fk L N a x k = true ↔ (((ta_g L k / 10 = ta_g L a / 10 ∧ ta_g L k % 10 = ta_g L a % 10 + 1) → x ≤ ta_g N k) ∧ ((ta_g L k / 10 + 1 = ta_g L a / 10 ∧ ta_g L k % 10 = ta_g L a % 10) → ta_g N k < x)) := by
  have h1 := hL k
  have h2 := hL a
  unfold tc_fk
  rw [Bool.and_eq_true]
  cases e1 : Nat.beq (ta_g L k) (ta_g L a + 1) with
  | true =>
    rw [Nat.beq_eq] at e1
    cases e2 : Nat.beq (ta_g L k + 10) (ta_g L a) with
    | true => rw [Nat.beq_eq] at e2; omega
    | false =>
      show Nat.ble x (ta_g N k) = true ∧ true = true ↔ _
      rw [Nat.ble_eq]
      constructor
      · intro z; exact ⟨fun _ => z.1, fun w => by omega⟩
      · intro z; exact ⟨z.1 (by omega), rfl⟩
  | false =>
    have n1 : ¬ ta_g L k = ta_g L a + 1 := fun z => by rw [← Nat.beq_eq, e1] at z; exact absurd z (by decide)
    cases e2 : Nat.beq (ta_g L k + 10) (ta_g L a) with
    | true =>
      rw [Nat.beq_eq] at e2
      show true = true ∧ Nat.blt (ta_g N k) x = true ↔ _
      rw [Nat.blt_eq]
      constructor
      · intro z; exact ⟨fun w => by omega, fun _ => z.2⟩
      · intro z; exact ⟨rfl, z.2 (by omega)⟩
    | false =>
      have n2 : ¬ ta_g L k + 10 = ta_g L a := fun z => by rw [← Nat.beq_eq, e2] at z; exact absurd z (by decide)
      constructor
      · intro _; exact ⟨fun w => by omega, fun w => by omega⟩
      · intro _; exact ⟨rfl, rfl⟩
section
variable {f_cells : Int32} {a_kept a_large a_content a_rowOf a_placeOf a_number a_counts : Nat → Int32}
theorem tx_fb83 {post : Int32 → Prop} {J : Int32 → Prop} {x1 x4 z0 : Int32} {x k v : Nat} {rt ab : Prop} (hk : k < 6) (hv : v ≤ 3) (hx : x ≤ 3) (hn : a_number (nI k).toNatClampNeg = nI v) (hr : (x4 = 0 ∧ ¬ rt) ∨ (x4 = 1 ∧ rt)) (ha : (z0 = 0 ∧ ¬ ab) ∨ (z0 = 1 ∧ ab)) (hJ : ((rt → x ≤ v) ∧ (ab → v < x)) → J (nI (k + 1))) (h0 : ¬ ((rt → x ≤ v) ∧ (ab → v < x)) → post 0) : wX_fitsBeside_83 post J x1 (nI x) (nI k) x4 z0 f_cells a_kept a_large a_content a_rowOf a_placeOf a_number a_counts := by
  have hin : vp_in (nI k) 6 := vp_in_nI hk (by decide)
  have h100 : ((ab → v < x) → J (nI (k + 1))) → (¬ (ab → v < x) → post 0) → wX_fitsBeside_100 post J x1 (nI x) (nI k) z0 f_cells a_kept a_large a_content a_rowOf a_placeOf a_number a_counts := by
    intro gJ g0
    unfold wX_fitsBeside_100
    rcases ha with ⟨rfl, a⟩ | ⟨rfl, a⟩
    · exact br_t rfl (nm_r (nI_1 k) (gJ (fun z => absurd z a)))
    · exact br_f (by decide) ⟨hin, pk_lt v x (fun z => nm_r (nI_1 k) (gJ (fun _ => z))) (fun z => g0 (fun w => by have := w a; omega)) (hx := hn)⟩
  unfold wX_fitsBeside_83
  rcases hr with ⟨rfl, r⟩ | ⟨rfl, r⟩
  · exact br_t rfl (h100 (fun z => hJ ⟨fun w => absurd w r, z⟩) (fun z => h0 (fun w => z w.2)))
  · exact br_f (by decide) ⟨hin, pk_lt v x (fun z => h0 (fun w => by have := w.1 r; omega)) (fun z => h100 (fun y => hJ ⟨fun _ => z, y⟩) (fun y => h0 (fun w => y w.2))) (hx := hn)⟩
theorem tx_fb44 {post : Int32 → Prop} {J : Int32 → Prop} {z0 : Int32} {L : List Nat} {B a x k v : Nat} {rt : Prop} (he : tc_env L B a_content a_rowOf a_placeOf) (ha : a < L.length) (hk : k < a) (hv : v ≤ 3) (hx : x ≤ 3) (hn : a_number (nI k).toNatClampNeg = nI v) (hr : (z0 = 0 ∧ ¬ rt) ∨ (z0 = 1 ∧ rt)) (hJ : ((rt → x ≤ v) ∧ ((ta_g L k / 10 + 1 = ta_g L a / 10 ∧ ta_g L k % 10 = ta_g L a % 10) → v < x)) → J (nI (k + 1))) (h0 : ¬ ((rt → x ≤ v) ∧ ((ta_g L k / 10 + 1 = ta_g L a / 10 ∧ ta_g L k % 10 = ta_g L a % 10) → v < x)) → post 0) : wX_fitsBeside_44 post J (nI a) (nI x) (nI k) z0 f_cells a_kept a_large a_content a_rowOf a_placeOf a_number a_counts := by
  have ⟨e6, eh, eb, ec, ek⟩ := he
  have hik : vp_in (nI k) 6 := vp_in_nI (by omega) (by decide)
  have hia : vp_in (nI a) 6 := vp_in_nI (by omega) (by decide)
  have bk := eb k
  have ba := eb a
  have ck : (nI k).toNatClampNeg = k := nI_clamp (by omega)
  have ca : (nI a).toNatClampNeg = a := nI_clamp (by omega)
  unfold wX_fitsBeside_44 wX_fitsBeside_82
  refine ⟨hik, hia, ?_⟩
  rw [ck, ca, (eh k (by omega)).1, (eh a ha).1, (eh k (by omega)).2, (eh a ha).2]
  refine ek_if (tg_e1 (by omega) (by omega)) (fun z => ⟨hik, hia, ?_⟩) (fun z => ?_)
  · refine pk_eq (ta_g L k % 10) (ta_g L a % 10) (fun y => ?_) (fun y => ?_)
    · exact tx_fb83 (by omega) hv hx hn hr (Or.inr ⟨rfl, ⟨z, y⟩⟩) hJ h0
    · exact tx_fb83 (by omega) hv hx hn hr (Or.inl ⟨rfl, fun w => y w.2⟩) hJ h0
  · exact tx_fb83 (by omega) hv hx hn hr (Or.inl ⟨rfl, fun w => z w.1⟩) hJ h0
theorem tx_fb2 {post : Int32 → Prop} {L N T : List Nat} {B a x : Nat} (he : tc_env L B a_content a_rowOf a_placeOf) (hr : tc_arr L N T a_number a_counts) (ha : a < L.length) (hx : x ≤ 3) (h1 : tc_fit L N a x = true → post 1) (h0 : tc_fit L N a x = false → post 0) : ∀ d k n, k + d = a → d < n → (∀ j, j < k → tc_fk L N a x j = true) → wX_fitsBeside_2 post (nI a) (nI x) f_cells a_kept a_large a_content a_rowOf a_placeOf a_number a_counts n (nI k) := by
  have ⟨e6, eh, eb, ec, ek⟩ := he
  have ⟨rn, rt, rl, rm, r3, r9⟩ := hr
  intro d
  induction d with
  | zero =>
    intro k n hd hn hj
    obtain ⟨m, rfl⟩ : ∃ m, n = m + 1 := ⟨n - 1, by omega⟩
    refine br_t (nI_le (by omega) (by omega)) (h1 ?_)
    unfold tc_fit
    rw [List.all_eq_true]
    intro j hj'
    exact hj j (by have := List.mem_range.mp hj'; omega)
  | succ d ih =>
    intro k n hd hn hj
    obtain ⟨m, rfl⟩ : ∃ m, n = m + 1 := ⟨n - 1, by omega⟩
    have hik : vp_in (nI k) 6 := vp_in_nI (by omega) (by decide)
    have hia : vp_in (nI a) 6 := vp_in_nI (by omega) (by decide)
    have bk := eb k
    have ba := eb a
    have ck : (nI k).toNatClampNeg = k := nI_clamp (by omega)
    have ca : (nI a).toNatClampNeg = a := nI_clamp (by omega)
    have hn' : a_number (nI k).toNatClampNeg = nI (ta_g N k) := by rw [ck]; exact rn k (by omega)
    have gJ : tc_fk L N a x k = true → wX_fitsBeside_2 post (nI a) (nI x) f_cells a_kept a_large a_content a_rowOf a_placeOf a_number a_counts m (nI (k + 1)) := by
      intro z
      refine ih (k + 1) m (by omega) (by omega) ?_
      intro j hj'
      by_cases e : j = k
      · rw [e]; exact z
      · exact hj j (by omega)
    have g0 : ¬ tc_fk L N a x k = true → post 0 := by
      intro z
      refine h0 ?_
      cases e : tc_fit L N a x with
      | false => rfl
      | true =>
        unfold tc_fit at e
        rw [List.all_eq_true] at e
        exact (z (e k (List.mem_range.mpr (by omega)))).elim
    refine br_f (nI_ge (by omega) (by omega)) ⟨hik, hia, ?_⟩
    rw [ck, ca, (eh k (by omega)).1, (eh a ha).1, (eh k (by omega)).2, (eh a ha).2]
    refine pk_eq (ta_g L k / 10) (ta_g L a / 10) (fun z => ⟨hik, hia, ?_⟩) (fun z => ?_)
    · refine pk_eq (ta_g L k % 10) (ta_g L a % 10 + 1) (fun y => ?_) (fun y => ?_) (hy := nI_1 _)
      · exact tx_fb44 (rt := ta_g L k / 10 = ta_g L a / 10 ∧ ta_g L k % 10 = ta_g L a % 10 + 1) he ha (by omega) (r3 k) hx hn' (Or.inr ⟨rfl, ⟨z, y⟩⟩) (fun w => gJ ((tc_fkI eb).mpr w)) (fun w => g0 (fun s => w ((tc_fkI eb).mp s)))
      · exact tx_fb44 (rt := ta_g L k / 10 = ta_g L a / 10 ∧ ta_g L k % 10 = ta_g L a % 10 + 1) he ha (by omega) (r3 k) hx hn' (Or.inl ⟨rfl, fun w => y w.2⟩) (fun w => gJ ((tc_fkI eb).mpr w)) (fun w => g0 (fun s => w ((tc_fkI eb).mp s)))
    · exact tx_fb44 (rt := ta_g L k / 10 = ta_g L a / 10 ∧ ta_g L k % 10 = ta_g L a % 10 + 1) he ha (by omega) (r3 k) hx hn' (Or.inl ⟨rfl, fun w => z w.1⟩) (fun w => gJ ((tc_fkI eb).mpr w)) (fun w => g0 (fun s => w ((tc_fkI eb).mp s)))
theorem tx_fb {post : Int32 → Prop} {L N T : List Nat} {B a x : Nat} (he : tc_env L B a_content a_rowOf a_placeOf) (hr : tc_arr L N T a_number a_counts) (ha : a < L.length) (hx : x ≤ 3) (h1 : tc_fit L N a x = true → post 1) (h0 : tc_fit L N a x = false → post 0) : wpX_fitsBeside post (f_cells, a_kept, a_large, a_content, a_rowOf, a_placeOf, a_number, a_counts) (nI a) (nI x) := by
  unfold wpX_fitsBeside
  try dsimp only
  exact ⟨a + 1, tx_fb2 he hr ha hx h1 h0 a 0 (a + 1) (by omega) (by omega) (fun j hj => absurd hj (Nat.not_lt_zero _))⟩
theorem tx_nn9 {post : Int32 → Prop} {L N T : List Nat} {B a : Nat} (he : tc_env L B a_content a_rowOf a_placeOf) (hr : tc_arr L N T a_number a_counts) (ha : a < L.length) : ∀ d y n, y + d = 3 → d < n → post (nI (tc_nx L N T B a d (y + 1))) → wX_nextNumber_9 post (nI a) f_cells a_kept a_large a_content a_rowOf a_placeOf a_number a_counts n (nI (y + 1)) := by
  have ⟨e6, eh, eb, ec, ek⟩ := he
  have ⟨rn, rt, rl, rm, r3, r9⟩ := hr
  intro d
  induction d with
  | zero =>
    intro y n hd hn hp
    obtain ⟨m, rfl⟩ : ∃ m, n = m + 1 := ⟨n - 1, by omega⟩
    exact br_t (nI_lt (a := 3) (by omega) (by omega)) hp
  | succ d ih =>
    intro y n hd hn hp
    obtain ⟨m, rfl⟩ : ∃ m, n = m + 1 := ⟨n - 1, by omega⟩
    have by1 := r9 (y + 1)
    have by0 := r9 y
    have bk := ek y
    have hp' : ∀ b, (tc_en T B (y + 1) && tc_fit L N a (y + 1)) = b → post (nI (cond b (y + 1) (tc_nx L N T B a d (y + 1 + 1)))) := by
      intro b hb
      rw [← hb]
      exact hp
    have enI : tc_en T B (y + 1) = true ↔ (ta_g T (y + 1) < ta_kd B y ∧ (y = 0 ∨ ta_g T (y + 1) < ta_g T y)) := by
      unfold tc_en
      rw [Bool.and_eq_true, Bool.or_eq_true, Nat.blt_eq, Nat.blt_eq, Nat.beq_eq, Nat.add_sub_cancel]
      omega
    have gJ : (tc_en T B (y + 1) && tc_fit L N a (y + 1)) = false → wX_nextNumber_9 post (nI a) f_cells a_kept a_large a_content a_rowOf a_placeOf a_number a_counts m (nI (y + 1 + 1)) := by
      intro z
      exact ih (y + 1) m (by omega) (by omega) (hp' false z)
    have g0 : ¬ (ta_g T (y + 1) < ta_kd B y ∧ (y = 0 ∨ ta_g T (y + 1) < ta_g T y)) → wX_nextNumber_57 post (wX_nextNumber_9 post (nI a) f_cells a_kept a_large a_content a_rowOf a_placeOf a_number a_counts m) (nI a) (nI (y + 1)) f_cells a_kept a_large a_content a_rowOf a_placeOf a_number a_counts := by
      intro z
      have e : tc_en T B (y + 1) = false := by
        cases e : tc_en T B (y + 1) with
        | false => rfl
        | true => exact (z (enI.mp e)).elim
      unfold wX_nextNumber_57 wX_nextNumber_58
      exact br_t rfl (nm_r (nI_1 (y + 1)) (gJ (by rw [e]; rfl)))
    have g1 : (ta_g T (y + 1) < ta_kd B y ∧ (y = 0 ∨ ta_g T (y + 1) < ta_g T y)) → wX_nextNumber_53 post (wX_nextNumber_9 post (nI a) f_cells a_kept a_large a_content a_rowOf a_placeOf a_number a_counts m) (nI a) (nI (y + 1)) f_cells a_kept a_large a_content a_rowOf a_placeOf a_number a_counts := by
      intro z
      have e := enI.mpr z
      unfold wX_nextNumber_53 wX_nextNumber_58
      refine br_f (by decide) (tx_fb he hr ha (by omega) (fun w => ?_) (fun w => ?_))
      · exact br_f (by decide) (hp' true (by rw [e, w]; rfl))
      · exact br_t rfl (nm_r (nI_1 (y + 1)) (gJ (by rw [e, w]; rfl)))
    have c1 : (nI (y + 1)).toNatClampNeg = y + 1 := nI_clamp (by omega)
    have c0 : (nI y).toNatClampNeg = y := nI_clamp (by omega)
    refine br_f (nI_nlt (a := 3) (by omega) (by decide)) ⟨vp_in_nI (by omega) (by decide), ?_⟩
    rw [nI_pred, c1, c0, ec y (by omega), rt (y + 1) (by omega)]
    refine ⟨vp_in_nI (by omega) (by decide), pk_le (ta_kd B y) (ta_g T (y + 1)) (fun z => g0 (by omega)) (fun z => ?_)⟩
    refine pk_eq (y + 1) 1 (fun w => g1 (by omega)) (fun w => ⟨vp_in_nI (by omega) (by decide), vp_in_nI (by omega) (by decide), ?_⟩)
    rw [rt y (by omega)]
    exact pk_le (ta_g T y) (ta_g T (y + 1)) (fun s => g0 (by omega)) (fun s => g1 (by omega))
theorem tx_nn {post : Int32 → Prop} {L N T : List Nat} {B a : Nat} (he : tc_env L B a_content a_rowOf a_placeOf) (hr : tc_arr L N T a_number a_counts) (ha : a < L.length) (hp : post (nI (tc_nx L N T B a (3 - ta_g N a) (ta_g N a + 1)))) : wpX_nextNumber post (f_cells, a_kept, a_large, a_content, a_rowOf, a_placeOf, a_number, a_counts) (nI a) := by
  have e6 := he.1
  have rn := hr.1
  have r3 := hr.2.2.2.2.1 a
  unfold wpX_nextNumber
  try dsimp only
  rw [nI_clamp (by omega), rn a ha]
  exact ⟨vp_in_nI (by omega) (by decide), nm_r (nI_1 _) ⟨4, tx_nn9 he hr ha (3 - ta_g N a) (ta_g N a) 4 (by omega) (by omega) hp⟩⟩
theorem tc_nxB (L N T : List Nat) (B a : Nat) : ∀ d x, x + d ≤ 4 → tc_nx L N T B a d x ≤ 3 ∧ (tc_nx L N T B a d x ≠ 0 → tc_en T B (tc_nx L N T B a d x) = true)
  | 0, _, _ => ⟨Nat.zero_le _, fun h => absurd rfl h⟩
  | d + 1, x, h => by
    show cond (tc_en T B x && tc_fit L N a x) x (tc_nx L N T B a d (x + 1)) ≤ 3 ∧ (cond (tc_en T B x && tc_fit L N a x) x (tc_nx L N T B a d (x + 1)) ≠ 0 → tc_en T B (cond (tc_en T B x && tc_fit L N a x) x (tc_nx L N T B a d (x + 1))) = true)
    cases e : (tc_en T B x && tc_fit L N a x) with
    | true => exact ⟨(by omega : x ≤ 3), fun _ => (ta_and e).1⟩
    | false => exact tc_nxB L N T B a d (x + 1) (by omega)
theorem tx_t58 {post : Int32 → SX → Prop} {J : Int32 → Int32 → Int32 → (Nat → Int32) → (Nat → Int32) → (Nat → Int32) → (Nat → Int32) → (Nat → Int32) → (Nat → Int32) → (Nat → Int32) → Prop} {x1 : Int32} {L N T : List Nat} {B a s : Nat} (he : tc_env L B a_content a_rowOf a_placeOf) (hr : tc_arr L N T a_number a_counts) (ha : a < L.length)
    (h0 : tc_nx L N T B a (3 - ta_g N a) (ta_g N a + 1) = 0 → J x1 (nI a - 1) (nI (s + 1)) a_kept a_large a_content a_rowOf a_placeOf (upd a_number a 0) a_counts)
    (h1 : tc_nx L N T B a (3 - ta_g N a) (ta_g N a + 1) ≠ 0 → J x1 (nI (a + 1)) (nI (s + 1)) a_kept a_large a_content a_rowOf a_placeOf (upd a_number a (nI (tc_nx L N T B a (3 - ta_g N a) (ta_g N a + 1)))) (upd a_counts (tc_nx L N T B a (3 - ta_g N a) (ta_g N a + 1)) (nI (ta_g T (tc_nx L N T B a (3 - ta_g N a) (ta_g N a + 1)) + 1)))) :
    wX_tryNumbers_58 post J x1 (nI a) (nI s) f_cells a_kept a_large a_content a_rowOf a_placeOf a_number a_counts := by
  have e6 := he.1
  have rt := hr.2.1
  have r3 := hr.2.2.2.2.1 a
  have hB := (tc_nxB L N T B a (3 - ta_g N a) (ta_g N a + 1) (by omega)).1
  have hia : vp_in (nI a) 6 := vp_in_nI (by omega) (by decide)
  have ca : (nI a).toNatClampNeg = a := nI_clamp (by omega)
  unfold wX_tryNumbers_58
  refine tx_nn he hr ha ?_
  generalize tc_nx L N T B a (3 - ta_g N a) (ta_g N a + 1) = w at h0 h1 hB ⊢
  have cw : (nI w).toNatClampNeg = w := nI_clamp (by omega)
  refine ⟨hia, nm_r (e' := upd a_number a (nI w)) (by rw [ca]) ⟨hia, ?_⟩⟩
  rw [ca, pk_us]
  refine pk_eq w 0 (fun z => ?_) (fun z => ⟨hia, vp_in_nI (by omega) (by decide), vp_in_nI (by omega) (by decide), ?_⟩)
  · subst z
    exact nm_r (tg_m1 a) (nm_r (nI_1 s) (h0 rfl))
  · refine nm_r (e' := upd a_counts w (nI (ta_g T w + 1))) (by rw [cw, rt w (by omega), nI_1]) (nm_r (nI_1 a) (nm_r (nI_1 s) (h1 z)))
theorem tc_arrN {L N T : List Nat} {an ct : Nat → Int32} {a w : Nat} (hr : tc_arr L N T an ct) (ha : a < L.length) (hw : w ≤ 3) : tc_arr L (ta_st N a w) T (upd an a (nI w)) ct := by
  have ⟨rn, rt, rl, rm, r3, r9⟩ := hr
  refine ⟨?_, rt, by rw [ta_stL]; exact rl, rm, ?_, r9⟩
  · intro i hi
    by_cases e : i = a
    · subst e
      rw [pk_us, ta_stS N i w (by omega)]
    · rw [pk_un e, ta_stN N a w i e]
      exact rn i hi
  · intro i
    by_cases e : i = a
    · subst e
      rw [ta_stS N i w (by omega)]
      exact hw
    · rw [ta_stN N a w i e]
      exact r3 i
theorem tc_arrT {L N T : List Nat} {an ct : Nat → Int32} {v w : Nat} (hr : tc_arr L N T an ct) (hv : v < 4) (hw : w ≤ 9) : tc_arr L N (ta_st T v w) an (upd ct v (nI w)) := by
  have ⟨rn, rt, rl, rm, r3, r9⟩ := hr
  refine ⟨rn, ?_, rl, by rw [ta_stL]; exact rm, r3, ?_⟩
  · intro i hi
    by_cases e : i = v
    · subst e
      rw [pk_us, ta_stS T i w (by omega)]
    · rw [pk_un e, ta_stN T v w i e]
      exact rt i hi
  · intro i
    by_cases e : i = v
    · subst e
      rw [ta_stS T i w (by omega)]
      exact hw
    · rw [ta_stN T v w i e]
      exact r9 i
theorem tx_try6 {post : Int32 → SX → Prop} {L : List Nat} {B r : Nat} (he : tc_env L B a_content a_rowOf a_placeOf) (hp : ∀ an ct : Nat → Int32, post (nI r) (nI L.length, a_kept, a_large, a_content, a_rowOf, a_placeOf, an, ct)) : ∀ k f a1 N T n s x2 (an ct : Nat → Int32), tc_run L B k f a1 N T = some r → k < n → s + k ≤ 5000 → a1 ≤ L.length + 1 → x2 = nI a1 - 1 → tc_arr L N T an ct → wX_tryNumbers_6 post (nI L.length) n (nI f) x2 (nI s) a_kept a_large a_content a_rowOf a_placeOf an ct := by
  have e6 := he.1
  intro k
  induction k with
  | zero => intro f a1 N T n s x2 an ct hrun; exact absurd hrun (by intro z; cases z)
  | succ k ih =>
    intro f a1 N T n s x2 an ct hrun hn hs h1 hx hr
    obtain ⟨m, rfl⟩ : ∃ m, n = m + 1 := ⟨n - 1, by omega⟩
    have hs5 : ¬ (5000 : Int32) ≤ nI s := nI_ge (b := 5000) (by omega) (by decide)
    cases a1 with
    | zero =>
      subst hx
      have e : f = r := Option.some.inj hrun
      subst e
      exact br_f hs5 (br_t tg_neg (hp an ct))
    | succ a =>
      rw [nI_pred] at hx
      subst hx
      have ⟨rn, rt, rl, rm, r3, r9⟩ := hr
      have hrun' : cond (Nat.beq a L.length) (tc_run L B k (f + 1) a N T) (cond (tc_bad L N T a) none (cond (Nat.beq (tc_w L N T B a) 0) (tc_run L B k f a (ta_st N a 0) (tc_T1 N T a)) (tc_run L B k f (a + 2) (ta_st N a (tc_w L N T B a)) (ta_st (tc_T1 N T a) (tc_w L N T B a) (ta_g (tc_T1 N T a) (tc_w L N T B a) + 1))))) = some r := hrun
      refine br_f hs5 (br_f (nI_pos (by omega)) (pk_eq a L.length (fun z => ?_) (fun z => ?_)))
      · rw [show Nat.beq a L.length = true from by rw [Nat.beq_eq]; exact z] at hrun'
        exact nm_r (nI_1 f) (nm_r (tg_m1 a) (nm_r (nI_1 s) (ih (f + 1) a N T m (s + 1) _ an ct hrun' (by omega) (by omega) (by omega) rfl hr)))
      · have eb : Nat.beq a L.length = false := by
          cases e : Nat.beq a L.length with
          | false => rfl
          | true => rw [Nat.beq_eq] at e; exact (z e).elim
        rw [eb] at hrun'
        cases hbad : tc_bad L N T a with
        | true => rw [hbad] at hrun'; exact absurd hrun' (by intro z; cases z)
        | false =>
          rw [hbad] at hrun'
          have hb2 : a < L.length ∧ (ta_g N a = 0 ∨ 0 < ta_g T (ta_g N a)) := by
            unfold tc_bad at hbad
            rw [Bool.or_eq_false_iff, Bool.or_eq_false_iff, Bool.and_eq_false_iff] at hbad
            have q1 : ¬ L.length ≤ a := fun z => by rw [← Nat.ble_eq, hbad.1] at z; exact absurd z (by decide)
            refine ⟨by omega, ?_⟩
            rcases hbad.2.2 with q | q
            · left
              have : ¬ 0 < ta_g N a := fun z => by rw [← Nat.blt_eq, q] at z; exact absurd z (by decide)
              omega
            · right
              have : ¬ ta_g T (ta_g N a) = 0 := fun z => by rw [← Nat.beq_eq, q] at z; exact absurd z (by decide)
              omega
          have ha := hb2.1
          have hia : vp_in (nI a) 6 := vp_in_nI (by omega) (by decide)
          have ca : (nI a).toNatClampNeg = a := nI_clamp (by omega)
          have r3a := r3 a
          have go : ∀ ct', tc_arr L N (tc_T1 N T a) an ct' → wX_tryNumbers_58 post (wX_tryNumbers_6 post (nI L.length) m) (nI f) (nI a) (nI s) (nI L.length) a_kept a_large a_content a_rowOf a_placeOf an ct' := by
            intro ct' hr'
            refine tx_t58 he hr' ha (fun w0 => ?_) (fun w1 => ?_)
            · have ew : Nat.beq (tc_w L N T B a) 0 = true := by rw [Nat.beq_eq]; exact w0
              rw [ew] at hrun'
              exact ih f a (ta_st N a 0) (tc_T1 N T a) m (s + 1) _ _ _ hrun' (by omega) (by omega) (by omega) rfl (tc_arrN (w := 0) hr' ha (by decide))
            · have ew : Nat.beq (tc_w L N T B a) 0 = false := by
                cases e : Nat.beq (tc_w L N T B a) 0 with
                | false => rfl
                | true => rw [Nat.beq_eq] at e; exact (w1 e).elim
              rw [ew] at hrun'
              have hB := tc_nxB L N (tc_T1 N T a) B a (3 - ta_g N a) (ta_g N a + 1) (by omega)
              have hen := hB.2 w1
              unfold tc_en at hen
              have hlt := (ta_and hen).1
              rw [Nat.blt_eq] at hlt
              have hk6 := he.2.2.2.2 (tc_nx L N (tc_T1 N T a) B a (3 - ta_g N a) (ta_g N a + 1) - 1)
              have hw3 : tc_w L N T B a < 4 := by
                show tc_nx L N (tc_T1 N T a) B a (3 - ta_g N a) (ta_g N a + 1) < 4
                have := hB.1
                omega
              have hw9 : ta_g (tc_T1 N T a) (tc_w L N T B a) + 1 ≤ 9 := by
                show ta_g (tc_T1 N T a) (tc_nx L N (tc_T1 N T a) B a (3 - ta_g N a) (ta_g N a + 1)) + 1 ≤ 9
                omega
              exact ih f (a + 2) (ta_st N a (tc_w L N T B a)) (ta_st (tc_T1 N T a) (tc_w L N T B a) (ta_g (tc_T1 N T a) (tc_w L N T B a) + 1)) m (s + 1) _ _ _ hrun' (by omega) (by omega) (by omega) (nI_pred (a + 1)).symm (tc_arrT (tc_arrN hr' ha hB.1) hw3 hw9)
          refine ⟨hia, ?_⟩
          rw [ca, rn a ha]
          refine pk_le (ta_g N a) 0 (fun y => ?_) (fun y => ⟨hia, vp_in_nI (by omega) (by decide), vp_in_nI (by omega) (by decide), ?_⟩)
          · refine go ct ?_
            unfold tc_T1
            rw [show Nat.beq (ta_g N a) 0 = true from by rw [Nat.beq_eq]; omega]
            exact hr
          · have hT := hb2.2
            have e1 : tc_T1 N T a = ta_st T (ta_g N a) (ta_g T (ta_g N a) - 1) := by
              unfold tc_T1
              rw [show Nat.beq (ta_g N a) 0 = false from by
                cases e : Nat.beq (ta_g N a) 0 with
                | false => rfl
                | true => rw [Nat.beq_eq] at e; omega]
              rfl
            have cv : (nI (ta_g N a)).toNatClampNeg = ta_g N a := nI_clamp (by omega)
            have ed : ct (ta_g N a) - 1 = nI (ta_g T (ta_g N a) - 1) := by
              rw [rt (ta_g N a) (by omega)]
              exact pk_sub (b := 1) (by omega)
            refine nm_r (e' := upd ct (ta_g N a) (nI (ta_g T (ta_g N a) - 1))) (by rw [cv, ed]) (go _ ?_)
            rw [e1]
            exact tc_arrT hr (by omega) (by have := r9 (ta_g N a); omega)
theorem tx_cf116 {post : Int32 → SX → Prop} {K B S : Nat} (hK : ta_shb K = true) (hB : ta_shb B = true) (hS : ta_shb S = true) (hs : ta_sz K + ta_sz B ≤ 6) (hk : ∀ i, i < 3 → a_kept i = nI (ta_kd K i)) (hl : ∀ i, i < 3 → a_large i = nI (ta_kd S i)) (hc : ∀ i, i < 3 → a_content i = nI (ta_kd B i)) (h0 : K / 100 ≤ S / 100) (h1 : K / 10 % 10 ≤ S / 10 % 10) (h2 : K % 10 ≤ S % 10)
    (hp : ∀ (fc : Int32) (r p u ct : Nat → Int32), post (nI (ta_c K B S)) (fc, a_kept, a_large, a_content, r, p, u, ct)) :
    wX_countFillings_116 post (nI B) (nI S) 1 f_cells a_kept a_large a_content a_rowOf a_placeOf a_number a_counts := by
  have k0 : a_kept 0 = nI (K / 100) := hk 0 (by decide)
  have k1 : a_kept 1 = nI (K / 10 % 10) := hk 1 (by decide)
  have k2 : a_kept 2 = nI (K % 10) := hk 2 (by decide)
  have b6 := ta_600 hB
  have q6 := ta_600 hS
  have zs := ta_sz6 hS
  have hcf := td_cfE hK hB hs hS
  have hin : tc_in K B S = Nat.beq (ta_sz S) (ta_sz K + ta_sz B) := by
    unfold tc_in
    rw [show Nat.ble (K / 100) (S / 100) = true from by rw [Nat.ble_eq]; exact h0, show Nat.ble (K / 10 % 10) (S / 10 % 10) = true from by rw [Nat.ble_eq]; exact h1, show Nat.ble (K % 10) (S % 10) = true from by rw [Nat.ble_eq]; exact h2]
    rfl
  unfold wX_countFillings_116
  refine br_f (by decide) (tx_sz (by omega) ?_)
  unfold wpX_keptSize
  try dsimp only
  rw [k0, k1, k2, nI_add, nI_add]
  refine tx_sz (by omega) ?_
  refine pk_eq (ta_sz S) (ta_sz K + ta_sz B) (fun z => ?_) (fun z => ?_) (hy := nI_add (ta_sz K) (ta_sz B))
  · refine tx_lc hK hS hk hl ?_
    intro r p u ct hh hu hct
    try dsimp only
    unfold wpX_tryNumbers
    try dsimp only
    have hrun : tc_run (tc_cl K S) B 20 0 1 (List.replicate (tc_cl K S).length 0) [0, 0, 0, 0] = some (ta_c K B S) := by
      unfold tc_cf at hcf
      rw [hin, show Nat.beq (ta_sz S) (ta_sz K + ta_sz B) = true from by rw [Nat.beq_eq]; exact z] at hcf
      exact hcf
    have hL := td_cl6 hK hS
    refine ⟨21, tx_try6 (L := tc_cl K S) (B := B) ⟨hL.1, hh, hL.2, hc, ta_kd6 hB⟩ (fun an ct => hp _ r p an ct) 20 0 1 _ _ 21 0 _ u ct hrun (by decide) (by decide) (by omega) rfl ⟨?_, ?_, List.length_replicate, rfl, ?_, ?_⟩⟩
    · intro i hi
      rw [ta_gR, hu i hi]
      rfl
    · intro i hi
      rw [hct i hi]
      match i, hi with
      | 0, _ => rfl
      | 1, _ => rfl
      | 2, _ => rfl
      | 3, _ => rfl
    · intro i
      rw [ta_gR]
      decide
    · intro i
      match i with
      | 0 => decide
      | 1 => decide
      | 2 => decide
      | 3 => decide
      | _ + 4 => exact Nat.zero_le _
  · have e : ta_c K B S = 0 := by
      have hf : tc_in K B S = false := by
        rw [hin]
        cases e : Nat.beq (ta_sz S) (ta_sz K + ta_sz B) with
        | false => rfl
        | true => rw [Nat.beq_eq] at e; exact (z e).elim
      unfold ta_c tc_cf
      rw [hf]
      rfl
    rw [e] at hp
    exact hp _ _ _ _ _
theorem tx_cf {post : Int32 → SX → Prop} {K B S : Nat} (hK : ta_shb K = true) (hB : ta_shb B = true) (hS : ta_shb S = true) (hs : ta_sz K + ta_sz B ≤ 6) (hk : ∀ i, i < 3 → a_kept i = nI (ta_kd K i))
    (hp : ∀ (fc : Int32) (al ac r p u ct : Nat → Int32), post (nI (ta_c K B S)) (fc, a_kept, al, ac, r, p, u, ct)) :
    wpX_countFillings post (f_cells, a_kept, a_large, a_content, a_rowOf, a_placeOf, a_number, a_counts) (nI B) (nI S) := by
  have k0 : a_kept 0 = nI (K / 100) := hk 0 (by decide)
  have k1 : a_kept 1 = nI (K / 10 % 10) := hk 1 (by decide)
  have k2 : a_kept 2 = nI (K % 10) := hk 2 (by decide)
  have b6 := ta_600 hB
  have q6 := ta_600 hS
  have p6 := ta_600 hK
  have hSl : S < 2 ^ 31 := by omega
  have hBl : B < 2 ^ 31 := by omega
  have hF : ¬ (K / 100 ≤ S / 100 ∧ K / 10 % 10 ≤ S / 10 % 10 ∧ K % 10 ≤ S % 10) → ∀ (al ac : Nat → Int32), wX_countFillings_115 post (nI B) (nI S) f_cells a_kept al ac a_rowOf a_placeOf a_number a_counts := by
    intro z al ac
    have e : ta_c K B S = 0 := by
      have hf : tc_in K B S = false := by
        cases e : tc_in K B S with
        | false => rfl
        | true =>
          unfold tc_in at e
          rw [Bool.and_eq_true, Bool.and_eq_true, Bool.and_eq_true, Nat.ble_eq, Nat.ble_eq, Nat.ble_eq] at e
          exact (z ⟨e.1, e.2.1, e.2.2.1⟩).elim
      unfold ta_c tc_cf
      rw [hf]
      rfl
    unfold wX_countFillings_115 wX_countFillings_116
    rw [e] at hp
    exact br_t rfl (hp _ _ _ _ _ _ _)
  unfold wpX_countFillings
  try dsimp only
  rw [tf_100 hSl, tf_10 hSl, tf_1 hSl, tf_100 hBl, tf_10 hBl, tf_1 hBl, k0, k1, k2]
  have kdU : ∀ (a : Nat → Int32) (M : Nat), ∀ i, i < 3 → upd (upd (upd a 0 (nI (M / 100))) 1 (nI (M / 10 % 10))) 2 (nI (M % 10)) i = nI (ta_kd M i) := by
    intro a M i hi
    match i, hi with
    | 0, _ => rfl
    | 1, _ => rfl
    | 2, _ => rfl
  refine ⟨by decide, nm_e ⟨by decide, by decide, nm_e ⟨by decide, nm_e ⟨by decide, nm_e ⟨by decide, by decide, nm_e ⟨by decide, nm_e ?_⟩⟩⟩⟩⟩⟩
  refine pk_lt (S / 100) (K / 100) (fun z => hF (by omega) _ _) (fun z0 => ?_)
  refine pk_lt (S / 10 % 10) (K / 10 % 10) (fun z => hF (by omega) _ _) (fun z1 => ?_)
  refine pk_lt (S % 10) (K % 10) (fun z => hF (by omega) _ _) (fun z2 => ?_)
  exact tx_cf116 hK hB hS hs hk (kdU a_large S) (kdU a_content B) z0 z1 z2 (fun fc r p u ct => hp fc _ _ r p u ct)
end
end
section
/-! ===== the reference: cells, order, digits, contents, the polynomial of a shape ===== -/
theorem ty_cl60 : ta_shl.all (fun K => (ta_cl K).all fun x => Nat.ble x 29 && Nat.ble (x % 10) 5) = true := by decide +kernel
theorem ty_cl6 {K : Nat} (hK : ta_shb K = true) : ∀ i, ta_g (ta_cl K) i ≤ 29 ∧ ta_g (ta_cl K) i % 10 ≤ 5 := by
  intro i
  have h2 := ta_and (ta_gAll (P := fun x => Nat.ble x 29 && Nat.ble (x % 10) 5) rfl _ (ta_all ty_cl60 hK) i)
  rw [Nat.ble_eq, Nat.ble_eq] at h2
  exact h2
theorem ta_qI0 {L : List Nat} {ris : Bool} {l : List Nat} (h : l.length = L.length) : ta_q L ris l = true ↔ ∀ a, a < L.length → ∀ b, b < L.length → ta_ok ris (ta_g L a) (ta_g L b) (ta_g l a) (ta_g l b) = true := by
  rw [ta_qI, h, Nat.sub_self]
  constructor
  · intro z a ha b hb
    have := z a ha b hb
    rw [Nat.zero_add, Nat.zero_add] at this
    exact this
  · intro z a ha b hb
    rw [Nat.zero_add, Nat.zero_add]
    exact z a ha b hb
theorem ta_okI {ris : Bool} {ca cb ga gb : Nat} (ha : ca ≤ 29 ∧ ca % 10 ≤ 5) (hb : cb ≤ 29 ∧ cb % 10 ≤ 5) : ta_ok ris ca cb ga gb = true ↔ (((ca / 10 = cb / 10 ∧ cb % 10 = ca % 10 + 1) → (ga ≤ gb ∧ (ris = true → ga ≠ gb))) ∧ ((ca % 10 = cb % 10 ∧ cb / 10 = ca / 10 + 1) → ga < gb)) := by
  unfold ta_ok
  cases e1 : Nat.beq cb (ca + 1) with
  | true =>
    rw [Nat.beq_eq] at e1
    cases ris with
    | true =>
      show Nat.blt ga gb = true ↔ _
      rw [Nat.blt_eq]
      constructor
      · intro z; exact ⟨fun _ => ⟨by omega, fun _ => by omega⟩, fun w => by omega⟩
      · intro z
        have z1 := (z.1 (by omega)).1
        have z2 := (z.1 (by omega)).2 rfl
        omega
    | false =>
      show Nat.ble ga gb = true ↔ _
      rw [Nat.ble_eq]
      constructor
      · intro z; exact ⟨fun _ => ⟨z, fun w => absurd w (by decide)⟩, fun w => by omega⟩
      · intro z; exact (z.1 (by omega)).1
  | false =>
    have n1 : ¬ cb = ca + 1 := fun z => by rw [← Nat.beq_eq, e1] at z; exact absurd z (by decide)
    cases e2 : Nat.beq cb (ca + 10) with
    | true =>
      rw [Nat.beq_eq] at e2
      show Nat.blt ga gb = true ↔ _
      rw [Nat.blt_eq]
      constructor
      · intro z; exact ⟨fun w => by omega, fun _ => z⟩
      · intro z; exact z.2 (by omega)
    | false =>
      have n2 : ¬ cb = ca + 10 := fun z => by rw [← Nat.beq_eq, e2] at z; exact absurd z (by decide)
      constructor
      · intro _; exact ⟨fun w => by omega, fun w => by omega⟩
      · intro _; rfl
def te_cv (g : List Nat) (v : Nat) : Nat → Nat → Nat
  | 0, _ => 0
  | d + 1, i => cond (Nat.beq (ta_g g i) v) 1 0 + te_cv g v d (i + 1)
theorem te_cvS (x : Nat) (g : List Nat) (v : Nat) : ∀ d i, te_cv (x :: g) v d (i + 1) = te_cv g v d i
  | 0, _ => rfl
  | d + 1, i => by
    show cond (Nat.beq (ta_g g i) v) 1 0 + te_cv (x :: g) v d (i + 1 + 1) = cond (Nat.beq (ta_g g i) v) 1 0 + te_cv g v d (i + 1)
    rw [te_cvS x g v d (i + 1)]
theorem te_cvC (v : Nat) : ∀ g : List Nat, te_cv g v g.length 0 = g.count v
  | [] => rfl
  | x :: g => by
    show cond (Nat.beq x v) 1 0 + te_cv (x :: g) v g.length (0 + 1) = List.count v (x :: g)
    rw [te_cvS, te_cvC v g, List.count_cons, Nat.add_comm]
    by_cases e : x = v
    · rw [if_pos (by rw [beq_iff_eq]; exact e), show Nat.beq x v = true from by rw [Nat.beq_eq]; exact e]
      rfl
    · rw [if_neg (by rw [beq_iff_eq]; exact e), show Nat.beq x v = false from by
        cases z : Nat.beq x v with
        | false => rfl
        | true => rw [Nat.beq_eq] at z; exact (e z).elim]
      rfl
section
variable {f_kept f_cells : Int32} {a_rows a_places a_given a_first a_second a_product : Nat → Int32}
theorem ty_l14 {post : SY → Prop} {J : Int32 → Int32 → (Nat → Int32) → (Nat → Int32) → (Nat → Int32) → (Nat → Int32) → (Nat → Int32) → (Nat → Int32) → Prop} {K i : Nat} {Bs : List Nat} (hK : ta_shb K = true) (hi : i < 3) (hl : Bs.length + ta_kd K i ≤ 6) (hJ : ∀ r' p' : Nat → Int32, tc_hd (Bs ++ ta_rowc i (ta_kd K i)) r' p' → J (nI (i + 1)) (nI (Bs ++ ta_rowc i (ta_kd K i)).length) r' p' a_given a_first a_second a_product) : ∀ d j n (r p : Nat → Int32), j + d = ta_kd K i → d < n → tc_hd (Bs ++ ta_rowc i j) r p → wY_lay_14 post J (nI K) (nI i) f_kept n (nI j) (nI (Bs ++ ta_rowc i j).length) r p a_given a_first a_second a_product := by
  have k6 := ta_600 hK
  have q6 := ta_kd6 hK i
  intro d
  induction d with
  | zero =>
    intro j n r p hd hn hh
    obtain ⟨m, rfl⟩ : ∃ m, n = m + 1 := ⟨n - 1, by omega⟩
    have e : j = ta_kd K i := by omega
    subst e
    rw [wY_lay_14]
    refine ty_row (K := K) (i := i) (by omega) hi ?_
    exact br_t (nI_le (by omega) (by omega)) (nm_r (nI_1 i) (hJ r p hh))
  | succ d ih =>
    intro j n r p hd hn hh
    obtain ⟨m, rfl⟩ : ∃ m, n = m + 1 := ⟨n - 1, by omega⟩
    rw [wY_lay_14]
    refine ty_row (K := K) (i := i) (by omega) hi ?_
    have hlen : (Bs ++ ta_rowc i j).length = Bs.length + j := by rw [List.length_append, ta_rowL]
    have d1 : (10 * i + j) / 10 = i := by omega
    have d2 : (10 * i + j) % 10 = j := by omega
    have hh' := tc_hdP (10 * i + j) hh
    rw [List.append_assoc] at hh'
    refine br_f (nI_ge (by omega) (by omega)) ⟨vp_in_nI (by omega) (by decide), nm_r (e' := upd r (Bs ++ ta_rowc i j).length (nI ((10 * i + j) / 10))) (by rw [nI_clamp (by omega), d1]) ⟨vp_in_nI (by omega) (by decide), nm_r (e' := upd p (Bs ++ ta_rowc i j).length (nI ((10 * i + j) % 10))) (by rw [nI_clamp (by omega), d2]) (nm_r (e' := nI (Bs ++ ta_rowc i (j + 1)).length) (by rw [nI_1, hlen, List.length_append, ta_rowL, Nat.add_assoc]) (nm_r (nI_1 j) (ih (j + 1) m _ _ (by omega) (by omega) hh')))⟩⟩
theorem ty_lay {post : SY → Prop} {K : Nat} (hK : ta_shb K = true) (hp : ∀ r p : Nat → Int32, tc_hd (ta_cl K) r p → post (f_kept, nI (ta_sz K), r, p, a_given, a_first, a_second, a_product)) : wpY_lay post (f_kept, f_cells, a_rows, a_places, a_given, a_first, a_second, a_product) (nI K) := by
  have h6 : ta_kd K 0 + ta_kd K 1 + ta_kd K 2 ≤ 6 := (ta_shI.mp hK).2.2
  unfold wpY_lay
  try dsimp only
  refine ⟨4, br_f (by decide) ⟨ta_kd K 0 + 1, ?_⟩⟩
  refine ty_l14 (i := 0) (Bs := []) hK (by decide) (by rw [List.length_nil]; omega) ?_ (ta_kd K 0) 0 _ _ _ (by omega) (by omega) (fun i hi => absurd hi (Nat.not_lt_zero _))
  intro r p hh
  refine br_f (by decide) ⟨ta_kd K 1 + 1, ?_⟩
  have hh1 : tc_hd (([] ++ ta_rowc 0 (ta_kd K 0)) ++ ta_rowc 1 0) r p := by
    show tc_hd (([] ++ ta_rowc 0 (ta_kd K 0)) ++ []) r p
    rw [List.append_nil]
    exact hh
  have el1 : nI ([] ++ ta_rowc 0 (ta_kd K 0)).length = nI (([] ++ ta_rowc 0 (ta_kd K 0)) ++ ta_rowc 1 0).length := by
    show _ = nI (([] ++ ta_rowc 0 (ta_kd K 0)) ++ []).length
    rw [List.append_nil]
  rw [el1]
  refine ty_l14 (i := 1) (Bs := [] ++ ta_rowc 0 (ta_kd K 0)) hK (by decide) (by rw [List.length_append, ta_rowL, List.length_nil]; omega) ?_ (ta_kd K 1) 0 _ _ _ (by omega) (by omega) hh1
  clear hh1 el1 hh r p
  intro r p hh
  refine br_f (by decide) ⟨ta_kd K 2 + 1, ?_⟩
  have hh1 : tc_hd ((([] ++ ta_rowc 0 (ta_kd K 0)) ++ ta_rowc 1 (ta_kd K 1)) ++ ta_rowc 2 0) r p := by
    show tc_hd ((([] ++ ta_rowc 0 (ta_kd K 0)) ++ ta_rowc 1 (ta_kd K 1)) ++ []) r p
    rw [List.append_nil]
    exact hh
  have el1 : nI (([] ++ ta_rowc 0 (ta_kd K 0)) ++ ta_rowc 1 (ta_kd K 1)).length = nI ((([] ++ ta_rowc 0 (ta_kd K 0)) ++ ta_rowc 1 (ta_kd K 1)) ++ ta_rowc 2 0).length := by
    show _ = nI ((([] ++ ta_rowc 0 (ta_kd K 0)) ++ ta_rowc 1 (ta_kd K 1)) ++ []).length
    rw [List.append_nil]
  rw [el1]
  refine ty_l14 (i := 2) (Bs := ([] ++ ta_rowc 0 (ta_kd K 0)) ++ ta_rowc 1 (ta_kd K 1)) hK (by decide) (by rw [List.length_append, List.length_append, ta_rowL, ta_rowL, List.length_nil]; omega) ?_ (ta_kd K 2) 0 _ _ _ (by omega) (by omega) hh1
  clear hh1 el1 hh r p
  intro r p hh
  refine br_t (by decide) ?_
  have ec : ([] ++ ta_rowc 0 (ta_kd K 0)) ++ ta_rowc 1 (ta_kd K 1) ++ ta_rowc 2 (ta_kd K 2) = ta_cl K := rfl
  rw [ec] at hh ⊢
  rw [ta_clL]
  exact hp r p hh
/-! the order -/
theorem ty_o96 {post : Int32 → Prop} {J2 J12 : Int32 → Prop} {x1 x4 z0 : Int32} {ris : Bool} {a b ga gb : Nat} {rt bl : Prop} (ha : a < 6) (hb : b < 6) (h1 : ga ≤ 9) (h2 : gb ≤ 9) (ea : a_given (nI a).toNatClampNeg = nI ga) (eb : a_given (nI b).toNatClampNeg = nI gb) (hi : (x1 = 0 ∧ ris = false) ∨ (x1 = 1 ∧ ris = true)) (hr : (x4 = 0 ∧ ¬ rt) ∨ (x4 = 1 ∧ rt)) (hl : (z0 = 0 ∧ ¬ bl) ∨ (z0 = 1 ∧ bl)) (hJ : ((rt → (ga ≤ gb ∧ (ris = true → ga ≠ gb))) ∧ (bl → ga < gb)) → J12 (nI (b + 1))) (h0 : ¬ ((rt → (ga ≤ gb ∧ (ris = true → ga ≠ gb))) ∧ (bl → ga < gb)) → post 0) : wY_ordered_96 post J2 J12 x1 (nI a) (nI b) x4 z0 f_kept f_cells a_rows a_places a_given a_first a_second a_product := by
  have hia : vp_in (nI a) 6 := vp_in_nI ha (by decide)
  have hib : vp_in (nI b) 6 := vp_in_nI hb (by decide)
  have h139 : ((bl → ga < gb) → J12 (nI (b + 1))) → (¬ (bl → ga < gb) → post 0) → wY_ordered_139 post J2 J12 x1 (nI a) (nI b) z0 f_kept f_cells a_rows a_places a_given a_first a_second a_product := by
    intro gJ g0
    unfold wY_ordered_139
    rcases hl with ⟨rfl, l⟩ | ⟨rfl, l⟩
    · exact br_t rfl (nm_r (nI_1 b) (gJ (fun z => absurd z l)))
    · exact br_f (by decide) ⟨hib, hia, pk_lt ga gb (fun z => nm_r (nI_1 b) (gJ (fun _ => z))) (fun z => g0 (fun w => by have := w l; omega)) (hx := ea) (hy := eb)⟩
  unfold wY_ordered_96
  rcases hr with ⟨rfl, r⟩ | ⟨rfl, r⟩
  · exact br_t rfl (h139 (fun z => hJ ⟨fun w => absurd w r, z⟩) (fun z => h0 (fun w => z w.2)))
  · refine br_f (by decide) ⟨hib, hia, pk_lt gb ga (fun z => h0 (fun w => by have := (w.1 r).1; omega)) (fun z => ?_) (hx := eb) (hy := ea)⟩
    rcases hi with ⟨rfl, i⟩ | ⟨rfl, i⟩
    · exact br_t rfl (h139 (fun y => hJ ⟨fun _ => ⟨z, fun w => by rw [i] at w; exact absurd w (by decide)⟩, y⟩) (fun y => h0 (fun w => y w.2)))
    · refine br_f (by decide) ⟨hib, hia, pk_eq gb ga (fun y => h0 (fun w => (w.1 r).2 i y.symm)) (fun y => ?_) (hx := eb) (hy := ea)⟩
      exact h139 (fun s => hJ ⟨fun _ => ⟨z, fun _ w => y w.symm⟩, s⟩) (fun s => h0 (fun w => s w.2))
def ty_env (L g : List Nat) (ar ap ag : Nat → Int32) : Prop := L.length ≤ 6 ∧ tc_hd L ar ap ∧ (∀ i, ta_g L i ≤ 29 ∧ ta_g L i % 10 ≤ 5) ∧ g.length = L.length ∧ (∀ i, i < L.length → ag i = nI (ta_g g i) ∧ ta_g g i ≤ 7)
theorem ty_o57 {post : Int32 → Prop} {J2 J12 : Int32 → Prop} {x1 z0 : Int32} {ris : Bool} {L g : List Nat} {a b : Nat} {rt : Prop} (he : ty_env L g a_rows a_places a_given) (ha : a < L.length) (hb : b < L.length) (hi : (x1 = 0 ∧ ris = false) ∨ (x1 = 1 ∧ ris = true)) (hr : (z0 = 0 ∧ ¬ rt) ∨ (z0 = 1 ∧ rt)) (hJ : ((rt → (ta_g g a ≤ ta_g g b ∧ (ris = true → ta_g g a ≠ ta_g g b))) ∧ ((ta_g L a % 10 = ta_g L b % 10 ∧ ta_g L b / 10 = ta_g L a / 10 + 1) → ta_g g a < ta_g g b)) → J12 (nI (b + 1))) (h0 : ¬ ((rt → (ta_g g a ≤ ta_g g b ∧ (ris = true → ta_g g a ≠ ta_g g b))) ∧ ((ta_g L a % 10 = ta_g L b % 10 ∧ ta_g L b / 10 = ta_g L a / 10 + 1) → ta_g g a < ta_g g b)) → post 0) : wY_ordered_57 post J2 J12 x1 (nI a) (nI b) z0 f_kept f_cells a_rows a_places a_given a_first a_second a_product := by
  have ⟨e6, eh, eb, el, eg⟩ := he
  have hia : vp_in (nI a) 6 := vp_in_nI (by omega) (by decide)
  have hib : vp_in (nI b) 6 := vp_in_nI (by omega) (by decide)
  have ba := eb a
  have bb := eb b
  have ca : (nI a).toNatClampNeg = a := nI_clamp (by omega)
  have cb : (nI b).toNatClampNeg = b := nI_clamp (by omega)
  have ga : a_given (nI a).toNatClampNeg = nI (ta_g g a) := by rw [ca]; exact (eg a ha).1
  have gb : a_given (nI b).toNatClampNeg = nI (ta_g g b) := by rw [cb]; exact (eg b hb).1
  have la := (eg a ha).2
  have lb := (eg b hb).2
  unfold wY_ordered_57 wY_ordered_95
  refine ⟨hia, hib, ?_⟩
  rw [ca, cb, (eh a ha).1, (eh b hb).1, (eh a ha).2, (eh b hb).2]
  refine pk_eq (ta_g L a % 10) (ta_g L b % 10) (fun z => ⟨hib, hia, ?_⟩) (fun z => ?_)
  · refine pk_eq (ta_g L b / 10) (ta_g L a / 10 + 1) (fun y => ?_) (fun y => ?_) (hy := nI_1 _)
    · exact ty_o96 (by omega) (by omega) (by omega) (by omega) ga gb hi hr (Or.inr ⟨rfl, ⟨z, y⟩⟩) hJ h0
    · exact ty_o96 (by omega) (by omega) (by omega) (by omega) ga gb hi hr (Or.inl ⟨rfl, fun w => y w.2⟩) hJ h0
  · exact ty_o96 (by omega) (by omega) (by omega) (by omega) ga gb hi hr (Or.inl ⟨rfl, fun w => z w.1⟩) hJ h0
theorem ty_o12 {post : Int32 → Prop} {J2 : Int32 → Prop} {x1 : Int32} {ris : Bool} {L g : List Nat} {a : Nat} (he : ty_env L g a_rows a_places a_given) (ha : a < L.length) (hi : (x1 = 0 ∧ ris = false) ∨ (x1 = 1 ∧ ris = true)) (hJ : (∀ b, b < L.length → ta_ok ris (ta_g L a) (ta_g L b) (ta_g g a) (ta_g g b) = true) → J2 (nI (a + 1))) (h0 : ¬ (∀ b, b < L.length → ta_ok ris (ta_g L a) (ta_g L b) (ta_g g a) (ta_g g b) = true) → post 0) : ∀ d b n, b + d = L.length → d < n → (∀ j, j < b → ta_ok ris (ta_g L a) (ta_g L j) (ta_g g a) (ta_g g j) = true) → wY_ordered_12 post J2 x1 (nI a) f_kept (nI L.length) a_rows a_places a_given a_first a_second a_product n (nI b) := by
  have ⟨e6, eh, eb, el, eg⟩ := he
  intro d
  induction d with
  | zero =>
    intro b n hd hn hj
    obtain ⟨m, rfl⟩ : ∃ m, n = m + 1 := ⟨n - 1, by omega⟩
    exact br_t (nI_le (by omega) (by omega)) (nm_r (nI_1 a) (hJ (fun j hj' => hj j (by omega))))
  | succ d ih =>
    intro b n hd hn hj
    obtain ⟨m, rfl⟩ : ∃ m, n = m + 1 := ⟨n - 1, by omega⟩
    have hb : b < L.length := by omega
    have hia : vp_in (nI a) 6 := vp_in_nI (by omega) (by decide)
    have hib : vp_in (nI b) 6 := vp_in_nI (by omega) (by decide)
    have ba := eb a
    have bb := eb b
    have ca : (nI a).toNatClampNeg = a := nI_clamp (by omega)
    have cb : (nI b).toNatClampNeg = b := nI_clamp (by omega)
    have gJ : ta_ok ris (ta_g L a) (ta_g L b) (ta_g g a) (ta_g g b) = true → wY_ordered_12 post J2 x1 (nI a) f_kept (nI L.length) a_rows a_places a_given a_first a_second a_product m (nI (b + 1)) := by
      intro z
      refine ih (b + 1) m (by omega) (by omega) ?_
      intro j hj'
      by_cases e : j = b
      · rw [e]; exact z
      · exact hj j (by omega)
    have g0 : ¬ ta_ok ris (ta_g L a) (ta_g L b) (ta_g g a) (ta_g g b) = true → post 0 := fun z => h0 (fun w => z (w b hb))
    refine br_f (nI_ge (by omega) (by omega)) ⟨hia, hib, ?_⟩
    rw [ca, cb, (eh a ha).1, (eh b hb).1, (eh a ha).2, (eh b hb).2]
    refine pk_eq (ta_g L a / 10) (ta_g L b / 10) (fun z => ⟨hib, hia, ?_⟩) (fun z => ?_)
    · refine pk_eq (ta_g L b % 10) (ta_g L a % 10 + 1) (fun y => ?_) (fun y => ?_) (hy := nI_1 _)
      · exact ty_o57 (rt := ta_g L a / 10 = ta_g L b / 10 ∧ ta_g L b % 10 = ta_g L a % 10 + 1) he ha hb hi (Or.inr ⟨rfl, ⟨z, y⟩⟩) (fun w => gJ ((ta_okI ba bb).mpr w)) (fun w => g0 (fun s => w ((ta_okI ba bb).mp s)))
      · exact ty_o57 (rt := ta_g L a / 10 = ta_g L b / 10 ∧ ta_g L b % 10 = ta_g L a % 10 + 1) he ha hb hi (Or.inl ⟨rfl, fun w => y w.2⟩) (fun w => gJ ((ta_okI ba bb).mpr w)) (fun w => g0 (fun s => w ((ta_okI ba bb).mp s)))
    · exact ty_o57 (rt := ta_g L a / 10 = ta_g L b / 10 ∧ ta_g L b % 10 = ta_g L a % 10 + 1) he ha hb hi (Or.inl ⟨rfl, fun w => z w.1⟩) (fun w => gJ ((ta_okI ba bb).mpr w)) (fun w => g0 (fun s => w ((ta_okI ba bb).mp s)))
theorem ty_o2 {post : Int32 → Prop} {x1 : Int32} {ris : Bool} {L g : List Nat} (he : ty_env L g a_rows a_places a_given) (hi : (x1 = 0 ∧ ris = false) ∨ (x1 = 1 ∧ ris = true)) (h1 : (∀ a, a < L.length → ∀ b, b < L.length → ta_ok ris (ta_g L a) (ta_g L b) (ta_g g a) (ta_g g b) = true) → post 1) (h0 : ¬ (∀ a, a < L.length → ∀ b, b < L.length → ta_ok ris (ta_g L a) (ta_g L b) (ta_g g a) (ta_g g b) = true) → post 0) : ∀ d a n, a + d = L.length → d < n → (∀ i, i < a → ∀ j, j < L.length → ta_ok ris (ta_g L i) (ta_g L j) (ta_g g i) (ta_g g j) = true) → wY_ordered_2 post x1 f_kept (nI L.length) a_rows a_places a_given a_first a_second a_product n (nI a) := by
  have e6 := he.1
  intro d
  induction d with
  | zero =>
    intro a n hd hn hj
    obtain ⟨m, rfl⟩ : ∃ m, n = m + 1 := ⟨n - 1, by omega⟩
    exact br_t (nI_le (by omega) (by omega)) (h1 (fun i hi' => hj i (by omega)))
  | succ d ih =>
    intro a n hd hn hj
    obtain ⟨m, rfl⟩ : ∃ m, n = m + 1 := ⟨n - 1, by omega⟩
    refine br_f (nI_ge (by omega) (by omega)) ⟨L.length + 1, ty_o12 he (by omega) hi (fun z => ?_) (fun z => ?_) L.length 0 (L.length + 1) (by omega) (by omega) (fun j hj' => absurd hj' (Nat.not_lt_zero _))⟩
    · refine ih (a + 1) m (by omega) (by omega) ?_
      intro i hi'
      by_cases e : i = a
      · rw [e]; exact z
      · exact hj i (by omega)
    · exact h0 (fun w => z (w a (by omega)))
theorem ty_ord {post : Int32 → Prop} {x1 : Int32} {ris : Bool} {L g : List Nat} (he : ty_env L g a_rows a_places a_given) (hi : (x1 = 0 ∧ ris = false) ∨ (x1 = 1 ∧ ris = true)) (h1 : ta_q L ris g = true → post 1) (h0 : ta_q L ris g = false → post 0) : wpY_ordered post (f_kept, nI L.length, a_rows, a_places, a_given, a_first, a_second, a_product) x1 := by
  unfold wpY_ordered
  try dsimp only
  refine ⟨L.length + 1, ty_o2 he hi (fun z => h1 ((ta_qI0 he.2.2.2.1).mpr z)) (fun z => h0 ?_) L.length 0 (L.length + 1) (by omega) (by omega) (fun j hj' => absurd hj' (Nat.not_lt_zero _))⟩
  cases e : ta_q L ris g with
  | false => rfl
  | true => exact (z ((ta_qI0 he.2.2.2.1).mp e)).elim
/-! digits -/
theorem ty_g5 {post : SY → Prop} {b c N : Nat} (hb : c ≠ 0 → 0 < b) (hb6 : b ≤ 6) (hc : c ≤ 6) (hp : ∀ ag : Nat → Int32, (∀ j, j < c → ag j = nI (ta_g (ta_dl b c N) j)) → post (f_kept, nI c, a_rows, a_places, ag, a_first, a_second, a_product)) : ∀ d i m n (ag : Nat → Int32), i + d = c → d < n → m < 2 ^ 31 → m = N / b ^ i → (∀ j, j < i → ag j = nI (ta_g (ta_dl b c N) j)) → wY_give_5 post (nI b) f_kept (nI c) n (nI m) (nI i) a_rows a_places ag a_first a_second a_product := by
  intro d
  induction d with
  | zero =>
    intro i m n ag hd hn hm he hj
    obtain ⟨n', rfl⟩ : ∃ n', n = n' + 1 := ⟨n - 1, by omega⟩
    exact br_t (nI_le (by omega) (by omega)) (hp ag (fun j hj' => hj j (by omega)))
  | succ d ih =>
    intro i m n ag hd hn hm he hj
    obtain ⟨n', rfl⟩ : ∃ n', n = n' + 1 := ⟨n - 1, by omega⟩
    have hb0 := hb (by omega)
    have hnb : ¬ nI b ≤ 0 := nI_nle hb0 (by omega)
    have hnz : ¬ nI b = 0 := nI_ne0 hb0 (by omega)
    have ev : (nI m - nI m / nI b * nI b) + 1 = nI (ta_g (ta_dl b c N) i) := by
      rw [pk_rem hm hb0 (by omega), nI_1, ta_dlG b c N i (by omega), he]
    have ed : nI m / nI b = nI (m / b) := pk_div hm hb0 (by omega)
    refine br_f (nI_ge (by omega) (by omega)) (br_f hnb ⟨hnz, ?_⟩)
    unfold wY_give_33
    rw [ev]
    refine ⟨vp_in_nI (by omega) (by decide), nm_r (e' := upd ag i (nI (ta_g (ta_dl b c N) i))) (by rw [nI_clamp (by omega)]) (br_f hnb ⟨hnz, nm_r ed (nm_r (nI_1 i) (ih (i + 1) (m / b) n' _ (by omega) (by omega) ?_ ?_ ?_))⟩)⟩
    · exact Nat.lt_of_le_of_lt (Nat.div_le_self m b) hm
    · rw [he, Nat.div_div_eq_div_mul, Nat.pow_succ]
    · intro j hj'
      by_cases e : j = i
      · subst e
        exact pk_us
      · rw [pk_un e]
        exact hj j (by omega)
theorem ty_give {post : SY → Prop} {b c N : Nat} (hb : c ≠ 0 → 0 < b) (hb6 : b ≤ 6) (hc : c ≤ 6) (hN : N < 2 ^ 31) (hp : ∀ ag : Nat → Int32, (∀ j, j < c → ag j = nI (ta_g (ta_dl b c N) j)) → post (f_kept, nI c, a_rows, a_places, ag, a_first, a_second, a_product)) : wpY_give post (f_kept, nI c, a_rows, a_places, a_given, a_first, a_second, a_product) (nI N) (nI b) := by
  unfold wpY_give
  try dsimp only
  exact ⟨c + 1, ty_g5 hb hb6 hc hp c 0 N (c + 1) _ (by omega) (by omega) hN (by rw [Nat.pow_zero, Nat.div_one]) (fun j hj' => absurd hj' (Nat.not_lt_zero _))⟩
theorem ty_pw4 {post : Int32 → Prop} {b e : Nat} (he : e ≤ 6) : ∀ d i n p, i + d = e → d < n → post (nI (p * b ^ d)) → wY_power_4 post (nI b) (nI e) n (nI p) (nI i) := by
  intro d
  induction d with
  | zero =>
    intro i n p hd hn hp
    obtain ⟨m, rfl⟩ : ∃ m, n = m + 1 := ⟨n - 1, by omega⟩
    rw [Nat.pow_zero, Nat.mul_one] at hp
    exact br_t (nI_le (by omega) (by omega)) hp
  | succ d ih =>
    intro i n p hd hn hp
    obtain ⟨m, rfl⟩ : ∃ m, n = m + 1 := ⟨n - 1, by omega⟩
    refine br_f (nI_ge (by omega) (by omega)) (nm_r (pk_mul p b) (nm_r (nI_1 i) (ih (i + 1) m (p * b) (by omega) (by omega) ?_)))
    rw [Nat.pow_succ, Nat.mul_comm (b ^ d) b, ← Nat.mul_assoc] at hp
    exact hp
theorem ty_pow {post : Int32 → Prop} {b e : Nat} (he : e ≤ 6) (hp : post (nI (b ^ e))) : wpY_power post (nI b) (nI e) := by
  unfold wpY_power
  exact ⟨e + 1, ty_pw4 he e 0 (e + 1) 1 (by omega) (by omega) (by rw [Nat.one_mul]; exact hp)⟩
theorem ty_cn4 {post : Int32 → Prop} {g : List Nat} {c v : Nat} (hc : c ≤ 6) (hv : v ≤ 7) (hg : ∀ i, i < c → a_given i = nI (ta_g g i) ∧ ta_g g i ≤ 7) : ∀ d i k n, i + d = c → d < n → post (nI (k + te_cv g v d i)) → wY_count_4 post (nI v) f_kept (nI c) a_rows a_places a_given a_first a_second a_product n (nI k) (nI i) := by
  intro d
  induction d with
  | zero =>
    intro i k n hd hn hp
    obtain ⟨m, rfl⟩ : ∃ m, n = m + 1 := ⟨n - 1, by omega⟩
    exact br_t (nI_le (by omega) (by omega)) hp
  | succ d ih =>
    intro i k n hd hn hp
    obtain ⟨m, rfl⟩ : ∃ m, n = m + 1 := ⟨n - 1, by omega⟩
    have hgi := hg i (by omega)
    have hp' : ∀ b, Nat.beq (ta_g g i) v = b → post (nI (k + (cond b 1 0 + te_cv g v d (i + 1)))) := by
      intro b hb
      rw [← hb]
      exact hp
    refine br_f (nI_ge (by omega) (by omega)) ⟨vp_in_nI (by omega) (by decide), ?_⟩
    rw [nI_clamp (by omega), hgi.1]
    refine pk_eq (ta_g g i) v (fun z => ?_) (fun z => ?_)
    · refine nm_r (nI_1 k) (nm_r (nI_1 i) (ih (i + 1) (k + 1) m (by omega) (by omega) ?_))
      have := hp' true (by rw [Nat.beq_eq]; exact z)
      rw [show cond true 1 0 = 1 from rfl, ← Nat.add_assoc] at this
      exact this
    · refine nm_r (nI_1 i) (ih (i + 1) k m (by omega) (by omega) ?_)
      have e : Nat.beq (ta_g g i) v = false := by
        cases e : Nat.beq (ta_g g i) v with
        | false => rfl
        | true => rw [Nat.beq_eq] at e; exact (z e).elim
      have := hp' false e
      rw [show cond false 1 0 = 0 from rfl, Nat.zero_add] at this
      exact this
theorem ty_cnt {post : Int32 → Prop} {g : List Nat} {c v : Nat} (hc : c ≤ 6) (hv : v ≤ 7) (hl : g.length = c) (hg : ∀ i, i < c → a_given i = nI (ta_g g i) ∧ ta_g g i ≤ 7) (hp : post (nI (g.count v))) : wpY_count post (f_kept, nI c, a_rows, a_places, a_given, a_first, a_second, a_product) (nI v) := by
  unfold wpY_count
  try dsimp only
  refine ⟨c + 1, ty_cn4 hc hv hg c 0 0 (c + 1) (by omega) (by omega) ?_⟩
  rw [Nat.zero_add, ← hl, te_cvC]
  exact hp
theorem ty_con {post : Int32 → Prop} {g : List Nat} {c : Nat} (hc : c ≤ 6) (hl : g.length = c) (hg : ∀ i, i < c → a_given i = nI (ta_g g i) ∧ ta_g g i ≤ 7) (hp : post (nI (ta_ct g))) : wpY_contentOf post (f_kept, nI c, a_rows, a_places, a_given, a_first, a_second, a_product) := by
  unfold wpY_contentOf
  try dsimp only
  refine ty_cnt (v := 1) hc (by decide) hl hg ?_
  refine ty_cnt (v := 2) hc (by decide) hl hg ?_
  refine ty_cnt (v := 3) hc (by decide) hl hg ?_
  rw [show (49 : Int32) * nI (g.count 1) = nI (49 * g.count 1) from pk_mul 49 _, show (7 : Int32) * nI (g.count 2) = nI (7 * g.count 2) from pk_mul 7 _, nI_add, nI_add]
  exact hp
end
end
section
/-! ===== the reference: expand, fillings, withContent, orders, turned ===== -/
def ty_fP (K i n : Nat) : Bool := ta_q (ta_cl K) false (ta_dl 3 (ta_sz K) n) && Nat.beq (ta_ct (ta_dl 3 (ta_sz K) n)) i
theorem ty_dl7 {b c N : Nat} (h0 : 0 < b) (hb : b ≤ 6) (i : Nat) (hi : i < c) : ta_g (ta_dl b c N) i ≤ 7 := by
  rw [ta_dlG b c N i hi]
  have := Nat.mod_lt (N / b ^ i) h0
  omega
theorem ty_ct343 {g : List Nat} (h : g.length ≤ 6) : ta_ct g < 343 := by
  unfold ta_ct
  have h1 : g.count 1 ≤ g.length := List.count_le_length
  have h2 : g.count 2 ≤ g.length := List.count_le_length
  have h3 : g.count 3 ≤ g.length := List.count_le_length
  omega
theorem ty_or (a b : Nat) : nI a ||| nI b = nI (a ||| b) := by
  apply Int32.toBitVec_inj.1
  show BitVec.ofNat 32 a ||| BitVec.ofNat 32 b = BitVec.ofNat 32 (a ||| b)
  apply BitVec.eq_of_getLsbD_eq
  intro i hi
  simp [hi]
section
variable {f_kept f_cells : Int32} {a_rows a_places a_given a_first a_second a_product : Nat → Int32}
theorem ty_ordc {post : Int32 → Prop} {x1 : Int32} {ris : Bool} {L g : List Nat} {c : Nat} (hc : c = L.length) (he : ty_env L g a_rows a_places a_given) (hi : (x1 = 0 ∧ ris = false) ∨ (x1 = 1 ∧ ris = true)) (h1 : ta_q L ris g = true → post 1) (h0 : ta_q L ris g = false → post 0) : wpY_ordered post (f_kept, nI c, a_rows, a_places, a_given, a_first, a_second, a_product) x1 := by
  rw [hc]
  exact ty_ord he hi h1 h0
theorem ty_e38 {post : SY → Prop} {K : Nat} (hK : ta_shb K = true) (hh : tc_hd (ta_cl K) a_rows a_places) (hp : ∀ ag sc : Nat → Int32, (∀ i, i < 343 → sc i = nI (ta_cn (ty_fP K i) (3 ^ ta_sz K))) → post (f_kept, nI (ta_sz K), a_rows, a_places, ag, a_first, sc, a_product)) : ∀ d m n (ag sc : Nat → Int32), m + d = 3 ^ ta_sz K → d < n → (∀ i, i < 343 → sc i = nI (ta_cn (ty_fP K i) m)) → wY_expand_38 post (nI (3 ^ ta_sz K)) n (nI m) f_kept (nI (ta_sz K)) a_rows a_places ag a_first sc a_product := by
  have h6 := ta_sz6 hK
  have h3 : 3 ^ ta_sz K ≤ 3 ^ 6 := Nat.pow_le_pow_right (by decide) h6
  have h729 : (3 : Nat) ^ 6 = 729 := by decide
  rw [h729] at h3
  generalize hM : 3 ^ ta_sz K = M at h3 hp ⊢
  intro d
  induction d with
  | zero =>
    intro m n ag sc hd hn hs
    obtain ⟨n', rfl⟩ : ∃ n', n = n' + 1 := ⟨n - 1, by omega⟩
    have e : m = M := by omega
    subst e
    exact br_t (nI_le (by omega) (by omega)) (hp ag sc hs)
  | succ d ih =>
    intro m n ag sc hd hn hs
    obtain ⟨n', rfl⟩ : ∃ n', n = n' + 1 := ⟨n - 1, by omega⟩
    refine br_f (nI_ge (by omega) (by omega)) (ty_give (b := 3) (fun _ => by decide) (by decide) h6 (by omega) (fun ag' hag => ?_))
    have hlen := ta_dlL 3 (ta_sz K) m
    have hg : ∀ i, i < ta_sz K → ag' i = nI (ta_g (ta_dl 3 (ta_sz K) m) i) ∧ ta_g (ta_dl 3 (ta_sz K) m) i ≤ 7 := fun i hi => ⟨hag i hi, ty_dl7 (by decide) (by decide) i hi⟩
    have hct : ta_ct (ta_dl 3 (ta_sz K) m) < 343 := ty_ct343 (by omega)
    try dsimp only
    refine ty_con h6 hlen hg ?_
    refine ty_ordc (ris := false) (L := ta_cl K) (g := ta_dl 3 (ta_sz K) m) (ta_clL K).symm ⟨by rw [ta_clL]; exact h6, hh, ty_cl6 hK, by rw [hlen, ta_clL], by rw [ta_clL]; exact hg⟩ (Or.inl ⟨rfl, rfl⟩) (fun z => ?_) (fun z => ?_)
    · refine br_f (by decide) ⟨vp_in_nI hct (by decide), vp_in_nI hct (by decide), nm_r (e' := upd sc (ta_ct (ta_dl 3 (ta_sz K) m)) (sc (ta_ct (ta_dl 3 (ta_sz K) m)) + 1)) (by rw [nI_clamp (by omega)]) (nm_r (nI_1 m) (ih (m + 1) n' ag' _ (by omega) (by omega) ?_))⟩
      intro i hi
      show _ = nI (ta_cn (ty_fP K i) m + cond (ty_fP K i m) 1 0)
      by_cases e : i = ta_ct (ta_dl 3 (ta_sz K) m)
      · have hf : ty_fP K i m = true := by
          unfold ty_fP
          rw [z, show Nat.beq (ta_ct (ta_dl 3 (ta_sz K) m)) i = true from by rw [Nat.beq_eq]; exact e.symm]
          rfl
        rw [hf, ← e, pk_us, hs i hi, nI_1]
        rfl
      · have hf : ty_fP K i m = false := by
          unfold ty_fP
          rw [show Nat.beq (ta_ct (ta_dl 3 (ta_sz K) m)) i = false from by
            cases y : Nat.beq (ta_ct (ta_dl 3 (ta_sz K) m)) i with
            | false => rfl
            | true => rw [Nat.beq_eq] at y; exact (e y.symm).elim]
          exact Bool.and_false _
        rw [hf, pk_un e, hs i hi]
        rfl
    · refine br_t rfl (nm_r (nI_1 m) (ih (m + 1) n' ag' sc (by omega) (by omega) ?_))
      intro i hi
      show _ = nI (ta_cn (ty_fP K i) m + cond (ty_fP K i m) 1 0)
      have hf : ty_fP K i m = false := by
        unfold ty_fP
        rw [z]
        rfl
      rw [hf, hs i hi]
      rfl
theorem ty_e7 {post : SY → Prop} {K : Nat} (hK : ta_shb K = true) (hh : tc_hd (ta_cl K) a_rows a_places) (hp : ∀ ag sc : Nat → Int32, (∀ i, i < 343 → sc i = nI (ta_cn (ty_fP K i) (3 ^ ta_sz K))) → post (f_kept, nI (ta_sz K), a_rows, a_places, ag, a_first, sc, a_product)) : ∀ d i n (sc : Nat → Int32), i + d = 343 → d < n → (∀ j, j < i → sc j = 0) → wY_expand_7 post f_kept (nI (ta_sz K)) n (nI i) a_rows a_places a_given a_first sc a_product := by
  have h6 := ta_sz6 hK
  intro d
  induction d with
  | zero =>
    intro i n sc hd hn hs
    obtain ⟨n', rfl⟩ : ∃ n', n = n' + 1 := ⟨n - 1, by omega⟩
    refine br_t (nI_le (a := 343) (by omega) (by omega)) (ty_pow (b := 3) h6 ⟨3 ^ ta_sz K + 1, ?_⟩)
    exact ty_e38 hK hh hp (3 ^ ta_sz K) 0 (3 ^ ta_sz K + 1) _ _ (Nat.zero_add _) (Nat.lt_succ_self _) (fun j hj => by rw [hs j (by omega)]; rfl)
  | succ d ih =>
    intro i n sc hd hn hs
    obtain ⟨n', rfl⟩ : ∃ n', n = n' + 1 := ⟨n - 1, by omega⟩
    refine br_f (nI_ge (b := 343) (by omega) (by decide)) ⟨vp_in_nI (by omega) (by decide), nm_r (e' := upd sc i 0) (by rw [nI_clamp (by omega)]) (nm_r (nI_1 i) (ih (i + 1) n' _ (by omega) (by omega) ?_))⟩
    intro j hj
    by_cases e : j = i
    · subst e
      exact pk_us
    · rw [pk_un e]
      exact hs j (by omega)
theorem ty_exp {post : SY → Prop} {K : Nat} (hK : ta_shb K = true) (hp : ∀ (fc : Int32) (r p ag sc : Nat → Int32), (∀ i, i < 343 → sc i = nI ((ta_tab K).count i)) → post (f_kept, fc, r, p, ag, a_first, sc, a_product)) : wpY_expand post (f_kept, f_cells, a_rows, a_places, a_given, a_first, a_second, a_product) (nI K) := by
  unfold wpY_expand
  try dsimp only
  refine ty_lay hK (fun r p hh => ?_)
  try dsimp only
  refine ⟨344, ty_e7 hK hh (fun ag sc hs => hp _ r p ag sc (fun i hi => ?_)) 343 0 344 _ (by decide) (by decide) (fun j hj => absurd hj (Nat.not_lt_zero _))⟩
  rw [hs i hi, ← ta_tabF hK, ← ta_sec K i]
  rfl
theorem ty_f12 {post : Int32 → SY → Prop} {F : List Nat} (hs : ∀ i, i < 343 → a_second i = nI (F.count i)) (hp : post (nI (ta_sm (fun i => F.count i) 343)) (f_kept, f_cells, a_rows, a_places, a_given, a_first, a_second, a_product)) : ∀ d i n, i + d = 343 → d < n → wY_fillings_12 post f_kept f_cells a_rows a_places a_given a_first a_second a_product n (nI (ta_sm (fun i => F.count i) i)) (nI i) := by
  intro d
  induction d with
  | zero =>
    intro i n hd hn
    obtain ⟨n', rfl⟩ : ∃ n', n = n' + 1 := ⟨n - 1, by omega⟩
    have e : i = 343 := by omega
    subst e
    exact br_t (nI_le (a := 343) (by omega) (by omega)) hp
  | succ d ih =>
    intro i n hd hn
    obtain ⟨n', rfl⟩ : ∃ n', n = n' + 1 := ⟨n - 1, by omega⟩
    exact br_f (nI_ge (b := 343) (by omega) (by decide)) ⟨vp_in_nI (by omega) (by decide), nm_r (e' := nI (ta_sm (fun i => F.count i) (i + 1))) (by rw [nI_clamp (by omega), hs i (by omega), nI_add]; rfl) (nm_r (nI_1 i) (ih (i + 1) n' (by omega) (by omega)))⟩
theorem ty_fil {post : Int32 → SY → Prop} {K : Nat} (hK : ta_shb K = true) (hp : ∀ (fc : Int32) (r p ag sc : Nat → Int32), post (nI (ta_tab K).length) (nI K, fc, r, p, ag, a_first, sc, a_product)) : wpY_fillings post (nI K, f_cells, a_rows, a_places, a_given, a_first, a_second, a_product) := by
  unfold wpY_fillings
  try dsimp only
  refine ty_exp hK (fun fc r p ag sc hs => ?_)
  try dsimp only
  refine ⟨344, ty_f12 (F := ta_tab K) hs ?_ 343 0 344 (by decide) (by decide)⟩
  rw [ta_len _ (fun x hx => ta_tab343 hK hx)]
  exact hp fc r p ag sc
theorem ty_wcT {post : Int32 → SY → Prop} {K c : Nat} (hK : ta_shb K = true) (h : ta_ctb c) (hp : ∀ (fc : Int32) (r p ag sc : Nat → Int32), post (nI ((ta_tab K).count (49 * (c / 100) + 7 * (c / 10 % 10) + c % 10))) (nI K, fc, r, p, ag, a_first, sc, a_product)) : wpY_withContent post (nI K, f_cells, a_rows, a_places, a_given, a_first, a_second, a_product) (nI c) := by
  have ⟨h1, h2, h3⟩ := h
  have hc : c < 2 ^ 31 := by omega
  unfold wpY_withContent
  try dsimp only
  refine ⟨by decide, nm_r (tf_100 hc) ⟨by decide, by decide, nm_r (tf_10 hc) ⟨by decide, nm_r (tf_1 hc) ?_⟩⟩⟩
  refine br_f (nI_pos hc) (br_f (nI_nlt (a := 6) h1 (by decide)) (br_f (nI_nlt (a := 6) h2 (by decide)) (br_t (nI_le (b := 6) h3 (by decide)) ?_)))
  refine ty_exp hK (fun fc r p ag sc hs => ?_)
  try dsimp only
  rw [show (49 : Int32) * nI (c / 100) = nI (49 * (c / 100)) from pk_mul 49 _, show (7 : Int32) * nI (c / 10 % 10) = nI (7 * (c / 10 % 10)) from pk_mul 7 _, nI_add, nI_add, nI_clamp (by omega), hs _ (by omega)]
  exact ⟨vp_in_nI (by omega) (by decide), hp fc r p ag sc⟩
theorem ty_wcF {post : Int32 → SY → Prop} {p0 : Int32} (h : ∀ c, ta_ctb c → p0 ≠ nI c) (hp : post (-1) (f_kept, f_cells, a_rows, a_places, a_given, a_first, a_second, a_product)) : wpY_withContent post (f_kept, f_cells, a_rows, a_places, a_given, a_first, a_second, a_product) p0 := by
  unfold wpY_withContent
  try dsimp only
  refine ⟨by decide, nm_e ⟨by decide, by decide, nm_e ⟨by decide, nm_e (br_c (fun _ => hp) (fun h0 => ?_))⟩⟩⟩
  obtain ⟨c, hc, rfl⟩ := nI_of h0
  have hn : ¬ (c / 100 ≤ 6 ∧ c / 10 % 10 ≤ 6 ∧ c % 10 ≤ 6) := fun z => h c z rfl
  rw [tf_100 hc, tf_10 hc, tf_1 hc]
  exact pk_lt 6 (c / 100) (fun _ => hp) (fun a => pk_lt 6 (c / 10 % 10) (fun _ => hp) (fun b => pk_le (c % 10) 6 (fun d => (hn ⟨a, b, d⟩).elim) (fun _ => hp)))
/-! orders -/
theorem ty_ad4 {post : Int32 → Prop} {g : List Nat} {c : Nat} (hc : c ≤ 6) (hg : ∀ i, i < c → a_given i = nI (ta_g g i) ∧ ta_g g i ≤ 7) (h1 : te_df c g = true → post 1) (h0 : te_df c g = false → post 0) : ∀ d i n, i + d = c → d < n → te_mk g i < 2 ^ 8 → wY_allDifferent_4 post f_kept (nI c) a_rows a_places a_given a_first a_second a_product n (nI (te_mk g i)) (nI i) := by
  intro d
  induction d with
  | zero =>
    intro i n hd hn hm
    obtain ⟨n', rfl⟩ : ∃ n', n = n' + 1 := ⟨n - 1, by omega⟩
    have e : i = c := by omega
    subst e
    have hp2 : 2 ^ i ≤ 2 ^ 6 := Nat.pow_le_pow_right (by decide) hc
    have hq2 : 0 < 2 ^ i := Nat.two_pow_pos i
    have es : (2 : Int32) <<< (nI i &&& 31) - 2 = nI (2 * 2 ^ i - 2) := by
      have e1 : (2 : Int32) <<< (nI i &&& 31) = nI (2 * 2 ^ i) := pk_shlN (n := 2) _ i (s_l i (by omega)) (by omega)
      rw [e1]
      exact pk_sub (b := 2) (by omega)
    refine br_t (nI_le (by omega) (by omega)) ?_
    refine pk_eq (te_mk g i) (2 * 2 ^ i - 2) (fun z => h1 ?_) (fun z => h0 ?_) (hy := es)
    · unfold te_df
      rw [Nat.beq_eq]
      exact z
    · unfold te_df
      cases y : Nat.beq (te_mk g i) (2 * 2 ^ i - 2) with
      | false => rfl
      | true => rw [Nat.beq_eq] at y; exact (z y).elim
  | succ d ih =>
    intro i n hd hn hm
    obtain ⟨n', rfl⟩ : ∃ n', n = n' + 1 := ⟨n - 1, by omega⟩
    have ⟨hg1, hg2⟩ := hg i (by omega)
    have hp2 : 2 ^ ta_g g i ≤ 2 ^ 7 := Nat.pow_le_pow_right (by decide) hg2
    have es : (1 : Int32) <<< (nI (ta_g g i) &&& 31) = nI (2 ^ ta_g g i) := by
      have e1 : (1 : Int32) <<< (nI (ta_g g i) &&& 31) = nI (1 * 2 ^ ta_g g i) := pk_shlN (n := 1) _ (ta_g g i) (s_l _ (by omega)) (by omega)
      rw [Nat.one_mul] at e1
      exact e1
    refine br_f (nI_ge (by omega) (by omega)) ⟨vp_in_nI (by omega) (by decide), nm_r (e' := nI (te_mk g (i + 1))) (by rw [nI_clamp (by omega), hg1, es, ty_or]; rfl) (nm_r (nI_1 i) (ih (i + 1) n' (by omega) (by omega) ?_))⟩
    show te_mk g i ||| 2 ^ ta_g g i < 2 ^ 8
    exact Nat.or_lt_two_pow hm (Nat.lt_of_le_of_lt hp2 (by decide))
theorem ty_ad {post : Int32 → Prop} {g : List Nat} {c : Nat} (hc : c ≤ 6) (hg : ∀ i, i < c → a_given i = nI (ta_g g i) ∧ ta_g g i ≤ 7) (h1 : te_df c g = true → post 1) (h0 : te_df c g = false → post 0) : wpY_allDifferent post (f_kept, nI c, a_rows, a_places, a_given, a_first, a_second, a_product) := by
  unfold wpY_allDifferent
  try dsimp only
  exact ⟨c + 1, ty_ad4 hc hg h1 h0 c 0 (c + 1) (by omega) (by omega) (show 0 < 2 ^ 8 from by decide)⟩
theorem ty_cc : ∀ c, c < 7 → c ^ c ≤ 46656 := by decide
theorem ty_o24 {post : Int32 → SY → Prop} {K : Nat} (hK : ta_shb K = true) (hh : tc_hd (ta_cl K) a_rows a_places) (hp : ∀ ag : Nat → Int32, post (nI (te_oy K)) (f_kept, nI (ta_sz K), a_rows, a_places, ag, a_first, a_second, a_product)) : ∀ d m n (ag : Nat → Int32), m + d = ta_sz K ^ ta_sz K → d < n → wY_orders_24 post (nI (ta_sz K ^ ta_sz K)) n (nI (ta_cn (fun n => te_op K (ta_dl (ta_sz K) (ta_sz K) n)) m)) (nI m) f_kept (nI (ta_sz K)) a_rows a_places ag a_first a_second a_product := by
  have h6 := ta_sz6 hK
  have h3 : ta_sz K ^ ta_sz K ≤ 46656 := ty_cc _ (by omega)
  have hoy := te_oyE K
  generalize hM : ta_sz K ^ ta_sz K = M at h3 hoy ⊢
  intro d
  induction d with
  | zero =>
    intro m n ag hd hn
    obtain ⟨n', rfl⟩ : ∃ n', n = n' + 1 := ⟨n - 1, by omega⟩
    have e : m = M := by omega
    subst e
    rw [hoy]
    exact br_t (nI_le (by omega) (by omega)) (hp ag)
  | succ d ih =>
    intro m n ag hd hn
    obtain ⟨n', rfl⟩ : ∃ n', n = n' + 1 := ⟨n - 1, by omega⟩
    refine br_f (nI_ge (by omega) (by omega)) (ty_give (b := ta_sz K) (fun z => by omega) h6 h6 (by omega) (fun ag' hag => ?_))
    have hlen := ta_dlL (ta_sz K) (ta_sz K) m
    have hg : ∀ i, i < ta_sz K → ag' i = nI (ta_g (ta_dl (ta_sz K) (ta_sz K) m) i) ∧ ta_g (ta_dl (ta_sz K) (ta_sz K) m) i ≤ 7 := fun i hi => ⟨hag i hi, ty_dl7 (by omega) h6 i hi⟩
    have goN : te_op K (ta_dl (ta_sz K) (ta_sz K) m) = false → wY_orders_24 post (nI M) n' (nI (ta_cn (fun n => te_op K (ta_dl (ta_sz K) (ta_sz K) n)) m)) (nI (m + 1)) f_kept (nI (ta_sz K)) a_rows a_places ag' a_first a_second a_product := by
      intro z
      have e : ta_cn (fun n => te_op K (ta_dl (ta_sz K) (ta_sz K) n)) (m + 1) = ta_cn (fun n => te_op K (ta_dl (ta_sz K) (ta_sz K) n)) m := by
        show ta_cn (fun n => te_op K (ta_dl (ta_sz K) (ta_sz K) n)) m + cond (te_op K (ta_dl (ta_sz K) (ta_sz K) m)) 1 0 = _
        rw [z]
        rfl
      rw [← e]
      exact ih (m + 1) n' ag' (by omega) (by omega)
    have goY : te_op K (ta_dl (ta_sz K) (ta_sz K) m) = true → wY_orders_24 post (nI M) n' (nI (ta_cn (fun n => te_op K (ta_dl (ta_sz K) (ta_sz K) n)) m + 1)) (nI (m + 1)) f_kept (nI (ta_sz K)) a_rows a_places ag' a_first a_second a_product := by
      intro z
      have e : ta_cn (fun n => te_op K (ta_dl (ta_sz K) (ta_sz K) n)) (m + 1) = ta_cn (fun n => te_op K (ta_dl (ta_sz K) (ta_sz K) n)) m + 1 := by
        show ta_cn (fun n => te_op K (ta_dl (ta_sz K) (ta_sz K) n)) m + cond (te_op K (ta_dl (ta_sz K) (ta_sz K) m)) 1 0 = _
        rw [z]
        rfl
      rw [← e]
      exact ih (m + 1) n' ag' (by omega) (by omega)
    try dsimp only
    refine ty_ad (g := ta_dl (ta_sz K) (ta_sz K) m) h6 hg (fun y => br_f (by decide) ?_) (fun y => br_t rfl (nm_r (nI_1 m) (goN (by unfold te_op; rw [y]; rfl))))
    refine ty_ordc (ris := true) (L := ta_cl K) (g := ta_dl (ta_sz K) (ta_sz K) m) (ta_clL K).symm ⟨by rw [ta_clL]; exact h6, hh, ty_cl6 hK, by rw [hlen, ta_clL], by rw [ta_clL]; exact hg⟩ (Or.inr ⟨rfl, rfl⟩) (fun z => ?_) (fun z => ?_)
    · exact br_f (by decide) (nm_r (nI_1 _) (nm_r (nI_1 m) (goY (by unfold te_op; rw [y, z]; rfl))))
    · exact br_t rfl (nm_r (nI_1 m) (goN (by unfold te_op; rw [y, z]; rfl)))
theorem ty_orders {post : Int32 → SY → Prop} {K : Nat} (hK : ta_shb K = true) (hp : ∀ (fc : Int32) (r p ag : Nat → Int32), post (nI (te_oy K)) (nI K, fc, r, p, ag, a_first, a_second, a_product)) : wpY_orders post (nI K, f_cells, a_rows, a_places, a_given, a_first, a_second, a_product) := by
  unfold wpY_orders
  try dsimp only
  refine ty_lay hK (fun r p hh => ?_)
  try dsimp only
  refine ty_pow (ta_sz6 hK) ⟨ta_sz K ^ ta_sz K + 1, ?_⟩
  exact ty_o24 hK hh (fun ag => hp _ r p ag) (ta_sz K ^ ta_sz K) 0 _ _ (Nat.zero_add _) (Nat.lt_succ_self _)
/-! turned -/
theorem ty_tu27 {post : Int32 → Prop} {J : Int32 → Int32 → Prop} {K j r : Nat} (hK : ta_shb K = true) (hj : j ≤ 6) : ∀ d k h n, k + d = 3 → d < n → J (nI (10 * r + (h + te_hs K j d k))) (nI (j + 1)) → wY_turned_27 post J (nI r) (nI j) (nI K) f_cells a_rows a_places a_given a_first a_second a_product n (nI h) (nI k) := by
  have h600 := ta_600 hK
  intro d
  induction d with
  | zero =>
    intro k h n hd hn hp
    obtain ⟨m, rfl⟩ : ∃ m, n = m + 1 := ⟨n - 1, by omega⟩
    exact br_t (nI_le (a := 3) (by omega) (by omega)) (nm_r (e' := nI (10 * r + h)) (by rw [show nI r * (10 : Int32) = nI (r * 10) from pk_mul r 10, nI_add, Nat.mul_comm]) (nm_r (nI_1 j) hp))
  | succ d ih =>
    intro k h n hd hn hp
    obtain ⟨m, rfl⟩ : ∃ m, n = m + 1 := ⟨n - 1, by omega⟩
    have h6 := ta_kd6 hK k
    have hp' : ∀ b, Nat.blt j (ta_kd K k) = b → J (nI (10 * r + (h + (cond b 1 0 + te_hs K j d (k + 1))))) (nI (j + 1)) := by
      intro b hb
      rw [← hb]
      exact hp
    refine br_f (nI_ge (b := 3) (by omega) (by decide)) (ty_row (by omega) (by omega) ?_)
    refine pk_le (ta_kd K k) j (fun z => ?_) (fun z => ?_)
    · refine nm_r (nI_1 k) (ih (k + 1) h m (by omega) (by omega) ?_)
      have e : Nat.blt j (ta_kd K k) = false := by
        cases e : Nat.blt j (ta_kd K k) with
        | false => rfl
        | true => rw [Nat.blt_eq] at e; omega
      have := hp' false e
      rw [show cond false 1 0 = 0 from rfl, Nat.zero_add] at this
      exact this
    · refine nm_r (nI_1 h) (nm_r (nI_1 k) (ih (k + 1) (h + 1) m (by omega) (by omega) ?_))
      have := hp' true (by rw [Nat.blt_eq]; exact z)
      rw [show cond true 1 0 = 1 from rfl, ← Nat.add_assoc h 1] at this
      exact this
theorem ty_turn {post : Int32 → Prop} {K : Nat} (hK : ta_shb K = true) (h3 : K / 100 ≤ 3 → post (nI (te_tu K))) (h4 : ¬ K / 100 ≤ 3 → post (-1)) : wpY_turned post (nI K, f_cells, a_rows, a_places, a_given, a_first, a_second, a_product) := by
  have h6 := ta_600 hK
  unfold wpY_turned
  try dsimp only
  rw [tf_100 (by omega)]
  refine ⟨by decide, pk_le (K / 100) 3 (fun z => ?_) (fun z => h4 (by omega))⟩
  refine ⟨4, br_f (by decide) ⟨4, ty_tu27 (r := 0) (j := 0) hK (by decide) 3 0 0 _ (by decide) (by decide) ?_⟩⟩
  refine br_f (by decide) ⟨4, ty_tu27 (j := 1) hK (by decide) 3 0 0 _ (by decide) (by decide) ?_⟩
  refine br_f (by decide) ⟨4, ty_tu27 (j := 2) hK (by decide) 3 0 0 _ (by decide) (by decide) ?_⟩
  exact br_t (by decide) (h3 z)
end
end
section
/-! ===== the reference: products and what is taken off them; the component's parts ===== -/
def tm_in (F G : List Nat) (i k j : Nat) : Nat := ta_sm (fun j' => if i + j' = k then F.count i * G.count j' else 0) j
theorem tm_inS (F G : List Nat) (i k j : Nat) : tm_in F G i k (j + 1) = tm_in F G i k j + (if i + j = k then F.count i * G.count j else 0) := rfl
section
variable {f_kept f_cells : Int32} {a_rows a_places a_given a_first a_second a_product : Nat → Int32}
theorem ty_m58 {post : SY → Prop} {J : Int32 → (Nat → Int32) → (Nat → Int32) → (Nat → Int32) → (Nat → Int32) → (Nat → Int32) → (Nat → Int32) → Prop} {F G : List Nat} {i bF bG : Nat} (hi : i < 343) (hF : ∀ x, x ∈ F → x ≤ bF) (hG : ∀ x, x ∈ G → x ≤ bG) (hb : bF + bG < 343) (lF : F.length ≤ 100) (lG : G.length ≤ 100) (ef : ∀ i, i < 343 → a_first i = nI (F.count i)) (eg : ∀ i, i < 343 → a_second i = nI (G.count i)) (base : Nat → Nat) (hJ : ∀ pr : Nat → Int32, (∀ k, k < 343 → pr k = nI (base k + tm_in F G i k 343)) → J (nI (i + 1)) a_rows a_places a_given a_first a_second pr) : ∀ d j n (pr : Nat → Int32), j + d = 343 → d < n → (∀ k, k < 343 → pr k = nI (base k + tm_in F G i k j)) → wY_multiply_58 post J (nI i) f_kept f_cells n (nI j) a_rows a_places a_given a_first a_second pr := by
  intro d
  induction d with
  | zero =>
    intro j n pr hd hn hpr
    obtain ⟨n', rfl⟩ : ∃ n', n = n' + 1 := ⟨n - 1, by omega⟩
    have e : j = 343 := by omega
    subst e
    exact br_t (nI_le (a := 343) (by omega) (by omega)) (nm_r (nI_1 i) (hJ pr hpr))
  | succ d ih =>
    intro j n pr hd hn hpr
    obtain ⟨n', rfl⟩ : ∃ n', n = n' + 1 := ⟨n - 1, by omega⟩
    have cF : F.count i ≤ F.length := List.count_le_length
    have cG : G.count j ≤ G.length := List.count_le_length
    have hj : j < 343 := by omega
    have skip : F.count i * G.count j = 0 → wY_multiply_58 post J (nI i) f_kept f_cells n' (nI (j + 1)) a_rows a_places a_given a_first a_second pr := by
      intro z
      refine ih (j + 1) n' pr (by omega) (by omega) ?_
      intro k hk
      rw [hpr k hk, tm_inS, z]
      by_cases e : i + j = k
      · rw [if_pos e, Nat.add_zero]
      · rw [if_neg e, Nat.add_zero]
    refine br_f (nI_ge (b := 343) (by omega) (by decide)) ⟨vp_in_nI hi (by decide), ?_⟩
    rw [nI_clamp (n := i) (by omega), nI_clamp (n := j) (by omega), nI_add i j, nI_clamp (n := i + j) (by omega), ef i hi, eg j hj]
    refine pk_le (F.count i) 0 (fun z => ?_) (fun z => ⟨vp_in_nI hj (by decide), pk_le (G.count j) 0 (fun y => ?_) (fun y => ?_)⟩)
    · exact nm_r (nI_1 j) (skip (by rw [show F.count i = 0 from by omega, Nat.zero_mul]))
    · exact nm_r (nI_1 j) (skip (by rw [show G.count j = 0 from by omega, Nat.mul_zero]))
    · have m1 := hF i (List.count_pos_iff.mp z)
      have m2 := hG j (List.count_pos_iff.mp y)
      have hij : i + j < 343 := by omega
      refine ⟨vp_in_nI hij (by decide), vp_in_nI hi (by decide), vp_in_nI hj (by decide), vp_in_nI hij (by decide), nm_r (e' := upd pr (i + j) (nI (base (i + j) + tm_in F G i (i + j) j + F.count i * G.count j))) (by rw [hpr (i + j) hij, pk_mul, nI_add]) (nm_r (nI_1 j) (ih (j + 1) n' _ (by omega) (by omega) ?_))⟩
      intro k hk
      by_cases e : k = i + j
      · subst e
        rw [pk_us, tm_inS, if_pos rfl, Nat.add_assoc]
      · rw [pk_un e, hpr k hk, tm_inS, if_neg (fun z => e z.symm), Nat.add_zero]
theorem ty_m49 {post : SY → Prop} {F G : List Nat} {bF bG : Nat} (hF : ∀ x, x ∈ F → x ≤ bF) (hG : ∀ x, x ∈ G → x ≤ bG) (hb : bF + bG < 343) (lF : F.length ≤ 100) (lG : G.length ≤ 100) (ef : ∀ i, i < 343 → a_first i = nI (F.count i)) (eg : ∀ i, i < 343 → a_second i = nI (G.count i)) (hp : ∀ pr : Nat → Int32, (∀ k, k < 343 → pr k = nI (ta_sm (fun i => tm_in F G i k 343) 343)) → post (f_kept, f_cells, a_rows, a_places, a_given, a_first, a_second, pr)) : ∀ d i n (pr : Nat → Int32), i + d = 343 → d < n → (∀ k, k < 343 → pr k = nI (ta_sm (fun i => tm_in F G i k 343) i)) → wY_multiply_49 post f_kept f_cells n (nI i) a_rows a_places a_given a_first a_second pr := by
  intro d
  induction d with
  | zero =>
    intro i n pr hd hn hpr
    obtain ⟨n', rfl⟩ : ∃ n', n = n' + 1 := ⟨n - 1, by omega⟩
    have e : i = 343 := by omega
    subst e
    exact br_t (nI_le (a := 343) (by omega) (by omega)) (hp pr hpr)
  | succ d ih =>
    intro i n pr hd hn hpr
    obtain ⟨n', rfl⟩ : ∃ n', n = n' + 1 := ⟨n - 1, by omega⟩
    refine br_f (nI_ge (b := 343) (by omega) (by decide)) ⟨344, ty_m58 (by omega) hF hG hb lF lG ef eg (fun k => ta_sm (fun i => tm_in F G i k 343) i) (fun pr' h' => ?_) 343 0 344 pr (by decide) (by decide) ?_⟩
    · exact ih (i + 1) n' pr' (by omega) (by omega) h'
    · intro k hk
      exact hpr k hk
theorem ty_m10 {post : SY → Prop} {x1 : Int32} (hp : ∀ fi pr : Nat → Int32, (∀ j, j < 343 → fi j = a_second j ∧ pr j = 0) → wpY_expand (fun u => match u with | (f_kept_12, f_cells_13, a_rows_14, a_places_15, a_given_16, a_first_17, a_second_18, a_product_19) => (∃ n49 : Nat, wY_multiply_49 post f_kept_12 f_cells_13 n49 0 a_rows_14 a_places_15 a_given_16 a_first_17 a_second_18 a_product_19)) (f_kept, f_cells, a_rows, a_places, a_given, fi, a_second, pr) x1) : ∀ d i n (fi pr : Nat → Int32), i + d = 343 → d < n → (∀ j, j < i → fi j = a_second j ∧ pr j = 0) → wY_multiply_10 post x1 f_kept f_cells n (nI i) a_rows a_places a_given fi a_second pr := by
  intro d
  induction d with
  | zero =>
    intro i n fi pr hd hn hj
    obtain ⟨n', rfl⟩ : ∃ n', n = n' + 1 := ⟨n - 1, by omega⟩
    exact br_t (nI_le (a := 343) (by omega) (by omega)) (hp fi pr (fun j hj' => hj j (by omega)))
  | succ d ih =>
    intro i n fi pr hd hn hj
    obtain ⟨n', rfl⟩ : ∃ n', n = n' + 1 := ⟨n - 1, by omega⟩
    refine br_f (nI_ge (b := 343) (by omega) (by decide)) ⟨vp_in_nI (by omega) (by decide), vp_in_nI (by omega) (by decide), nm_r (e' := upd fi i (a_second i)) (by rw [nI_clamp (by omega)]) ⟨vp_in_nI (by omega) (by decide), nm_r (e' := upd pr i 0) (by rw [nI_clamp (by omega)]) (nm_r (nI_1 i) (ih (i + 1) n' _ _ (by omega) (by omega) ?_))⟩⟩
    intro j hj'
    by_cases e : j = i
    · subst e
      exact ⟨pk_us, pk_us⟩
    · rw [pk_un e, pk_un e]
      exact hj j (by omega)
theorem ty_mul {post : SY → Prop} {K B : Nat} (hK : ta_shb K = true) (hB : ta_shb B = true) (hs : ta_sz K + ta_sz B ≤ 6) (hp : ∀ (fc : Int32) (r p ag fi sc pr : Nat → Int32), (∀ k, k < 343 → pr k = nI ((ta_pr (ta_tab K) (ta_tab B)).count k)) → post (nI K, fc, r, p, ag, fi, sc, pr)) : wpY_multiply post (nI K, f_cells, a_rows, a_places, a_given, a_first, a_second, a_product) (nI B) := by
  unfold wpY_multiply
  try dsimp only
  refine ty_exp hK (fun fc r p ag sc hsc => ?_)
  try dsimp only
  refine ⟨344, ty_m10 (fun fi pr hfp => ?_) 343 0 344 _ _ (by decide) (by decide) (fun j hj => absurd hj (Nat.not_lt_zero _))⟩
  refine ty_exp hB (fun fc' r' p' ag' sc' hsc' => ?_)
  try dsimp only
  refine ⟨344, ty_m49 (F := ta_tab K) (G := ta_tab B) (fun x hx => ta_tabB hK hx) (fun x hx => ta_tabB hB hx) (by omega) (ta_tabL hK) (ta_tabL hB) (fun i hi => by rw [(hfp i hi).1]; exact hsc i hi) hsc' (fun pr' hpr' => hp _ _ _ _ _ _ pr' ?_) 343 0 344 pr (by decide) (by decide) (fun k hk => (hfp k hk).2)⟩
  intro k hk
  rw [hpr' k hk, ← ta_prC _ _ k (fun x hx => ta_tab343 hK hx) (fun x hx => ta_tab343 hB hx)]
  rfl
/-! taking off -/
theorem ty_t98 {post : Int32 → SY → Prop} {J : Int32 → Int32 → Int32 → Int32 → (Nat → Int32) → (Nat → Int32) → (Nat → Int32) → (Nat → Int32) → (Nat → Int32) → (Nat → Int32) → Prop} {x1 x2 : Int32} {m sum t : Nat} {G : List Nat} {Q : Nat → Nat} (eg : ∀ i, i < 343 → a_second i = nI (G.count i)) (hJ : ∀ pr : Nat → Int32, (∀ k, k < 343 → pr k = nI (Q k)) → J (nI (sum + m)) (nI t - 1) f_kept f_cells a_rows a_places a_given a_first a_second pr) : ∀ d i n (pr : Nat → Int32), i + d = 343 → d < n → (∀ k, k < i → pr k = nI (Q k)) → (∀ k, i ≤ k → k < 343 → pr k = nI (m * G.count k + Q k)) → wY_takeOff_98 post J x1 x2 (nI sum) (nI t) (nI m) f_kept f_cells n (nI i) a_rows a_places a_given a_first a_second pr := by
  intro d
  induction d with
  | zero =>
    intro i n pr hd hn h1 h2
    obtain ⟨n', rfl⟩ : ∃ n', n = n' + 1 := ⟨n - 1, by omega⟩
    exact br_t (nI_le (a := 343) (by omega) (by omega)) (nm_r (nI_add sum m) (nm_r (tg_m1 t) (hJ pr (fun k hk => h1 k (by omega)))))
  | succ d ih =>
    intro i n pr hd hn h1 h2
    obtain ⟨n', rfl⟩ : ∃ n', n = n' + 1 := ⟨n - 1, by omega⟩
    have hi : i < 343 := by omega
    have ev : nI (m * G.count i + Q i) - nI m * nI (G.count i) = nI (Q i) := by
      rw [pk_mul, pk_sub (Nat.le_add_right _ _), Nat.add_sub_cancel_left]
    refine br_f (nI_ge (b := 343) (by omega) (by decide)) ⟨vp_in_nI hi (by decide), vp_in_nI hi (by decide), vp_in_nI hi (by decide), nm_r (e' := upd pr i (nI (Q i))) (by rw [nI_clamp (by omega), h2 i (Nat.le_refl _) hi, eg i hi, ev]) (nm_r (nI_1 i) (ih (i + 1) n' _ (by omega) (by omega) ?_ ?_))⟩
    · intro k hk
      by_cases e : k = i
      · subst e
        exact pk_us
      · rw [pk_un e]
        exact h1 k (by omega)
    · intro k hk hk3
      rw [pk_un (by omega)]
      exact h2 k (by omega) hk3
theorem ty_blT {N t : Nat} (h : ta_shb t = true) (hz : ta_sz t = N) : td_bl N (t + 1) = t :: td_bl N t := by
  show cond (ta_shb t && Nat.beq (ta_sz t) N) (t :: td_bl N t) (td_bl N t) = _
  rw [h, show Nat.beq (ta_sz t) N = true from by rw [Nat.beq_eq]; exact hz]
  rfl
theorem ty_blF {N t : Nat} (h : ¬ (ta_shb t = true ∧ ta_sz t = N)) : td_bl N (t + 1) = td_bl N t := by
  show cond (ta_shb t && Nat.beq (ta_sz t) N) (t :: td_bl N t) (td_bl N t) = _
  cases e : (ta_shb t && Nat.beq (ta_sz t) N) with
  | false => rfl
  | true =>
    have := ta_and e
    rw [Nat.beq_eq] at this
    exact (h this).elim
theorem ty_atB {t : Nat} (h : ta_shb t = true) : td_at t < 343 := by
  have := ta_shI.mp h
  unfold td_at
  omega
theorem ty_t7 {post : Int32 → SY → Prop} {x2 : Int32} {K B q N : Nat} (hK : ta_shb K = true) (hB : ta_shb B = true) (hs : ta_sz K + ta_sz B ≤ 6) (hN : N ≤ 6) (q1 : x2 = -1 ↔ q = 1000) (q2 : x2 = -2 ↔ q = 1001) (q3 : ∀ s, s ≤ 600 → (nI s = x2 ↔ s = q)) : ∀ t n sum (fc : Int32) (r p ag sc pr : Nat → Int32), t ≤ 601 → t < n → td_ck K B (td_bl N t) = true → (∀ k, k < 343 → pr k = nI ((td_rs K B (td_bl N t)).count k)) → (∀ (fc : Int32) (r p ag sc pr : Nat → Int32), post (nI (td_an K B q (td_bl N t) sum)) (f_kept, fc, r, p, ag, a_first, sc, pr)) → wY_takeOff_7 post (nI N) x2 n (nI sum) (nI t - 1) f_kept fc r p ag a_first sc pr := by
  intro t
  induction t with
  | zero =>
    intro n sum fc r p ag sc pr ht hn hck hpr hp
    obtain ⟨n', rfl⟩ : ∃ n', n = n' + 1 := ⟨n - 1, by omega⟩
    have hp' : ∀ b, Nat.beq q 1000 = b → post (nI (cond b sum 0)) (f_kept, fc, r, p, ag, a_first, sc, pr) := by
      intro b hb
      rw [← hb]
      exact hp fc r p ag sc pr
    refine br_t tg_neg (ek_if q1 (fun z => ?_) (fun z => ?_))
    · exact hp' true (by rw [Nat.beq_eq]; exact z)
    · refine hp' false ?_
      cases e : Nat.beq q 1000 with
      | false => rfl
      | true => rw [Nat.beq_eq] at e; exact (z e).elim
  | succ t ih =>
    intro n sum fc r p ag sc pr ht hn hck hpr hp
    obtain ⟨n', rfl⟩ : ∃ n', n = n' + 1 := ⟨n - 1, by omega⟩
    have htl : t < 2 ^ 31 := by omega
    rw [nI_pred]
    refine br_f (nI_pos htl) ?_
    by_cases hsh : ta_shb t = true
    · refine ty_isT hsh (br_f (by decide) (ty_sz htl ?_))
      have hz6 := ta_sz6 hsh
      refine pk_eq (ta_sz t) N (fun z => ?_) (fun z => ?_)
      · have hbl := ty_blT hsh z
        rw [hbl] at hck hpr hp
        have hck' := ta_and (show (Nat.beq ((td_rs K B (t :: td_bl N t)).count (td_at t)) (ta_c K B t) && td_ck K B (td_bl N t)) = true from hck)
        have hcm := hck'.1
        rw [Nat.beq_eq] at hcm
        have hat := ty_atB hsh
        have hcB := td_cB hK hB hs hsh
        have hp' : ∀ b1 b2, (Nat.blt 0 (ta_c K B t) && Nat.beq q 1001) = b1 → Nat.beq t q = b2 → ∀ (fc : Int32) (r p ag sc pr : Nat → Int32), post (nI (cond b1 t (cond b2 (ta_c K B t) (td_an K B q (td_bl N t) (sum + ta_c K B t))))) (f_kept, fc, r, p, ag, a_first, sc, pr) := by
          intro b1 b2 h1 h2
          rw [← h1, ← h2]
          exact hp
        have h80 : (Nat.blt 0 (ta_c K B t) && Nat.beq q 1001) = false → wY_takeOff_80 post (wY_takeOff_7 post (nI N) x2 n') (nI N) x2 (nI sum) (nI t) (nI (ta_c K B t)) f_kept fc r p ag a_first sc pr := by
          intro hb1
          unfold wY_takeOff_80
          refine ek_if (q3 t (by omega)) (fun w => ?_) (fun w => ?_)
          · exact hp' false true hb1 (by rw [Nat.beq_eq]; exact w) fc r p ag sc pr
          · have hb2 : Nat.beq t q = false := by
              cases e : Nat.beq t q with
              | false => rfl
              | true => rw [Nat.beq_eq] at e; exact (w e).elim
            refine ty_exp hsh (fun fc' r' p' ag' sc' hsc' => ?_)
            try dsimp only
            refine ⟨344, ty_t98 (G := ta_tab t) (Q := fun k => (td_rs K B (td_bl N t)).count k) hsc' (fun pr' hpr' => ?_) 343 0 344 pr (by decide) (by decide) (fun k hk => absurd hk (Nat.not_lt_zero _)) (fun k _ hk => ?_)⟩
            · exact ih n' (sum + ta_c K B t) fc' r' p' ag' sc' pr' (by omega) (by omega) hck'.2 hpr' (hp' false false hb1 hb2)
            · rw [hpr k hk]
              have e : td_rs K B (t :: td_bl N t) = td_cp K B t ++ td_rs K B (td_bl N t) := rfl
              rw [e, List.count_append]
              unfold td_cp
              rw [ta_crep]
        have ev : ((49 * (nI t / 100)) + (7 * ((nI t / 10) - (nI t / 10) / 10 * 10))) + (nI t - nI t / 10 * 10) = nI (td_at t) := by
          rw [tf_100 htl, tf_10 htl, tf_1 htl, show (49 : Int32) * nI (t / 100) = nI (49 * (t / 100)) from pk_mul 49 _, show (7 : Int32) * nI (t / 10 % 10) = nI (7 * (t / 10 % 10)) from pk_mul 7 _, nI_add, nI_add]
          rfl
        refine ⟨by decide, by decide, by decide, by decide, nm_r ev ⟨vp_in_nI hat (by decide), nm_r (e' := nI (ta_c K B t)) (by rw [nI_clamp (by omega), hpr _ hat, hcm]) ?_⟩⟩
        refine pk_le (ta_c K B t) 0 (fun y => h80 ?_) (fun y => ek_if q2 (fun w => ?_) (fun w => h80 ?_))
        · have e0 : ta_c K B t = 0 := by omega
          rw [e0]
          rfl
        · exact hp' true (Nat.beq t q) (by rw [show Nat.blt 0 (ta_c K B t) = true from by rw [Nat.blt_eq]; exact y, show Nat.beq q 1001 = true from by rw [Nat.beq_eq]; exact w]; rfl) rfl fc r p ag sc pr
        · cases e : (Nat.blt 0 (ta_c K B t) && Nat.beq q 1001) with
          | false => rfl
          | true =>
            have e2 := (ta_and e).2
            rw [Nat.beq_eq] at e2
            exact (w e2).elim
      · rw [ty_blF (fun w => z w.2)] at hck hpr hp
        exact nm_r (tg_m1 t) (ih n' sum fc r p ag sc pr (by omega) (by omega) hck hpr hp)
    · rw [ty_blF (fun w => hsh w.1)] at hck hpr hp
      exact ty_isF (tf_no htl hsh) (br_t rfl (nm_r (tg_m1 t) (ih n' sum fc r p ag sc pr (by omega) (by omega) hck hpr hp)))
theorem ty_off {post : Int32 → SY → Prop} {x2 : Int32} {K B q : Nat} (hK : ta_shb K = true) (hB : ta_shb B = true) (hs : ta_sz K + ta_sz B ≤ 6) (q1 : x2 = -1 ↔ q = 1000) (q2 : x2 = -2 ↔ q = 1001) (q3 : ∀ s, s ≤ 600 → (nI s = x2 ↔ s = q)) (hpr : ∀ k, k < 343 → a_product k = nI ((ta_pr (ta_tab K) (ta_tab B)).count k)) (hp : ∀ (fc : Int32) (r p ag sc pr : Nat → Int32), post (nI (td_an K B q (td_bl (ta_sz K + ta_sz B) 601) 0)) (f_kept, fc, r, p, ag, a_first, sc, pr)) : wpY_takeOff post (f_kept, f_cells, a_rows, a_places, a_given, a_first, a_second, a_product) (nI (ta_sz K + ta_sz B)) x2 := by
  unfold wpY_takeOff
  try dsimp only
  rw [show (600 : Int32) = nI 601 - 1 from by decide]
  exact ⟨602, ty_t7 hK hB hs hs q1 q2 q3 601 602 0 _ _ _ _ _ _ (by decide) (by decide) (td_B hK hB hs) (fun k hk => by rw [hpr k hk, td_A hK hB hs k]) hp⟩
theorem ty_refT {post : Int32 → Prop} {K B : Nat} (hK : ta_shb K = true) (hB : ta_shb B = true) (h0 : ta_sz K + ta_sz B ≤ 6 → post 0) (h1 : ¬ ta_sz K + ta_sz B ≤ 6 → post 1) : wpY_refused post (nI K, f_cells, a_rows, a_places, a_given, a_first, a_second, a_product) (nI B) := by
  have k6 := ta_600 hK
  have b6 := ta_600 hB
  have k7 := ta_sz6 hK
  have b7 := ta_sz6 hB
  unfold wpY_refused
  try dsimp only
  refine ty_isT hB (br_f (by decide) (ty_sz (by omega) (ty_sz (by omega) ?_)))
  exact pk_le (ta_sz K + ta_sz B) 6 h0 (fun z => h1 (by omega)) (hx := nI_add _ _)
theorem ty_refF {post : Int32 → Prop} {p0 : Int32} (h : ∀ K, ta_shb K = true → p0 ≠ nI K) (h1 : post 1) : wpY_refused post (f_kept, f_cells, a_rows, a_places, a_given, a_first, a_second, a_product) p0 := by
  unfold wpY_refused
  try dsimp only
  exact ty_isF h (br_t rfl h1)
end
section
variable {f_cells : Int32} {a_kept a_large a_content a_rowOf a_placeOf a_number a_counts : Nat → Int32}
theorem tx_pt27 {post : Int32 → SX → Prop} {K B : Nat} (hK : ta_shb K = true) (hB : ta_shb B = true) (hs : ta_sz K + ta_sz B ≤ 6) (hk : ∀ i, i < 3 → a_kept i = nI (ta_kd K i)) (hp : ∀ (fc : Int32) (al ac r p u ct : Nat → Int32), post (nI ((td_al 601).map (ta_c K B)).sum) (fc, a_kept, al, ac, r, p, u, ct)) : ∀ d t n (fc : Int32) (al ac r p u ct : Nat → Int32), t + d = 601 → d < n → wX_parts_27 post (nI B) n (nI ((td_al t).map (ta_c K B)).sum) (nI t) fc a_kept al ac r p u ct := by
  intro d
  induction d with
  | zero =>
    intro t n fc al ac r p u ct hd hn
    obtain ⟨n', rfl⟩ : ∃ n', n = n' + 1 := ⟨n - 1, by omega⟩
    have e : t = 601 := by omega
    subst e
    exact br_t (nI_lt (a := 600) (by omega) (by omega)) (hp fc al ac r p u ct)
  | succ d ih =>
    intro t n fc al ac r p u ct hd hn
    obtain ⟨n', rfl⟩ : ∃ n', n = n' + 1 := ⟨n - 1, by omega⟩
    refine br_f (nI_nlt (a := 600) (by omega) (by decide)) ?_
    by_cases hsh : ta_shb t = true
    · have e : ((td_al (t + 1)).map (ta_c K B)).sum = ((td_al t).map (ta_c K B)).sum + ta_c K B t := by
        show ((cond (ta_shb t) (t :: td_al t) (td_al t)).map (ta_c K B)).sum = _
        rw [hsh]
        show ((t :: td_al t).map (ta_c K B)).sum = _
        rw [List.map_cons, List.sum_cons, Nat.add_comm]
      refine tx_isT hsh (br_f (by decide) (tx_cf hK hB hsh hs hk (fun fc' al' ac' r' p' u' ct' => ?_)))
      exact nm_r (e' := nI ((td_al (t + 1)).map (ta_c K B)).sum) (by rw [nI_add, e]) (nm_r (nI_1 t) (ih (t + 1) n' fc' al' ac' r' p' u' ct' (by omega) (by omega)))
    · have e : td_al (t + 1) = td_al t := by
        show cond (ta_shb t) (t :: td_al t) (td_al t) = _
        cases e : ta_shb t with
        | false => rfl
        | true => exact (hsh e).elim
      have hi := ih (t + 1) n' fc al ac r p u ct (by omega) (by omega)
      rw [e] at hi
      exact tx_isF (tf_no (by omega) hsh) (br_t rfl (nm_r (nI_1 t) hi))
end
end
section
/-! ===== what is owed ===== -/
def tb_R (a : Nat → Int32) (f : Int32) : Prop := ∃ K, ta_shb K = true ∧ f = nI K ∧ ∀ i, i < 3 → a i = nI (ta_kd K i)
/-- one shape on both sides: its number there, its three digits here; all else is scratch -/
def i_Rel (k : Nat) (u : SX) (v : SY) : Prop := tb_R u.2.1 v.1
theorem i_up {k : Nat} {u : SX} {v : SY} (h : i_Rel k u v) : i_Rel (k + 3) u v := h
theorem i_vc0 : wpX_init (fun u => wpY_init (fun v => i_Rel 0 u v)) := by
  refine ⟨0, by decide, rfl, ?_⟩
  intro i hi
  match i, hi with
  | 0, _ => rfl
  | 1, _ => rfl
  | 2, _ => rfl
theorem tb_sh (x : Int32) : (∃ K, ta_shb K = true ∧ x = nI K) ∨ (∀ K, ta_shb K = true → x ≠ nI K) := by
  by_cases h : ∃ K, ta_shb K = true ∧ x = nI K
  · exact Or.inl h
  · exact Or.inr (fun K hK e => h ⟨K, hK, e⟩)
theorem i_vc_keep {k : Nat} {u : SX} {v : SY} (I : i_Rel k u v) (hk : k + 3 ≤ 1536) (v1 : Int32) : wpX_keep (fun r u' => wpY_keep (fun r' v' => r' = r ∧ i_Rel (k + 3) u' v') v v1) u v1 := by
  obtain ⟨f_cells, a_kept, a_large, a_content, a_rowOf, a_placeOf, a_number, a_counts⟩ := u
  obtain ⟨f_kept, g_cells, a_rows, a_places, a_given, a_first, a_second, a_product⟩ := v
  unfold wpX_keep wpY_keep
  try dsimp only
  rcases tb_sh v1 with ⟨K, hK, rfl⟩ | h
  · have h6 := ta_600 hK
    have hl : K < 2 ^ 31 := by omega
    refine tx_isT hK (br_f (by decide) ⟨by decide, nm_r (e' := upd a_kept 0 (nI (K / 100))) (by rw [tf_100 hl]) ⟨by decide, by decide, nm_r (e' := upd (upd a_kept 0 (nI (K / 100))) 1 (nI (K / 10 % 10))) (by rw [tf_10 hl]) ⟨by decide, nm_r (e' := upd (upd (upd a_kept 0 (nI (K / 100))) 1 (nI (K / 10 % 10))) 2 (nI (K % 10))) (by rw [tf_1 hl]) (tx_sz hl ?_)⟩⟩⟩)
    refine ty_isT hK (br_f (by decide) (ty_sz hl ⟨rfl, K, hK, rfl, ?_⟩))
    intro i hi
    match i, hi with
    | 0, _ => rfl
    | 1, _ => rfl
    | 2, _ => rfl
  · exact tx_isF h (br_t rfl (ty_isF h (br_t rfl ⟨rfl, I⟩)))
theorem i_vc_fillings {k : Nat} {u : SX} {v : SY} (I : i_Rel k u v) (hk : k + 3 ≤ 1536) : wpX_fillings (fun r => wpY_fillings (fun r' v' => r' = r ∧ i_Rel (k + 3) u v') v) u := by
  obtain ⟨f_cells, a_kept, a_large, a_content, a_rowOf, a_placeOf, a_number, a_counts⟩ := u
  obtain ⟨f_kept, g_cells, a_rows, a_places, a_given, a_first, a_second, a_product⟩ := v
  obtain ⟨K, hK, e, hd⟩ := I
  dsimp only at e hd
  subst e
  exact tx_fil hK hd (ty_fil hK (fun fc r p ag sc => ⟨rfl, K, hK, rfl, hd⟩))
theorem i_vc_withContent {k : Nat} {u : SX} {v : SY} (I : i_Rel k u v) (hk : k + 3 ≤ 1536) (v1 : Int32) : wpX_withContent (fun r => wpY_withContent (fun r' v' => r' = r ∧ i_Rel (k + 3) u v') v v1) u v1 := by
  obtain ⟨f_cells, a_kept, a_large, a_content, a_rowOf, a_placeOf, a_number, a_counts⟩ := u
  obtain ⟨f_kept, g_cells, a_rows, a_places, a_given, a_first, a_second, a_product⟩ := v
  obtain ⟨K, hK, e, hd⟩ := I
  dsimp only at e hd
  subst e
  by_cases h : ∃ c, ta_ctb c ∧ v1 = nI c
  · obtain ⟨c, hc, rfl⟩ := h
    refine tx_wcT hK hd hc (ty_wcT hK hc (fun fc r p ag sc => ⟨?_, K, hK, rfl, hd⟩))
    rw [te_wcE hK (by have := hc.1; omega) (by have := hc.2.1; omega) (by have := hc.2.2; omega)]
  · have h' : ∀ c, ta_ctb c → v1 ≠ nI c := fun c hc e => h ⟨c, hc, e⟩
    exact tx_wcF h' (ty_wcF h' ⟨rfl, K, hK, rfl, hd⟩)
theorem i_vc_orders {k : Nat} {u : SX} {v : SY} (I : i_Rel k u v) (hk : k + 3 ≤ 1536) : wpX_orders (fun r => wpY_orders (fun r' v' => r' = r ∧ i_Rel (k + 3) u v') v) u := by
  obtain ⟨f_cells, a_kept, a_large, a_content, a_rowOf, a_placeOf, a_number, a_counts⟩ := u
  obtain ⟨f_kept, g_cells, a_rows, a_places, a_given, a_first, a_second, a_product⟩ := v
  obtain ⟨K, hK, e, hd⟩ := I
  dsimp only at e hd
  subst e
  exact tx_ord hK hd (ty_orders hK (fun fc r p ag => ⟨rfl, K, hK, rfl, hd⟩))
theorem tb_q3 {q : Nat} (h : q ≤ 600) : ∀ s, s ≤ 600 → (nI s = nI q ↔ s = q) := fun s hs => nI_eq (by omega) (by omega)
theorem tb_ne {q : Nat} (h : q ≤ 600) (m : Int32) (hm : m < 0) : ¬ nI q = m := by
  intro e
  rw [← e] at hm
  exact nI_pos (by omega) hm
theorem i_vc_times {k : Nat} {u : SX} {v : SY} (I : i_Rel k u v) (hk : k + 3 ≤ 1536) (v1 : Int32) (v2 : Int32) : wpX_times (fun r u' => wpY_times (fun r' v' => r' = r ∧ i_Rel (k + 3) u' v') v v1 v2) u v1 v2 := by
  obtain ⟨f_cells, a_kept, a_large, a_content, a_rowOf, a_placeOf, a_number, a_counts⟩ := u
  obtain ⟨f_kept, g_cells, a_rows, a_places, a_given, a_first, a_second, a_product⟩ := v
  obtain ⟨K, hK, e, hd⟩ := I
  dsimp only at e hd
  subst e
  have h6 := ta_600 hK
  have s6 := ta_sz6 hK
  unfold wpX_times wpY_times
  try dsimp only
  rcases tb_sh v1 with ⟨B, hB, rfl⟩ | h
  · have b6 := ta_600 hB
    have t6 := ta_sz6 hB
    rcases tb_sh v2 with ⟨S, hS, rfl⟩ | h
    · have p6 := ta_600 hS
      refine tx_isT hB (br_f (by decide) (tx_isT hS (br_f (by decide) ?_)))
      unfold wpX_keptSize
      try dsimp only
      rw [show a_kept 0 = nI (K / 100) from hd 0 (by decide), show a_kept 1 = nI (K / 10 % 10) from hd 1 (by decide), show a_kept 2 = nI (K % 10) from hd 2 (by decide), nI_add, nI_add]
      refine tx_sz (by omega) ?_
      refine pk_le (ta_sz K + ta_sz B) 6 (fun z => ?_) (fun z => ?_) (hx := nI_add (ta_sz K) (ta_sz B))
      · refine tx_cf hK hB hS z hd (fun fc al ac r p u ct => ?_)
        refine ty_refT hK hB (fun _ => br_t rfl (ty_isT hS (br_f (by decide) ?_))) (fun y => (y z).elim)
        refine ty_mul hK hB z (fun fc r p ag fi sc pr hpr => ?_)
        try dsimp only
        refine ty_sz (by omega) (ty_sz (by omega) (nm_r (nI_add (ta_sz K) (ta_sz B)) ?_))
        refine ty_off (q := S) hK hB z ⟨fun e => (tb_ne p6 (-1) (by decide) e).elim, fun e => by omega⟩ ⟨fun e => (tb_ne p6 (-2) (by decide) e).elim, fun e => by omega⟩ (tb_q3 p6) hpr (fun fc r p ag sc pr => ⟨?_, K, hK, rfl, hd⟩)
        rw [td_anS hK hB z hS]
      · exact ty_refT hK hB (fun y => by omega) (fun y => br_f (by decide) ⟨rfl, K, hK, rfl, hd⟩)
    · refine tx_isT hB (br_f (by decide) (tx_isF h (br_t rfl ?_)))
      exact ty_refT hK hB (fun _ => br_t rfl (ty_isF h (br_t rfl ⟨rfl, K, hK, rfl, hd⟩))) (fun y => br_f (by decide) ⟨rfl, K, hK, rfl, hd⟩)
  · exact tx_isF h (br_t rfl (ty_refF h (br_f (by decide) ⟨rfl, K, hK, rfl, hd⟩)))
theorem i_vc_parts {k : Nat} {u : SX} {v : SY} (I : i_Rel k u v) (hk : k + 3 ≤ 1536) (v1 : Int32) : wpX_parts (fun r u' => wpY_parts (fun r' v' => r' = r ∧ i_Rel (k + 3) u' v') v v1) u v1 := by
  obtain ⟨f_cells, a_kept, a_large, a_content, a_rowOf, a_placeOf, a_number, a_counts⟩ := u
  obtain ⟨f_kept, g_cells, a_rows, a_places, a_given, a_first, a_second, a_product⟩ := v
  obtain ⟨K, hK, e, hd⟩ := I
  dsimp only at e hd
  subst e
  have h6 := ta_600 hK
  have s6 := ta_sz6 hK
  unfold wpX_parts wpY_parts
  try dsimp only
  rcases tb_sh v1 with ⟨B, hB, rfl⟩ | h
  · have b6 := ta_600 hB
    have t6 := ta_sz6 hB
    refine tx_isT hB (br_f (by decide) ?_)
    unfold wpX_keptSize
    try dsimp only
    rw [show a_kept 0 = nI (K / 100) from hd 0 (by decide), show a_kept 1 = nI (K / 10 % 10) from hd 1 (by decide), show a_kept 2 = nI (K % 10) from hd 2 (by decide), nI_add, nI_add]
    refine tx_sz (by omega) ?_
    refine pk_le (ta_sz K + ta_sz B) 6 (fun z => ?_) (fun z => ?_) (hx := nI_add (ta_sz K) (ta_sz B))
    · refine ⟨602, tx_pt27 hK hB z hd (fun fc al ac r p u ct => ?_) 601 0 602 _ _ _ _ _ _ _ (by decide) (by decide)⟩
      refine ty_refT hK hB (fun _ => br_t rfl ?_) (fun y => (y z).elim)
      refine ty_mul hK hB z (fun fc r p ag fi sc pr hpr => ?_)
      try dsimp only
      refine ty_sz (by omega) (ty_sz (by omega) (nm_r (nI_add (ta_sz K) (ta_sz B)) ?_))
      refine ty_off (q := 1000) hK hB z ⟨fun _ => rfl, fun _ => rfl⟩ ⟨fun e => absurd e (by decide), fun e => absurd e (by decide)⟩ (fun s hs => ⟨fun e => (tb_ne hs (-1) (by decide) e).elim, fun e => by omega⟩) hpr (fun fc r p ag sc pr => ⟨?_, K, hK, rfl, hd⟩)
      rw [td_anP hK hB z]
    · exact ty_refT hK hB (fun y => by omega) (fun y => br_f (by decide) ⟨rfl, K, hK, rfl, hd⟩)
  · exact tx_isF h (br_t rfl (ty_refF h (br_f (by decide) ⟨rfl, K, hK, rfl, hd⟩)))
theorem i_vc_greatest {k : Nat} {u : SX} {v : SY} (I : i_Rel k u v) (hk : k + 3 ≤ 1536) (v1 : Int32) : wpX_greatest (fun r => wpY_greatest (fun r' v' => r' = r ∧ i_Rel (k + 3) u v') v v1) u v1 := by
  obtain ⟨f_cells, a_kept, a_large, a_content, a_rowOf, a_placeOf, a_number, a_counts⟩ := u
  obtain ⟨f_kept, g_cells, a_rows, a_places, a_given, a_first, a_second, a_product⟩ := v
  obtain ⟨K, hK, e, hd⟩ := I
  dsimp only at e hd
  subst e
  have h6 := ta_600 hK
  rcases tb_sh v1 with ⟨B, hB, rfl⟩ | h
  · have b6 := ta_600 hB
    refine tx_gr hK hB hd (fun z => ?_) (fun z => ?_)
    · unfold wpY_greatest
      try dsimp only
      refine ty_refT hK hB (fun _ => br_t rfl ?_) (fun y => (y z).elim)
      refine ty_mul hK hB z (fun fc r p ag fi sc pr hpr => ?_)
      try dsimp only
      refine ty_sz (by omega) (ty_sz (by omega) (nm_r (nI_add (ta_sz K) (ta_sz B)) ?_))
      refine ty_off (q := 1001) hK hB z ⟨fun e => absurd e (by decide), fun e => absurd e (by decide)⟩ ⟨fun _ => rfl, fun _ => rfl⟩ (fun s hs => ⟨fun e => (tb_ne hs (-2) (by decide) e).elim, fun e => by omega⟩) hpr (fun fc r p ag sc pr => ⟨?_, K, hK, rfl, hd⟩)
      rw [td_anG hK hB z]
    · unfold wpY_greatest
      try dsimp only
      exact ty_refT hK hB (fun y => (z y).elim) (fun y => br_f (by decide) ⟨rfl, K, hK, rfl, hd⟩)
  · unfold wpX_greatest wpY_greatest
    try dsimp only
    exact tx_isF h (br_t rfl (ty_refF h (br_f (by decide) ⟨rfl, K, hK, rfl, hd⟩)))
theorem i_vc_turned {k : Nat} {u : SX} {v : SY} (I : i_Rel k u v) (hk : k + 3 ≤ 1536) : wpX_turned (fun r => wpY_turned (fun r' => r' = r ∧ i_Rel (k + 3) u v) v) u := by
  obtain ⟨f_cells, a_kept, a_large, a_content, a_rowOf, a_placeOf, a_number, a_counts⟩ := u
  obtain ⟨f_kept, g_cells, a_rows, a_places, a_given, a_first, a_second, a_product⟩ := v
  have I' := I
  obtain ⟨K, hK, e, hd⟩ := I
  dsimp only at e hd
  subst e
  exact tx_turn hK hd (fun z => ty_turn hK (fun _ => ⟨rfl, I'⟩) (fun y => (y z).elim)) (fun z => ty_turn hK (fun y => (z y).elim) (fun _ => ⟨rfl, I'⟩))
end
