section
/-! rows of kit/rows (BITS, PURE-ROWS), pasted: starting text -/
theorem pk_us {f : Nat → Int32} {k : Nat} {x : Int32} : upd f k x k = x := if_pos rfl
theorem pk_un {f : Nat → Int32} {k j : Nat} {x : Int32} (h : j ≠ k) : upd f k x j = f j := if_neg h
theorem pk_sub {a b : Nat} (h : b ≤ a) : nI a - nI b = nI (a - b) := by
  obtain ⟨c, rfl⟩ : ∃ c, a = c + b := ⟨a - b, by omega⟩
  rw [← nI_add, Int32.add_sub_cancel, Nat.add_sub_cancel]
theorem pk_m1 (n : Nat) : nI (n + 1) + (-1) = nI n := by
  rw [← nI_1, Int32.add_assoc, show (1 : Int32) + (-1) = 0 from rfl, Int32.add_zero]
theorem pk_mul (a b : Nat) : nI a * nI b = nI (a * b) := (Int32.ofNat_mul a b).symm
theorem pk_sub_toInt {a b : Nat} (ha : a < 2 ^ 30) (hb : b < 2 ^ 30) : (nI a - nI b).toInt = (a : Int) - b := by
  rw [Int32.toInt_sub, nI_toInt (by omega), nI_toInt (by omega)]
  exact Int.bmod_eq_of_le (by omega) (by omega)
theorem pk_sneg {a b : Nat} (hb : b < 2 ^ 30) (h : a < b) : nI a - nI b < 0 := by
  rw [Int32.lt_iff_toInt_lt, pk_sub_toInt (by omega) hb, show (0 : Int32).toInt = 0 from by decide]
  omega
theorem pk_ix (x : Int32) {n : Nat} (hn : n < 2 ^ 31) : x < 0 ∨ nI n ≤ x ∨ ∃ j : Nat, j < n ∧ x = nI j := by
  by_cases h : x < 0
  · exact Or.inl h
  · obtain ⟨j, hj, rfl⟩ := nI_of h
    by_cases h2 : j < n
    · exact Or.inr (Or.inr ⟨j, h2, rfl⟩)
    · exact Or.inr (Or.inl (nI_le (by omega) hj))
theorem pk_le {x y : Int32} {A B : Prop} (a b : Nat) (f : a ≤ b → A) (g : b < a → B) (hx : x = nI a := by rfl) (hy : y = nI b := by rfl) (ha : a < 2 ^ 31 := by omega) (hb : b < 2 ^ 31 := by omega) : (x ≤ y → A) ∧ (¬ x ≤ y → B) := by
  subst hx hy
  rw [nI_leI ha hb]
  exact ⟨f, fun z => g (by omega)⟩
theorem pk_lt {x y : Int32} {A B : Prop} (a b : Nat) (f : a < b → A) (g : b ≤ a → B) (hx : x = nI a := by rfl) (hy : y = nI b := by rfl) (ha : a < 2 ^ 31 := by omega) (hb : b < 2 ^ 31 := by omega) : (x < y → A) ∧ (¬ x < y → B) := by
  subst hx hy
  rw [nI_ltI ha hb]
  exact ⟨f, fun z => g (by omega)⟩
theorem pk_eq {x y : Int32} {A B : Prop} (a b : Nat) (f : a = b → A) (g : a ≠ b → B) (hx : x = nI a := by rfl) (hy : y = nI b := by rfl) (ha : a < 2 ^ 31 := by omega) (hb : b < 2 ^ 31 := by omega) : (x = y → A) ∧ (¬ x = y → B) := by
  subst hx hy
  rw [nI_eq ha hb]
  exact ⟨f, g⟩
theorem pk_in {x : Int32} (n N : Nat) (h : n < N) (hx : x = nI n := by rfl) (hN : N < 2 ^ 31 := by omega) : vp_in x N := by
  subst hx
  exact vp_in_nI h hN
theorem pk_cl {x : Int32} (n : Nat) (hx : x = nI n := by rfl) (h : n < 2 ^ 31 := by omega) : x.toNatClampNeg = n := by
  subst hx
  exact nI_clamp h
theorem pk_tn {n : Nat} (h : n < 2 ^ 32) : (nI n).toBitVec.toNat = n := Nat.mod_eq_of_lt h
theorem pk_and (x : Int32) {m : Int32} (k : Nat) (hm : m.toBitVec.toNat = 2 ^ k - 1) : x &&& m = nI (x.toBitVec.toNat % 2 ^ k) := by
  apply Int32.toBitVec_inj.mp
  apply BitVec.eq_of_toNat_eq
  rw [Int32.toBitVec_and, BitVec.toNat_and, hm, Nat.and_two_pow_sub_one_eq_mod]
  show _ = (BitVec.ofNat 32 _).toNat
  rw [BitVec.toNat_ofNat]
  exact (Nat.mod_eq_of_lt (Nat.lt_of_le_of_lt (Nat.mod_le _ _) x.toBitVec.isLt)).symm
theorem pk_andN {n : Nat} (h : n < 2 ^ 32) {m : Int32} (k : Nat) (hm : m.toBitVec.toNat = 2 ^ k - 1) : nI n &&& m = nI (n % 2 ^ k) := by
  rw [pk_and _ k hm, pk_tn h]
theorem pk_andE (x : Int32) {m : Int32} (k : Nat) (hm : m.toBitVec.toNat = 2 ^ k - 1) : ∃ j : Nat, j < 2 ^ k ∧ x &&& m = nI j := ⟨_, Nat.mod_lt _ (Nat.two_pow_pos k), pk_and x k hm⟩
theorem pk_shl (a s : Int32) (k : Nat) (hs : (s.toBitVec.smod 32).toNat = k) : (a <<< s).toBitVec.toNat = a.toBitVec.toNat * 2 ^ k % 2 ^ 32 := by
  show (a.toBitVec <<< (s.toBitVec.smod 32).toNat).toNat = _
  rw [hs, BitVec.toNat_shiftLeft, Nat.shiftLeft_eq]
theorem pk_shlN {n : Nat} (s : Int32) (k : Nat) (hs : (s.toBitVec.smod 32).toNat = k) (h : n * 2 ^ k < 2 ^ 32) : nI n <<< s = nI (n * 2 ^ k) := by
  apply Int32.toBitVec_inj.mp
  apply BitVec.eq_of_toNat_eq
  have hn : n < 2 ^ 32 := Nat.lt_of_le_of_lt (Nat.le_mul_of_pos_right n (Nat.two_pow_pos k)) h
  rw [pk_shl _ _ k hs, pk_tn hn, pk_tn h, Nat.mod_eq_of_lt h]
theorem pk_loop {σ : Type} (W : Nat → Nat → σ → Prop) (I : Nat → σ → Prop) (e i0 : Nat) (s : σ) (hi : i0 ≤ e) (h0 : I i0 s) (hx : ∀ n s, I e s → W (n + 1) e s)
    (hs : ∀ n i s, i < e → I i s → (∀ s', I (i + 1) s' → W n (i + 1) s') → W (n + 1) i s) : ∃ n, W n i0 s :=
  ⟨e + 1, loop_i W I e hx hs (e + 1) i0 s hi (by omega) h0⟩
theorem pk_least (P : Nat → Prop) (h : ∃ k, P k) : ∃ k, P k ∧ ∀ j, j < k → ¬ P j := by
  obtain ⟨k, hk⟩ := h
  induction k using Nat.strongRecOn with
  | ind k ih =>
    by_cases e : ∃ j, j < k ∧ P j
    · obtain ⟨j, hj, pj⟩ := e
      exact ih j hj pj
    · exact ⟨k, hk, fun j hj pj => e ⟨j, hj, pj⟩⟩
theorem sb_negT {w : Nat} (h : w < 2 ^ 31) : (-nI w).toInt = -(w : Int) := by
  rw [Int32.toInt_neg, nI_toInt h]
  exact Int.bmod_eq_of_le (by omega) (by omega)
theorem sb_nle {a b : Nat} (ha : a < 2 ^ 31) (hb : b < 2 ^ 31) : -nI a ≤ -nI b ↔ b ≤ a := by
  rw [Int32.le_iff_toInt_le, sb_negT ha, sb_negT hb]
  omega
theorem sb_nlt {a b : Nat} (ha : a < 2 ^ 31) (hb : b < 2 ^ 31) : -nI a < -nI b ↔ b < a := by
  rw [Int32.lt_iff_toInt_lt, sb_negT ha, sb_negT hb]
  omega
def bt (x : Int32) (i : Nat) : Bool := x.toBitVec.getLsbD i
theorem b_ext {x y : Int32} (h : ∀ i, i < 32 → bt x i = bt y i) : x = y := Int32.toBitVec_inj.mp (BitVec.eq_of_getLsbD_eq (fun i hi => h i hi))
theorem b_or (x y : Int32) (i : Nat) : bt (x ||| y) i = (bt x i || bt y i) := by unfold bt; rw [Int32.toBitVec_or, BitVec.getLsbD_or]
theorem b_and (x y : Int32) (i : Nat) : bt (x &&& y) i = (bt x i && bt y i) := by unfold bt; rw [Int32.toBitVec_and, BitVec.getLsbD_and]
theorem b_xor (x y : Int32) (i : Nat) : bt (x ^^^ y) i = (bt x i ^^ bt y i) := by unfold bt; rw [Int32.toBitVec_xor, BitVec.getLsbD_xor]
theorem b_big {x : Int32} {i : Nat} (h : 32 ≤ i) : bt x i = false := BitVec.getLsbD_of_ge _ _ h
theorem b_255 (i : Nat) : bt 255 i = decide (i < 8) := by
  rcases Nat.lt_or_ge i 32 with h | h
  · exact (by decide +kernel : ∀ i, i < 32 → bt 255 i = decide (i < 8)) i h
  · rw [b_big h, decide_eq_false (by omega)]
theorem b_65535 (i : Nat) : bt 65535 i = decide (i < 16) := by
  rcases Nat.lt_or_ge i 32 with h | h
  · exact (by decide +kernel : ∀ i, i < 32 → bt 65535 i = decide (i < 16)) i h
  · rw [b_big h, decide_eq_false (by omega)]
theorem b_m1 : ∀ i, i < 32 → bt (-1) i = true := by decide +kernel
theorem b_0 (i : Nat) : bt 0 i = false := BitVec.getLsbD_zero
theorem s_l : ∀ n, n < 32 → ((nI n &&& 31).toBitVec.smod 32).toNat = n := by decide +kernel
theorem b_shl (n : Nat) (hn : n < 32) (x : Int32) {i : Nat} (hi : i < 32) : bt (x <<< (nI n &&& 31)) i = (decide (n ≤ i) && bt x (i - n)) := by
  unfold bt
  rw [Int32.toBitVec_shiftLeft]
  show (x.toBitVec <<< ((nI n &&& 31).toBitVec.smod 32).toNat).getLsbD i = _
  rw [s_l n hn, BitVec.getLsbD_shiftLeft]
  rcases Nat.lt_or_ge i n with h | h
  · simp [h, Nat.not_le.mpr h]
  · simp [hi, h, Nat.not_lt.mpr h]
theorem b_sshr (n : Nat) (hn : n < 32) (x : Int32) {i : Nat} (hi : i < 32) : bt (x >>> (nI n &&& 31)) i = if n + i < 32 then bt x (n + i) else bt x 31 := by
  unfold bt
  rw [Int32.toBitVec_shiftRight]
  show (x.toBitVec.sshiftRight ((nI n &&& 31).toBitVec.smod 32).toNat).getLsbD i = _
  rw [s_l n hn, BitVec.getLsbD_sshiftRight, BitVec.msb_eq_getLsbD_last]
  simp [hi]
theorem b_shl8 (x : Int32) {i : Nat} (hi : i < 32) : bt (x <<< ((8 : Int32) &&& 31)) i = (decide (8 ≤ i) && bt x (i - 8)) := b_shl 8 (by omega) x hi
theorem b_sshr8 (x : Int32) {i : Nat} (hi : i < 32) : bt (x >>> ((8 : Int32) &&& 31)) i = if 8 + i < 32 then bt x (8 + i) else bt x 31 := b_sshr 8 (by omega) x hi
theorem nx_and (a b : Nat) : nI a &&& nI b = nI (a &&& b) := by
  apply Int32.toBitVec_inj.1
  show BitVec.ofNat 32 a &&& BitVec.ofNat 32 b = BitVec.ofNat 32 (a &&& b)
  apply BitVec.eq_of_getLsbD_eq
  intro i hi
  simp [hi]
end
section
/-! answers by propositions, lists of an array's cells, loops as 'one outcome' -/
noncomputable def ce_b (p : Prop) : Int32 := @ite _ p (Classical.propDecidable p) 1 0
theorem ce_bt {p : Prop} (h : p) : ce_b p = 1 := @if_pos p (Classical.propDecidable p) h _ 1 0
theorem ce_bf {p : Prop} (h : ¬ p) : ce_b p = 0 := @if_neg p (Classical.propDecidable p) h _ 1 0
theorem ce_bc {p q : Prop} (h : p ↔ q) : ce_b p = ce_b q := by rw [propext h]
theorem ce_br {p A B : Prop} (f : ¬ p → A) (g : p → B) : (ce_b p = 0 → A) ∧ (¬ ce_b p = 0 → B) := by
  by_cases h : p
  · rw [ce_bt h]
    exact ⟨fun z => absurd z (by decide), fun _ => g h⟩
  · rw [ce_bf h]
    exact ⟨fun _ => f h, fun z => absurd rfl z⟩
theorem ce_v {post : Int32 → Prop} {p : Prop} (f : ¬ p → post 0) (g : p → post 1) : post (ce_b p) := by
  by_cases h : p
  · rw [ce_bt h]; exact g h
  · rw [ce_bf h]; exact f h
theorem ce_pv {post : Int32 → Prop} {p q : Prop} (h : post (ce_b p)) (e : q ↔ p) : post (ce_b q) := by rw [ce_bc e]; exact h
theorem ce_p1 {post : Int32 → Prop} {p : Prop} (h : post (ce_b p)) (hp : p) : post 1 := by rw [ce_bt hp] at h; exact h
theorem ce_p0 {post : Int32 → Prop} {p : Prop} (h : post (ce_b p)) (hp : ¬ p) : post 0 := by rw [ce_bf hp] at h; exact h
noncomputable def ce_d (p : Prop) : Bool := @decide p (Classical.propDecidable p)
theorem ce_di {p : Prop} : ce_d p = true ↔ p := @decide_eq_true_iff p (Classical.propDecidable p)
theorem ce_dt {p : Prop} (h : p) : ce_d p = true := ce_di.mpr h
theorem ce_df {p : Prop} (h : ¬ p) : ce_d p = false := by
  cases e : ce_d p
  · rfl
  · exact absurd (ce_di.mp e) h
theorem ce_dc {p q : Prop} (h : p ↔ q) : ce_d p = ce_d q := by rw [propext h]
theorem ce_nt {x : Bool} (h : ¬ x = true) : x = false := by cases x <;> simp_all
theorem ce_nf {x : Bool} (h : ¬ x = false) : x = true := by cases x <;> simp_all
/-- a loop with one outcome, for all posts q -/
theorem ce_lpE {σ Q : Type} (W : Q → Nat → Nat → σ → Prop) (I : Nat → σ → Prop) (E : Q → σ → Prop) (e : Nat)
    (hx : ∀ q n s, I e s → E q s → W q (n + 1) e s)
    (hs : ∀ i s, i < e → I i s → ∃ s', I (i + 1) s' ∧ ∀ q n, W q n (i + 1) s' → W q (n + 1) i s)
    (i0 : Nat) (hi : i0 ≤ e) (s : σ) (h0 : I i0 s) : ∃ s', I e s' ∧ ∀ q, E q s' → ∃ n, W q n i0 s := by
  have key : ∀ d i s, i + d = e → I i s → ∃ s', I e s' ∧ ∀ q, E q s' → W q (d + 1) i s := by
    intro d
    induction d with
    | zero =>
      intro i s hie hI
      have : i = e := by omega
      subst this
      exact ⟨s, hI, fun q h => hx q 0 s hI h⟩
    | succ d ih =>
      intro i s hie hI
      obtain ⟨s1, h1, k1⟩ := hs i s (by omega) hI
      obtain ⟨s2, h2, k2⟩ := ih (i + 1) s1 (by omega) h1
      exact ⟨s2, h2, fun q h => k1 q _ (k2 q h)⟩
  obtain ⟨s', h1, h2⟩ := key (e - i0) i0 s (by omega) h0
  exact ⟨s', h1, fun q h => ⟨_, h2 q h⟩⟩
theorem ce_lpX {σ Q : Type} (W : Q → Nat → Nat → σ → Prop) (I : Nat → σ → Prop) (e : Nat)
    (hs : ∀ i s, i < e → I i s → ∃ s', I (i + 1) s' ∧ ∀ q n, W q n (i + 1) s' → W q (n + 1) i s)
    (i0 : Nat) (hi : i0 ≤ e) (s : σ) (h0 : I i0 s) : ∃ s', I e s' ∧ ∀ q, (∀ n, W q (n + 1) e s') → ∃ n, W q n i0 s :=
  ce_lpE W I (fun q s => ∀ n, W q (n + 1) e s) e (fun _ n _ _ h => h n) hs i0 hi s h0
/-- the first k cells, as a list -/
def ce_ls (a : Nat → Int32) : Nat → List Int32
  | 0 => []
  | k + 1 => ce_ls a k ++ [a k]
theorem ce_ls_s (a : Nat → Int32) (k : Nat) : ce_ls a (k + 1) = ce_ls a k ++ [a k] := rfl
theorem ce_ls_0 (a : Nat → Int32) : ce_ls a 0 = [] := rfl
theorem ce_ls_len (a : Nat → Int32) (k : Nat) : (ce_ls a k).length = k := by
  induction k with
  | zero => rfl
  | succ k ih => rw [ce_ls_s, List.length_append, ih]; rfl
theorem ce_ls_mem {a : Nat → Int32} {c : Int32} {k : Nat} : c ∈ ce_ls a k ↔ ∃ j, j < k ∧ a j = c := by
  induction k with
  | zero => simp [ce_ls_0]
  | succ k ih =>
    rw [ce_ls_s, List.mem_append, ih, List.mem_singleton]
    constructor
    · rintro (⟨j, hj, e⟩ | e)
      · exact ⟨j, by omega, e⟩
      · exact ⟨k, by omega, e.symm⟩
    · rintro ⟨j, hj, e⟩
      rcases Nat.lt_or_ge j k with h | h
      · exact Or.inl ⟨j, h, e⟩
      · have : j = k := by omega
        subst this
        exact Or.inr e.symm
theorem ce_ls_at {a : Nat → Int32} {j k : Nat} (h : j < k) : a j ∈ ce_ls a k := ce_ls_mem.mpr ⟨j, h, rfl⟩
theorem ce_ls_congr {a b : Nat → Int32} {k : Nat} (h : ∀ j, j < k → a j = b j) : ce_ls a k = ce_ls b k := by
  induction k with
  | zero => rfl
  | succ k ih => rw [ce_ls_s, ce_ls_s, ih (fun j hj => h j (by omega)), h k (by omega)]
theorem ce_ls_upd {a : Nat → Int32} {i k : Nat} {x : Int32} (h : k ≤ i) : ce_ls (upd a i x) k = ce_ls a k :=
  ce_ls_congr (fun j hj => pk_un (by omega))
theorem ce_ls_push (a : Nat → Int32) (k : Nat) (x : Int32) : ce_ls (upd a k x) (k + 1) = ce_ls a k ++ [x] := by
  rw [ce_ls_s, ce_ls_upd (Nat.le_refl _), pk_us]
theorem ce_ls_cons (a : Nat → Int32) (k : Nat) : ce_ls a (k + 1) = a 0 :: ce_ls (fun j => a (j + 1)) k := by
  induction k with
  | zero => rfl
  | succ k ih => rw [ce_ls_s, ih]; rfl
/-- cells p, p + 1 .. p + k - 1 -/
def ce_sg (a : Nat → Int32) (p k : Nat) : List Int32 := ce_ls (fun j => a (p + j)) k
theorem ce_sg_mem {a : Nat → Int32} {c : Int32} {p k : Nat} : c ∈ ce_sg a p k ↔ ∃ j, j < k ∧ a (p + j) = c := ce_ls_mem
theorem ce_sg_congr {a b : Nat → Int32} {p k : Nat} (h : ∀ j, j < k → a (p + j) = b (p + j)) : ce_sg a p k = ce_sg b p k := ce_ls_congr h
theorem ce_sg_upd {a : Nat → Int32} {i p k : Nat} {x : Int32} (h : i < p ∨ p + k ≤ i) : ce_sg (upd a i x) p k = ce_sg a p k :=
  ce_sg_congr (fun j hj => pk_un (by omega))
theorem ce_sg_s (a : Nat → Int32) (p k : Nat) : ce_sg a p (k + 1) = ce_sg a p k ++ [a (p + k)] := rfl
theorem ce_sg_0 (a : Nat → Int32) (p : Nat) : ce_sg a p 0 = [] := rfl
theorem ce_sg_push (a : Nat → Int32) (p k : Nat) (x : Int32) : ce_sg (upd a (p + k) x) p (k + 1) = ce_sg a p k ++ [x] := by
  rw [ce_sg_s, ce_sg_upd (Or.inr (Nat.le_refl _)), pk_us]
theorem ce_sg_cons (a : Nat → Int32) (p k : Nat) : ce_sg a p (k + 1) = a p :: ce_sg a (p + 1) k := by
  unfold ce_sg
  rw [ce_ls_cons]
  have e : (fun j => a (p + (j + 1))) = (fun j => a (p + 1 + j)) := funext (fun j => congrArg a (by omega))
  rw [e]
  rfl
theorem ce_cnt_s (p : Int32 → Bool) (a : Nat → Int32) (k : Nat) : (ce_ls a (k + 1)).countP p = (ce_ls a k).countP p + (if p (a k) = true then 1 else 0) := by
  rw [ce_ls_s, List.countP_append, List.countP_singleton]
theorem ce_cnt_t {p : Int32 → Bool} {a : Nat → Int32} {k : Nat} (h : p (a k) = true) : (ce_ls a (k + 1)).countP p = (ce_ls a k).countP p + 1 := by
  rw [ce_cnt_s, if_pos h]
theorem ce_cnt_f {p : Int32 → Bool} {a : Nat → Int32} {k : Nat} (h : p (a k) = false) : (ce_ls a (k + 1)).countP p = (ce_ls a k).countP p := by
  rw [ce_cnt_s, if_neg (by rw [h]; decide)]; rfl
theorem ce_cnt_le (p : Int32 → Bool) (a : Nat → Int32) {i k : Nat} (h : i ≤ k) : (ce_ls a i).countP p ≤ (ce_ls a k).countP p := by
  obtain ⟨d, rfl⟩ : ∃ d, k = i + d := ⟨k - i, by omega⟩
  induction d with
  | zero => exact Nat.le_refl _
  | succ d ih =>
    have h1 := ih (by omega)
    have h2 := ce_cnt_s p a (i + d)
    rw [show i + (d + 1) = i + d + 1 from rfl]
    omega
theorem ce_cnt_k (p : Int32 → Bool) (a : Nat → Int32) (k : Nat) : (ce_ls a k).countP p ≤ k := by
  have := List.countP_le_length (p := p) (l := ce_ls a k)
  rw [ce_ls_len] at this
  exact this
theorem ce_fil_t {p : Int32 → Bool} {a : Nat → Int32} {k : Nat} (h : p (a k) = true) : (ce_ls a (k + 1)).filter p = (ce_ls a k).filter p ++ [a k] := by
  rw [ce_ls_s, List.filter_append, List.filter_cons_of_pos h, List.filter_nil]
theorem ce_fil_f {p : Int32 → Bool} {a : Nat → Int32} {k : Nat} (h : p (a k) = false) : (ce_ls a (k + 1)).filter p = (ce_ls a k).filter p := by
  rw [ce_ls_s, List.filter_append, List.filter_cons_of_neg (by rw [h]; decide), List.filter_nil, List.append_nil]
theorem ce_00 : nI 0 ≤ 0 := by decide
end
section
/-! literals, clauses, assignments by bits -/
def ce_lb (k : Int32) : Int32 := if k = 0 then 0 else if k ≤ 0 then (256 : Int32) <<< (((-k) - 1) &&& 31) else (1 : Int32) <<< ((k - 1) &&& 31)
def ce_bo (k : Int32) : Int32 := (257 : Int32) <<< ((k - 1) &&& 31)
def ce_mk (n : Nat) : Int32 := ((1 : Int32) <<< (nI n &&& 31)) - 1
def ce_bi (v : Nat) : Int32 := (1 : Int32) <<< (nI v &&& 31)
/-- the literal of variable v (from 0) and sign b -/
def ce_li (b : Bool) (v : Nat) : Int32 := if b = true then nI (v + 1) else -nI (v + 1)
/-- its bit's place -/
def ce_po (b : Bool) (v : Nat) : Nat := if b = true then v else v + 8
/-- the place of the literal nI j - nI n -/
def ce_ps (n j : Nat) : Nat := if j < n then 8 + (n - 1 - j) else j - n - 1
theorem ce_li_b : ∀ v, v < 8 → ∀ b : Bool, ∀ i, i < 32 → bt (ce_lb (ce_li b v)) i = decide (i = ce_po b v) := by decide +kernel
theorem ce_bo_b : ∀ v, v < 8 → ∀ i, i < 32 → bt (ce_bo (nI (v + 1))) i = decide (i = v ∨ i = v + 8) := by decide +kernel
theorem ce_mk_b : ∀ n, n < 9 → ∀ i, i < 32 → bt (ce_mk n) i = decide (i < n) := by decide +kernel
theorem ce_bi_b : ∀ v, v < 9 → ∀ i, i < 32 → bt (ce_bi v) i = decide (i = v) := by decide +kernel
theorem ce_ps_b : ∀ n, n < 9 → ∀ j, j < 2 * n + 1 → j ≠ n → ∀ i, i < 32 → bt (ce_lb (nI j - nI n)) i = decide (i = ce_ps n j) := by decide +kernel
theorem ce_bo_x : ∀ v, v < 8 → ∀ b : Bool, ce_bo (nI (v + 1)) ^^^ ce_lb (ce_li b v) = ce_lb (ce_li (!b) v) := by decide +kernel
theorem ce_li_neg : ∀ v, v < 8 → ∀ b : Bool, -(ce_li b v) = ce_li (!b) v := by decide +kernel
theorem ce_li_ne : ∀ v, v < 8 → ∀ b : Bool, ¬ ce_li b v = 0 := by decide +kernel
theorem ce_kneg : ∀ n, n < 9 → ∀ j, j < 2 * n + 1 → -(nI j - nI n) = nI (2 * n - j) - nI n := by decide +kernel
theorem ce_klt : ∀ n, n < 9 → ∀ j, j < 18 → (nI n < nI j - nI n ↔ 2 * n < j) := by decide +kernel
theorem ce_kli : ∀ n, n < 9 → ∀ j, j < 2 * n + 1 → j ≠ n → ∀ v, v < 8 → ∀ b : Bool, (nI j - nI n = ce_li b v ↔ ce_ps n j = ce_po b v) := by decide +kernel
theorem ce_kst (n : Nat) : -nI n = nI 0 - nI n := by rw [nI_0, Int32.zero_sub]
theorem ce_ks (n j : Nat) : nI j - nI n + 1 = nI (j + 1) - nI n := by rw [← nI_1]; grind
theorem ce_li_t (v : Nat) : ce_li true v = nI (v + 1) := rfl
theorem ce_li_f (v : Nat) : ce_li false v = -nI (v + 1) := rfl
theorem ce_po_t (v : Nat) : ce_po true v = v := rfl
theorem ce_po_f (v : Nat) : ce_po false v = v + 8 := rfl
theorem ce_po_lt {v : Nat} (h : v < 8) (b : Bool) : ce_po b v < 32 := by cases b <;> simp only [ce_po_t, ce_po_f] <;> omega
/-- an int is 0, a literal of 1 .. n, or outside -/
theorem ce_lit {n : Nat} (hn : n ≤ 8) {x : Int32} (h0 : ¬ x = 0) (h1 : ¬ x < -nI n) (h2 : ¬ nI n < x) : ∃ b v, v < n ∧ x = ce_li b v := by
  rw [Int32.lt_iff_toInt_lt, sb_negT (by omega)] at h1
  rw [Int32.lt_iff_toInt_lt, nI_toInt (by omega)] at h2
  by_cases hx : x < 0
  · refine ⟨false, (-x.toInt).toNat - 1, ?_, ?_⟩
    · rw [Int32.lt_iff_toInt_lt, show (0 : Int32).toInt = 0 from by decide] at hx
      omega
    · rw [Int32.lt_iff_toInt_lt, show (0 : Int32).toInt = 0 from by decide] at hx
      apply Int32.toInt_inj.mp
      rw [ce_li_f, sb_negT (by omega)]
      omega
  · obtain ⟨j, hj, rfl⟩ := nI_of hx
    rw [nI_toInt hj] at h1 h2
    have : j ≠ 0 := fun e => h0 (by rw [e]; exact nI_0)
    refine ⟨true, j - 1, by omega, ?_⟩
    rw [ce_li_t]
    exact congrArg nI (by omega)
theorem ce_li_in {n : Nat} (hn : n ≤ 8) {v : Nat} (hv : v < n) (b : Bool) : ¬ ce_li b v < -nI n ∧ ¬ nI n < ce_li b v := by
  cases b
  · rw [ce_li_f, sb_nlt (by omega) (by omega), Int32.lt_iff_toInt_lt, sb_negT (by omega), nI_toInt (by omega)]
    omega
  · rw [ce_li_t, nI_ltI (by omega) (by omega), Int32.lt_iff_toInt_lt, sb_negT (by omega), nI_toInt (by omega)]
    omega
/-! ### sets of bits -/
theorem ce_z {x : Int32} : x = 0 ↔ ∀ i, i < 32 → bt x i = false :=
  ⟨fun h i _ => by rw [h]; exact b_0 i, fun h => b_ext (fun i hi => by rw [h i hi, b_0])⟩
theorem ce_not (x : Int32) {i : Nat} (hi : i < 32) : bt (x ^^^ (-1)) i = !bt x i := by
  rw [b_xor, b_m1 i hi]
  cases bt x i <;> rfl
def ce_Sub (c d : Int32) : Prop := ∀ i, i < 32 → bt c i = true → bt d i = true
theorem ce_sub_iff {c d : Int32} : c &&& (d ^^^ (-1)) = 0 ↔ ce_Sub c d := by
  rw [ce_z]
  constructor
  · intro h i hi hc
    have h1 := h i hi
    rw [b_and, ce_not d hi, hc] at h1
    cases e : bt d i
    · rw [e] at h1; exact absurd h1 (by decide)
    · rfl
  · intro h i hi
    rw [b_and, ce_not d hi]
    cases hc : bt c i
    · rfl
    · rw [h i hi hc]; rfl
theorem ce_sub_rfl (c : Int32) : ce_Sub c c := fun _ _ h => h
theorem ce_sub_tr {a b c : Int32} (h : ce_Sub a b) (g : ce_Sub b c) : ce_Sub a c := fun i hi x => g i hi (h i hi x)
theorem ce_sub_an {a b : Int32} (h : ce_Sub a b) (g : ce_Sub b a) : a = b := by
  apply b_ext
  intro i hi
  cases e : bt a i
  · cases f : bt b i
    · rfl
    · have := g i hi f; rw [e] at this; exact absurd this (by decide)
  · exact (h i hi e).symm
theorem ce_one {s : Int32} {p : Nat} (hp : p < 32) (hs : ∀ i, i < 32 → bt s i = decide (i = p)) (c : Int32) : c &&& s = 0 ↔ bt c p = false := by
  rw [ce_z]
  constructor
  · intro h
    have h1 := h p hp
    rw [b_and, hs p hp, decide_eq_true rfl, Bool.and_true] at h1
    exact h1
  · intro h i hi
    rw [b_and, hs i hi]
    by_cases e : i = p
    · subst e; rw [h]; rfl
    · rw [decide_eq_false e, Bool.and_false]
theorem ce_has {v : Nat} (hv : v < 8) (b : Bool) (c : Int32) : c &&& ce_lb (ce_li b v) = 0 ↔ bt c (ce_po b v) = false :=
  ce_one (ce_po_lt hv b) (fun i hi => ce_li_b v hv b i hi) c
theorem ce_hasN {v : Nat} (hv : v < 8) (b : Bool) (c : Int32) : ¬ c &&& ce_lb (ce_li b v) = 0 ↔ bt c (ce_po b v) = true := by
  rw [ce_has hv]
  cases bt c (ce_po b v) <;> simp
theorem ce_bo_z {v : Nat} (hv : v < 8) (c : Int32) : c &&& ce_bo (nI (v + 1)) = 0 ↔ (bt c v = false ∧ bt c (v + 8) = false) := by
  rw [ce_z]
  constructor
  · intro h
    have h1 := h v (by omega)
    have h2 := h (v + 8) (by omega)
    rw [b_and, ce_bo_b v hv _ (by omega), decide_eq_true (by omega), Bool.and_true] at h1 h2
    exact ⟨h1, h2⟩
  · rintro ⟨h1, h2⟩ i hi
    rw [b_and, ce_bo_b v hv i hi]
    by_cases e : i = v
    · subst e; rw [h1]; rfl
    · by_cases f : i = v + 8
      · subst f; rw [h2]; rfl
      · rw [decide_eq_false (by omega), Bool.and_false]
theorem ce_boN {v : Nat} (hv : v < 8) (c : Int32) : ¬ c &&& ce_bo (nI (v + 1)) = 0 ↔ (bt c v = true ∨ bt c (v + 8) = true) := by
  rw [ce_bo_z hv]
  cases bt c v <;> cases bt c (v + 8) <;> simp
/-- c without both literals of v -/
theorem ce_mi_b {v : Nat} (hv : v < 8) (c : Int32) {i : Nat} (hi : i < 32) : bt (c &&& (ce_bo (nI (v + 1)) ^^^ (-1))) i = (bt c i && !decide (i = v ∨ i = v + 8)) := by
  rw [b_and, ce_not _ hi, ce_bo_b v hv i hi]
/-! ### clauses -/
def ce_OK (n : Nat) (c : Int32) : Prop := ∀ i, i < 32 → bt c i = true → (i < n ∨ (8 ≤ i ∧ i < 8 + n))
def ce_NT (c : Int32) : Prop := ∀ v, v < 8 → bt c v = true → bt c (v + 8) = true → False
def ce_C (n : Nat) (c : Int32) : Prop := ce_OK n c ∧ ce_NT c
def ce_Tr (n : Nat) (c a : Int32) : Prop := ∃ v, v < n ∧ ((bt c v = true ∧ bt a v = true) ∨ (bt c (v + 8) = true ∧ bt a v = false))
theorem ce_C_sub {n : Nat} {c d : Int32} (h : ce_Sub c d) (hd : ce_C n d) : ce_C n c :=
  ⟨fun i hi x => hd.1 i hi (h i hi x), fun v hv x y => hd.2 v hv (h v (by omega) x) (h (v + 8) (by omega) y)⟩
theorem ce_Tr_sub {n : Nat} (hn : n ≤ 8) {c d a : Int32} (h : ce_Sub c d) (t : ce_Tr n c a) : ce_Tr n d a := by
  obtain ⟨v, hv, e⟩ := t
  refine ⟨v, hv, ?_⟩
  rcases e with ⟨x, y⟩ | ⟨x, y⟩
  · exact Or.inl ⟨h v (by omega) x, y⟩
  · exact Or.inr ⟨h (v + 8) (by omega) x, y⟩
theorem ce_taut {n : Nat} (hn : n ≤ 8) {c : Int32} (hc : ce_OK n c) : c &&& (c >>> ((8 : Int32) &&& 31)) = 0 ↔ ce_NT c := by
  rw [ce_z]
  constructor
  · intro h v hv x y
    have h1 := h v (by omega)
    rw [b_and, b_sshr8 c (by omega), if_pos (by omega), x, show 8 + v = v + 8 from Nat.add_comm _ _, y] at h1
    exact absurd h1 (by decide)
  · intro h i hi
    rw [b_and, b_sshr8 c hi]
    cases e : bt c i
    · rfl
    · rw [Bool.true_and]
      by_cases k : 8 + i < 32
      · rw [if_pos k]
        cases f : bt c (8 + i)
        · rfl
        · have h1 := hc _ hi e
          have h2 := hc _ k f
          exact (h i (by omega) e (by rw [Nat.add_comm]; exact f)).elim
      · have h1 := hc _ hi e
        omega
theorem ce_within {n : Nat} (hn : n ≤ 8) {c : Int32} (hc : ce_OK n c) (d : Int32) :
    (∀ j, j < 2 * n + 1 → ¬ c &&& ce_lb (nI j - nI n) = 0 → ¬ d &&& ce_lb (nI j - nI n) = 0) ↔ ce_Sub c d := by
  have key : ∀ (x : Int32) j, j < 2 * n + 1 → j ≠ n → (¬ x &&& ce_lb (nI j - nI n) = 0 ↔ bt x (ce_ps n j) = true) := by
    intro x j hj hne
    rw [ce_one (p := ce_ps n j) (by unfold ce_ps; split <;> omega) (fun i hi => ce_ps_b n (by omega) j hj hne i hi)]
    cases bt x (ce_ps n j) <;> simp
  constructor
  · intro h i hi x
    rcases hc i hi x with k | ⟨k1, k2⟩
    · have e : ce_ps n (n + i + 1) = i := by unfold ce_ps; rw [if_neg (by omega)]; omega
      have h1 := h (n + i + 1) (by omega)
      rw [key _ _ (by omega) (by omega), key _ _ (by omega) (by omega), e] at h1
      exact h1 x
    · have e : ce_ps n (n - 1 - (i - 8)) = i := by unfold ce_ps; rw [if_pos (by omega)]; omega
      have h1 := h (n - 1 - (i - 8)) (by omega)
      rw [key _ _ (by omega) (by omega), key _ _ (by omega) (by omega), e] at h1
      exact h1 x
  · intro h j hj x
    by_cases hne : j = n
    · subst hne
      exact absurd (by rw [Int32.sub_self]; exact Int32.and_zero) x
    · rw [key _ _ hj hne] at x ⊢
      exact h _ (by unfold ce_ps; split <;> omega) x
/-! ### assignments -/
def ce_tt (n : Nat) (a : Int32) : Int32 := (a &&& ce_mk n) ||| (((a ^^^ (-1)) &&& ce_mk n) <<< ((8 : Int32) &&& 31))
theorem ce_tt_b {n : Nat} (hn : n ≤ 8) (a : Int32) {i : Nat} (hi : i < 32) : bt (ce_tt n a) i = ((bt a i && decide (i < n)) || (decide (8 ≤ i) && (!bt a (i - 8) && decide (i - 8 < n)))) := by
  unfold ce_tt
  rw [b_or, b_and, b_shl8 _ hi, b_and, ce_not _ (by omega), ce_mk_b n (by omega) i hi, ce_mk_b n (by omega) (i - 8) (by omega)]
theorem ce_tr_iff {n : Nat} (hn : n ≤ 8) (c a : Int32) : c &&& ce_tt n a = 0 ↔ ¬ ce_Tr n c a := by
  rw [ce_z]
  constructor
  · rintro h ⟨v, hv, ⟨x, y⟩ | ⟨x, y⟩⟩
    · have h1 := h v (by omega)
      rw [b_and, ce_tt_b hn a (by omega), x, y, decide_eq_true hv] at h1
      simp at h1
    · have h1 := h (v + 8) (by omega)
      rw [b_and, ce_tt_b hn a (by omega), x, Nat.add_sub_cancel, y, decide_eq_true hv, decide_eq_true (show 8 ≤ v + 8 by omega)] at h1
      revert h1
      cases (bt a (v + 8) && decide (v + 8 < n)) <;> decide
  · intro h i hi
    rw [b_and, ce_tt_b hn a hi]
    cases e : bt c i
    · rfl
    · by_cases p : bt a i = true ∧ i < n
      · exact (h ⟨i, p.2, Or.inl ⟨e, p.1⟩⟩).elim
      · by_cases q : 8 ≤ i ∧ bt a (i - 8) = false ∧ i - 8 < n
        · exact (h ⟨i - 8, q.2.2, Or.inr ⟨by rw [Nat.sub_add_cancel q.1]; exact e, q.2.1⟩⟩).elim
        · have e1 : (bt a i && decide (i < n)) = false := by
            cases f : bt a i
            · rfl
            · rw [decide_eq_false (fun z => p ⟨f, z⟩)]; rfl
          have e2 : (decide (8 ≤ i) && (!bt a (i - 8) && decide (i - 8 < n))) = false := by
            by_cases z : 8 ≤ i
            · cases f : bt a (i - 8)
              · rw [decide_eq_false (fun y => q ⟨z, f, y⟩)]; rw [decide_eq_true z]; rfl
              · rw [decide_eq_true z]; rfl
            · rw [decide_eq_false z]; rfl
          rw [e1, e2]; rfl
theorem ce_1b : ∀ i, i < 32 → bt 1 i = decide (i = 0) := by decide +kernel
theorem ce_and1 (x : Int32) : x &&& 1 = if bt x 0 = true then 1 else 0 := by
  apply b_ext
  intro i hi
  rw [b_and, ce_1b i hi]
  by_cases e : i = 0
  · subst e
    cases bt x 0 <;> decide
  · rw [decide_eq_false e, Bool.and_false]
    cases bt x 0
    · exact (b_0 i).symm
    · rw [if_pos rfl, ce_1b i hi, decide_eq_false e]
theorem ce_sh1 (x : Int32) {v : Nat} (hv : v < 32) : (x >>> (nI v &&& 31)) &&& 1 = if bt x v = true then 1 else 0 := by
  rw [ce_and1, b_sshr v hv x (by omega), if_pos (show v + 0 < 32 by omega), Nat.add_zero]
theorem ce_sh1t (x : Int32) {v : Nat} (hv : v < 32) : (x >>> (nI v &&& 31)) &&& 1 = 1 ↔ bt x v = true := by
  rw [ce_sh1 x hv]
  cases bt x v <;> decide
theorem ce_sh1e (x y : Int32) {v : Nat} (hv : v < 32) : (x >>> (nI v &&& 31)) &&& 1 = (y >>> (nI v &&& 31)) &&& 1 ↔ bt x v = bt y v := by
  rw [ce_sh1 x hv, ce_sh1 y hv]
  cases bt x v <;> cases bt y v <;> decide
/-- a with the literal made true -/
def ce_mad (b : Bool) (v : Nat) (a : Int32) : Int32 := if b = true then a ||| ce_bi v else a &&& (ce_bi v ^^^ (-1))
theorem ce_mad_b {v : Nat} (hv : v < 9) (b : Bool) (a : Int32) {i : Nat} (hi : i < 32) : bt (ce_mad b v a) i = if i = v then b else bt a i := by
  cases b
  · show bt (a &&& (ce_bi v ^^^ (-1))) i = _
    rw [b_and, ce_not _ hi, ce_bi_b v hv i hi]
    by_cases e : i = v
    · rw [if_pos e, decide_eq_true e]; simp
    · rw [if_neg e, decide_eq_false e]; simp
  · show bt (a ||| ce_bi v) i = _
    rw [b_or, ce_bi_b v hv i hi]
    by_cases e : i = v
    · rw [if_pos e, decide_eq_true e]; simp
    · rw [if_neg e, decide_eq_false e]; simp
/-- truth depends on the first n bits alone -/
theorem ce_Tr_congr {n : Nat} {c a a' : Int32} (h : ∀ v, v < n → bt a v = bt a' v) : ce_Tr n c a ↔ ce_Tr n c a' := by
  constructor
  · rintro ⟨v, hv, e⟩
    exact ⟨v, hv, by rw [← h v hv]; exact e⟩
  · rintro ⟨v, hv, e⟩
    exact ⟨v, hv, by rw [h v hv]; exact e⟩
theorem ce_Tr_mask {n : Nat} (hn : n ≤ 8) (c a : Int32) : ce_Tr n c (a &&& ce_mk n) ↔ ce_Tr n c a :=
  ce_Tr_congr (fun v hv => by rw [b_and, ce_mk_b n (by omega) v (by omega), decide_eq_true hv, Bool.and_true])
/-- a literal that the clause holds, made true -/
theorem ce_Tr_mad {n v : Nat} (hn : n ≤ 8) (hv : v < n) {c : Int32} (a : Int32) (b : Bool) (h : bt c (ce_po b v) = true) : ce_Tr n c (ce_mad b v a) := by
  refine ⟨v, hv, ?_⟩
  rw [ce_mad_b (by omega) b a (by omega), if_pos rfl]
  cases b
  · exact Or.inr ⟨h, rfl⟩
  · exact Or.inl ⟨h, rfl⟩
/-- a true literal of another variable stays true -/
theorem ce_Tr_oth {n u v : Nat} (hn : n ≤ 8) (hv : v < n) (hu : u < n) (ne : u ≠ v) {c : Int32} (a : Int32) (b : Bool) (e : (bt c u = true ∧ bt a u = true) ∨ (bt c (u + 8) = true ∧ bt a u = false)) : ce_Tr n c (ce_mad b v a) := by
  refine ⟨u, hu, ?_⟩
  rw [ce_mad_b (by omega) b a (by omega), if_neg ne]
  exact e
end
section
/-! minimal members of a set of clauses -/
def ce_Mi (S : Int32 → Prop) (c : Int32) : Prop := S c ∧ ∀ d, S d → ce_Sub d c → d = c
def ce_WK (S : Int32 → Prop) (W : List Int32) : Prop :=
  W.Nodup ∧ (∀ c, c ∈ W → S c) ∧ (∀ d, S d → ∃ w, w ∈ W ∧ ce_Sub w d) ∧ (∀ c, c ∈ W → ∀ d, d ∈ W → ce_Sub c d → c = d)
theorem ce_WK_mem {S : Int32 → Prop} {W : List Int32} (h : ce_WK S W) (c : Int32) : c ∈ W ↔ ce_Mi S c := by
  obtain ⟨_, h2, h3, h4⟩ := h
  constructor
  · intro hc
    refine ⟨h2 c hc, fun d hd s => ?_⟩
    obtain ⟨w, hw, sw⟩ := h3 d hd
    have e := h4 w hw c hc (ce_sub_tr sw s)
    subst e
    exact ce_sub_an s sw
  · rintro ⟨hc, hm⟩
    obtain ⟨w, hw, sw⟩ := h3 c hc
    have e := hm w (h2 w hw) sw
    subst e
    exact hw
theorem ce_WK_nil {S : Int32 → Prop} (h : ∀ c, ¬ S c) : ce_WK S [] :=
  ⟨List.nodup_nil, fun _ h => (List.not_mem_nil h).elim, fun d hd => (h d hd).elim, fun _ h => (List.not_mem_nil h).elim⟩
theorem ce_WK_congr {S S' : Int32 → Prop} {W : List Int32} (e : ∀ c, S c ↔ S' c) (h : ce_WK S W) : ce_WK S' W :=
  ⟨h.1, fun c hc => (e c).mp (h.2.1 c hc), fun d hd => h.2.2.1 d ((e d).mpr hd), h.2.2.2⟩
theorem ce_WK_add0 {S : Int32 → Prop} {W : List Int32} {c : Int32} (h : ce_WK S W) (hx : ∃ x, x ∈ W ∧ ce_Sub x c) : ce_WK (fun d => S d ∨ d = c) W := by
  refine ⟨h.1, fun d hd => Or.inl (h.2.1 d hd), ?_, h.2.2.2⟩
  rintro d (hd | rfl)
  · exact h.2.2.1 d hd
  · exact hx
theorem ce_WK_add1 {S : Int32 → Prop} {W : List Int32} {c : Int32} (h : ce_WK S W) (hx : ∀ x, x ∈ W → ¬ ce_Sub x c) :
    ce_WK (fun d => S d ∨ d = c) (W.filter (fun x => ce_d (¬ ce_Sub c x)) ++ [c]) := by
  obtain ⟨h1, h2, h3, h4⟩ := h
  have hf : ∀ x, x ∈ W.filter (fun x => ce_d (¬ ce_Sub c x)) ↔ x ∈ W ∧ ¬ ce_Sub c x := by
    intro x
    rw [List.mem_filter, ce_di]
  have hm : ∀ x, x ∈ W.filter (fun x => ce_d (¬ ce_Sub c x)) ++ [c] ↔ (x ∈ W ∧ ¬ ce_Sub c x) ∨ x = c := by
    intro x
    rw [List.mem_append, hf, List.mem_singleton]
  refine ⟨?_, ?_, ?_, ?_⟩
  · rw [List.nodup_append]
    refine ⟨h1.sublist List.filter_sublist, List.pairwise_singleton _ _, ?_⟩
    intro a ha b hb e
    rw [List.mem_singleton] at hb
    subst hb
    subst e
    exact hx _ ((hf _).mp ha).1 (ce_sub_rfl _)
  · intro x hh
    rcases (hm x).mp hh with k | k
    · exact Or.inl (h2 x k.1)
    · exact Or.inr k
  · rintro d (hd | rfl)
    · obtain ⟨w, hw, sw⟩ := h3 d hd
      by_cases k : ce_Sub c w
      · exact ⟨c, (hm c).mpr (Or.inr rfl), ce_sub_tr k sw⟩
      · exact ⟨w, (hm w).mpr (Or.inl ⟨hw, k⟩), sw⟩
    · exact ⟨d, (hm d).mpr (Or.inr rfl), ce_sub_rfl d⟩
  · intro x hx1 y hy1 s
    rcases (hm x).mp hx1 with k | k
    · rcases (hm y).mp hy1 with l | l
      · exact h4 x k.1 y l.1 s
      · subst l
        exact (hx x k.1 s).elim
    · rcases (hm y).mp hy1 with l | l
      · subst k
        exact (l.2 s).elim
      · rw [k, l]
theorem ce_WK_perm {S S' : Int32 → Prop} {W L : List Int32} (h : ce_WK S W) (e : ∀ c, S c ↔ S' c) (hd : L.Nodup) (hm : ∀ c, c ∈ L ↔ ce_Mi S' c) : W.Perm L := by
  have h' := ce_WK_congr e h
  exact (List.perm_ext_iff_of_nodup h'.1 hd).mpr (fun c => (ce_WK_mem h' c).trans (hm c).symm)
/-- an antichain is its own set of minimal members -/
theorem ce_WK_self {L : List Int32} (hd : L.Nodup) (ha : ∀ c, c ∈ L → ∀ d, d ∈ L → ce_Sub c d → c = d) : ce_WK (fun c => c ∈ L) L :=
  ⟨hd, fun _ h => h, fun d hd => ⟨d, hd, ce_sub_rfl d⟩, ha⟩
/-- a formula: sorted, clauses well formed, none within another -/
def ce_F (n : Nat) (L : List Int32) : Prop :=
  L.Pairwise (· < ·) ∧ (∀ c, c ∈ L → ce_C n c) ∧ (∀ c, c ∈ L → ∀ d, d ∈ L → ce_Sub c d → c = d)
theorem ce_srt_nodup {L : List Int32} (h : L.Pairwise (· < ·)) : L.Nodup :=
  h.imp (fun {a b} hab e => by subst e; exact Int32.lt_irrefl hab)
theorem ce_F_WK {n : Nat} {L : List Int32} (h : ce_F n L) : ce_WK (fun c => c ∈ L) L := ce_WK_self (ce_srt_nodup h.1) h.2.2
theorem ce_F_of {n : Nat} {S : Int32 → Prop} {W L : List Int32} (h : ce_WK S W) (hs : L.Pairwise (· < ·)) (hp : L.Perm W) (hc : ∀ c, S c → ce_C n c) : ce_F n L :=
  ⟨hs, fun c hl => hc c (h.2.1 c (hp.mem_iff.mp hl)), fun c hl d hk s => h.2.2.2 c (hp.mem_iff.mp hl) d (hp.mem_iff.mp hk) s⟩
/-- models -/
def ce_Md (n : Nat) (L : List Int32) (a : Int32) : Prop := ∀ c, c ∈ L → ce_Tr n c a
theorem ce_Md_perm {n : Nat} {L L' : List Int32} {a : Int32} (h : L.Perm L') : ce_Md n L a ↔ ce_Md n L' a :=
  ⟨fun k c hc => k c (h.mem_iff.mpr hc), fun k c hc => k c (h.mem_iff.mp hc)⟩
/-- a cover's model is a model of all that is covered -/
theorem ce_Md_WK {n : Nat} (hn : n ≤ 8) {S : Int32 → Prop} {W : List Int32} {a : Int32} (h : ce_WK S W) (m : ce_Md n W a) : ∀ c, S c → ce_Tr n c a := by
  intro c hc
  obtain ⟨w, hw, sw⟩ := h.2.2.1 c hc
  exact ce_Tr_sub hn sw (m w hw)
/-! ### insertion -/
theorem ce_ins {A B : List Int32} {c : Int32} (h : (A ++ B).Pairwise (· < ·)) (hA : ∀ a, a ∈ A → a < c) (hB : ∀ b, b ∈ B → c < b) : (A ++ c :: B).Pairwise (· < ·) := by
  rw [List.pairwise_append] at h ⊢
  refine ⟨h.1, List.pairwise_cons.mpr ⟨hB, h.2.1⟩, ?_⟩
  intro a ha b hb
  rcases List.mem_cons.mp hb with k | k
  · rw [k]; exact hA a ha
  · exact h.2.2 a ha b k
/-- rank of a cell in a sorted list -/
theorem ce_rank {a : Nat → Int32} {z : Nat} (hs : (ce_ls a z).Pairwise (· < ·)) : (∀ i j, i < j → j < z → a i < a j) := by
  induction z with
  | zero => intro i j _ h; omega
  | succ z ih =>
    rw [ce_ls_s, List.pairwise_append] at hs
    intro i j hij hj
    by_cases e : j = z
    · subst e
      exact hs.2.2 _ (ce_ls_at hij) _ (List.mem_singleton.mpr rfl)
    · exact ih hs.1 i j hij (by omega)
theorem ce_rank_c {a : Nat → Int32} {z r : Nat} (h : ∀ i j, i < j → j < z → a i < a j) (hr : r < z) : ∀ k, k ≤ z → (ce_ls a k).countP (fun c => decide (c < a r)) = if k ≤ r then k else r := by
  intro k
  induction k with
  | zero => intro _; rw [if_pos (Nat.zero_le _)]; rfl
  | succ k ih =>
    intro hk
    have h1 := ih (by omega)
    by_cases e : k < r
    · rw [ce_cnt_t (decide_eq_true (h k r e hr)), h1, if_pos (by omega), if_pos (by omega)]
    · have e2 : ¬ a k < a r := by
        intro z1
        by_cases e3 : k = r
        · subst e3; exact Int32.lt_irrefl z1
        · exact Int32.lt_irrefl (Int32.lt_trans z1 (h r k (by omega) (by omega)))
      rw [ce_cnt_f (decide_eq_false e2), h1]
      by_cases e3 : k = r
      · rw [if_pos (by omega), if_neg (by omega), e3]
      · rw [if_neg (by omega), if_neg (by omega)]
end
section
/-! X: the methods that only read -/
section
variable {f_n f_m f_mask f_size f_workCount f_acceptedCount f_stepCount : Int32} {a_state a_formula a_work a_accepted a_stepLiteral a_stepEliminates a_stepStart a_trail : Nat → Int32}
theorem xw_inRange {post : Int32 → Prop} {n : Nat} {x : Int32} (h : post (ce_b (¬ x < -nI n ∧ ¬ nI n < x))) : wpX_inRange post (nI n, f_m, f_mask, f_size, f_workCount, f_acceptedCount, f_stepCount, a_state, a_formula, a_work, a_accepted, a_stepLiteral, a_stepEliminates, a_stepStart, a_trail) x :=
  br_c (fun z => ce_p0 h (fun w => w.1 z)) (fun z => br_c (fun y => ce_p0 h (fun w => w.2 y)) (fun y => ce_p1 h ⟨z, y⟩))
theorem xw_isVariable {post : Int32 → Prop} {n : Nat} {x : Int32} (h : post (ce_b (¬ x < 1 ∧ ¬ nI n < x))) : wpX_isVariable post (nI n, f_m, f_mask, f_size, f_workCount, f_acceptedCount, f_stepCount, a_state, a_formula, a_work, a_accepted, a_stepLiteral, a_stepEliminates, a_stepStart, a_trail) x :=
  br_c (fun z => ce_p0 h (fun w => w.1 z)) (fun z => br_c (fun y => ce_p0 h (fun w => w.2 y)) (fun y => ce_p1 h ⟨z, y⟩))
theorem xw_bitOf {post : Int32 → Prop} {x : Int32} (h : post (ce_lb x)) : wpX_bitOf post (f_n, f_m, f_mask, f_size, f_workCount, f_acceptedCount, f_stepCount, a_state, a_formula, a_work, a_accepted, a_stepLiteral, a_stepEliminates, a_stepStart, a_trail) x := by
  unfold ce_lb at h
  refine br_c (fun z => ?_) (fun z => br_c (fun y => ?_) (fun y => ?_))
  · rw [if_pos z] at h; exact h
  · rw [if_neg z, if_pos y] at h; exact h
  · rw [if_neg z, if_neg y] at h; exact h
theorem xw_bothOf {post : Int32 → Prop} {x : Int32} (h : post (ce_bo x)) : wpX_bothOf post (f_n, f_m, f_mask, f_size, f_workCount, f_acceptedCount, f_stepCount, a_state, a_formula, a_work, a_accepted, a_stepLiteral, a_stepEliminates, a_stepStart, a_trail) x := h
theorem xw_truthsOf {post : Int32 → Prop} {n : Nat} {x : Int32} (h : post (ce_tt n x)) : wpX_truthsOf post (f_n, f_m, ce_mk n, f_size, f_workCount, f_acceptedCount, f_stepCount, a_state, a_formula, a_work, a_accepted, a_stepLiteral, a_stepEliminates, a_stepStart, a_trail) x := h
theorem xw_isTautology {post : Int32 → Prop} {n : Nat} {x : Int32} (hn : n ≤ 8) (hc : ce_OK n x) (h : post (ce_b (¬ ce_NT x))) : wpX_isTautology post (f_n, f_m, f_mask, f_size, f_workCount, f_acceptedCount, f_stepCount, a_state, a_formula, a_work, a_accepted, a_stepLiteral, a_stepEliminates, a_stepStart, a_trail) x :=
  br_c (fun z => ce_p0 h (fun w => w ((ce_taut hn hc).mp z))) (fun z => ce_p1 h (fun w => z ((ce_taut hn hc).mpr w)))
def ce_tch (n : Nat) (S : Nat → Int32) (c : Int32) : Prop := ∃ v, v < n ∧ ¬ c &&& ce_bo (nI (v + 1)) = 0 ∧ (S (v + 1) = 2 ∨ S (v + 1) = 3)
theorem xw_isTouched {post : Int32 → Prop} {n : Nat} {c : Int32} (hn : n ≤ 8) (h : post (ce_b (ce_tch n a_state c))) : wpX_isTouched post (nI n, f_m, f_mask, f_size, f_workCount, f_acceptedCount, f_stepCount, a_state, a_formula, a_work, a_accepted, a_stepLiteral, a_stepEliminates, a_stepStart, a_trail) c := by
  refine loop_0 (fun k i (_ : Unit) => wX_isTouched_2 post c (nI n) f_m f_mask f_size f_workCount f_acceptedCount f_stepCount a_state a_formula a_work a_accepted a_stepLiteral a_stepEliminates a_stepStart a_trail k (nI (i + 1))) (fun i _ => ∀ v, v < i → ¬ (¬ c &&& ce_bo (nI (v + 1)) = 0 ∧ (a_state (v + 1) = 2 ∨ a_state (v + 1) = 3))) n () lt_0 ?_ ?_
  · intro k s hI
    refine br_t (nI_lt (by omega) (by omega)) (ce_p0 h ?_)
    rintro ⟨v, hv, e⟩
    exact hI v hv e
  · intro k i s hi hI ih
    refine br_f (nI_nlt (by omega) (by omega)) (xw_bothOf ?_)
    have hc : (nI (i + 1)).toNatClampNeg = i + 1 := nI_clamp (by omega)
    refine br_c (fun z => nm_r (nI_1 (i + 1)) (ih () (lt_s hI (fun w => w.1 z)))) (fun z => ⟨vp_in_nI (by omega) (by omega), ?_⟩)
    rw [hc]
    refine br_c (fun y => ce_p1 h ⟨i, hi, z, Or.inl y⟩) (fun y => ⟨vp_in_nI (by omega) (by omega), ?_⟩)
    refine br_c (fun x => ce_p1 h ⟨i, hi, z, Or.inr x⟩) (fun x => nm_r (nI_1 (i + 1)) (ih () (lt_s hI (fun w => w.2.elim y x))))
theorem xw_holds {post : Int32 → Prop} {n z : Nat} {a : Int32} (hn : n ≤ 8) (hz : z ≤ 16) (h : post (ce_b (ce_Md n (ce_ls a_formula z) a))) : wpX_holds post (f_n, f_m, ce_mk n, nI z, f_workCount, f_acceptedCount, f_stepCount, a_state, a_formula, a_work, a_accepted, a_stepLiteral, a_stepEliminates, a_stepStart, a_trail) a := by
  unfold wpX_holds
  dsimp only
  refine xw_truthsOf ?_
  refine loop_0 (fun k i (_ : Unit) => wX_holds_8 post (ce_tt n a) f_n f_m (ce_mk n) (nI z) f_workCount f_acceptedCount f_stepCount a_state a_formula a_work a_accepted a_stepLiteral a_stepEliminates a_stepStart a_trail k (nI i)) (fun i _ => ∀ v, v < i → ce_Tr n (a_formula v) a) z () lt_0 ?_ ?_
  · intro k s hI
    refine br_t (nI_le (Nat.le_refl _) (by omega)) (ce_p1 h ?_)
    intro c hc
    obtain ⟨j, hj, rfl⟩ := ce_ls_mem.mp hc
    exact hI j hj
  · intro k i s hi hI ih
    refine br_f (nI_ge hi (by omega)) ⟨vp_in_nI (by omega) (by omega), ?_⟩
    rw [nI_clamp (show i < 2 ^ 31 by omega)]
    refine br_c (fun y => ce_p0 h (fun w => (ce_tr_iff hn _ _).mp y (w _ (ce_ls_at hi)))) (fun y => nm_r (nI_1 i) (ih () (lt_s hI ?_)))
    exact Classical.byContradiction (fun w => y ((ce_tr_iff hn _ _).mpr w))
theorem xw_check {post : Int32 → Prop} {n z : Nat} {a : Int32} (hn : n ≤ 8) (hz : z ≤ 32) (h : post (ce_b (ce_Md n (ce_ls a_accepted z) a))) : wpX_check post (f_n, f_m, ce_mk n, f_size, f_workCount, nI z, f_stepCount, a_state, a_formula, a_work, a_accepted, a_stepLiteral, a_stepEliminates, a_stepStart, a_trail) a := by
  unfold wpX_check
  dsimp only
  refine xw_truthsOf ?_
  refine loop_0 (fun k i (_ : Unit) => wX_check_8 post (ce_tt n a) f_n f_m (ce_mk n) f_size f_workCount (nI z) f_stepCount a_state a_formula a_work a_accepted a_stepLiteral a_stepEliminates a_stepStart a_trail k (nI i)) (fun i _ => ∀ v, v < i → ce_Tr n (a_accepted v) a) z () lt_0 ?_ ?_
  · intro k s hI
    refine br_t (nI_le (Nat.le_refl _) (by omega)) (ce_p1 h ?_)
    intro c hc
    obtain ⟨j, hj, rfl⟩ := ce_ls_mem.mp hc
    exact hI j hj
  · intro k i s hi hI ih
    refine br_f (nI_ge hi (by omega)) ⟨vp_in_nI (by omega) (by omega), ?_⟩
    rw [nI_clamp (show i < 2 ^ 31 by omega)]
    refine br_c (fun y => ce_p0 h (fun w => (ce_tr_iff hn _ _).mp y (w _ (ce_ls_at hi)))) (fun y => nm_r (nI_1 i) (ih () (lt_s hI ?_)))
    exact Classical.byContradiction (fun w => y ((ce_tr_iff hn _ _).mpr w))
theorem xw_occurrencesOf {post : Int32 → Prop} {z : Nat} {x : Int32} (hz : z ≤ 16) (h : post (nI ((ce_ls a_formula z).countP (fun c => ce_d (¬ c &&& ce_bo x = 0))))) : wpX_occurrencesOf post (f_n, f_m, f_mask, nI z, f_workCount, f_acceptedCount, f_stepCount, a_state, a_formula, a_work, a_accepted, a_stepLiteral, a_stepEliminates, a_stepStart, a_trail) x := by
  unfold wpX_occurrencesOf
  dsimp only
  refine xw_bothOf ?_
  refine loop_0 (fun k i (s : Int32) => wX_occurrencesOf_11 post (ce_bo x) f_n f_m f_mask (nI z) f_workCount f_acceptedCount f_stepCount a_state a_formula a_work a_accepted a_stepLiteral a_stepEliminates a_stepStart a_trail k s (nI i)) (fun i s => s = nI ((ce_ls a_formula i).countP (fun c => ce_d (¬ c &&& ce_bo x = 0)))) z 0 rfl ?_ ?_
  · intro k s hI
    subst hI
    exact br_t (nI_le (Nat.le_refl _) (by omega)) h
  · intro k i s hi hI ih
    subst hI
    refine br_f (nI_ge hi (by omega)) ⟨vp_in_nI (by omega) (by omega), ?_⟩
    rw [nI_clamp (show i < 2 ^ 31 by omega)]
    refine br_c (fun y => nm_r (nI_1 i) (ih _ ?_)) (fun y => nm_r (nI_1 _) (nm_r (nI_1 i) (ih _ ?_)))
    · rw [ce_cnt_f (ce_df (fun w => w y))]
    · rw [ce_cnt_t (ce_dt y)]
theorem xw_isShortenable {post : Int32 → Prop} {z : Nat} {c w : Int32} (hz : z ≤ 16)
    (h : post (ce_b (¬ c &&& w = 0 ∧ ∃ o, o ∈ ce_ls a_formula z ∧ ¬ o &&& (w ^^^ (c &&& w)) = 0 ∧ (o &&& (w ^^^ (-1))) &&& (c ^^^ (-1)) = 0))) : wpX_isShortenable post (f_n, f_m, f_mask, nI z, f_workCount, f_acceptedCount, f_stepCount, a_state, a_formula, a_work, a_accepted, a_stepLiteral, a_stepEliminates, a_stepStart, a_trail) c w := by
  refine nm_e (br_c (fun y => ce_p0 h (fun w => w.1 y)) (fun y => nm_e ?_))
  refine loop_0 (fun k i (_ : Unit) => wX_isShortenable_18 post c w (w ^^^ (c &&& w)) f_n f_m f_mask (nI z) f_workCount f_acceptedCount f_stepCount a_state a_formula a_work a_accepted a_stepLiteral a_stepEliminates a_stepStart a_trail k (nI i)) (fun i _ => ∀ v, v < i → ¬ (¬ a_formula v &&& (w ^^^ (c &&& w)) = 0 ∧ (a_formula v &&& (w ^^^ (-1))) &&& (c ^^^ (-1)) = 0)) z () lt_0 ?_ ?_
  · intro k s hI
    refine br_t (nI_le (Nat.le_refl _) (by omega)) (ce_p0 h ?_)
    rintro ⟨_, o, ho, e⟩
    obtain ⟨j, hj, rfl⟩ := ce_ls_mem.mp ho
    exact hI j hj e
  · intro k i s hi hI ih
    refine br_f (nI_ge hi (by omega)) ⟨vp_in_nI (by omega) (by omega), ?_⟩
    rw [nI_clamp (show i < 2 ^ 31 by omega)]
    refine nm_e (br_c (fun x => nm_r (nI_1 i) (ih () (lt_s hI (fun w => w.1 x)))) (fun x => br_c (fun t => ce_p1 h ⟨y, _, ce_ls_at hi, x, t⟩) (fun t => nm_r (nI_1 i) (ih () (lt_s hI (fun w => t w.2))))))
theorem xw_isBlocked {post : Int32 → Prop} {z : Nat} {c w : Int32} (hz : z ≤ 16)
    (h : post (ce_b (∀ o, o ∈ ce_ls a_formula z → ¬ o &&& w = 0 → ¬ o &&& (((c >>> ((8 : Int32) &&& 31)) ||| ((c &&& 255) <<< ((8 : Int32) &&& 31))) &&& (w ^^^ (-1))) = 0))) : wpX_isBlocked post (f_n, f_m, f_mask, nI z, f_workCount, f_acceptedCount, f_stepCount, a_state, a_formula, a_work, a_accepted, a_stepLiteral, a_stepEliminates, a_stepStart, a_trail) c w := by
  refine nm_e (nm_e ?_)
  generalize ((c >>> ((8 : Int32) &&& 31)) ||| ((c &&& 255) <<< ((8 : Int32) &&& 31))) &&& (w ^^^ (-1)) = q at h ⊢
  refine loop_0 (fun k i (_ : Unit) => wX_isBlocked_24 post w q f_n f_m f_mask (nI z) f_workCount f_acceptedCount f_stepCount a_state a_formula a_work a_accepted a_stepLiteral a_stepEliminates a_stepStart a_trail k (nI i)) (fun i _ => ∀ v, v < i → ¬ a_formula v &&& w = 0 → ¬ a_formula v &&& q = 0) z () lt_0 ?_ ?_
  · intro k s hI
    refine br_t (nI_le (Nat.le_refl _) (by omega)) (ce_p1 h ?_)
    intro o ho
    obtain ⟨j, hj, rfl⟩ := ce_ls_mem.mp ho
    exact hI j hj
  · intro k i s hi hI ih
    refine br_f (nI_ge hi (by omega)) ⟨vp_in_nI (by omega) (by omega), ?_⟩
    rw [nI_clamp (show i < 2 ^ 31 by omega)]
    refine nm_e (br_c (fun x => nm_r (nI_1 i) (ih () (lt_s hI (fun w => (w x).elim)))) (fun x => br_c (fun t => ce_p0 h (fun w => w _ (ce_ls_at hi) x t)) (fun t => nm_r (nI_1 i) (ih () (lt_s hI (fun _ => t))))))
theorem xw_refusal {post : Int32 → Prop} {st v : Nat} (hv : v < 9) (hs : st ≤ 16) (h3 : a_state v = 3 → post (-6)) (h1 : ¬ a_state v = 3 → a_state v = 1 → post (-5)) (hf : ¬ a_state v = 3 → ¬ a_state v = 1 → 16 ≤ st → post (-4)) (h0 : ¬ a_state v = 3 → ¬ a_state v = 1 → st < 16 → post 0) : wpX_refusalOfStep post (f_n, f_m, f_mask, f_size, f_workCount, f_acceptedCount, nI st, a_state, a_formula, a_work, a_accepted, a_stepLiteral, a_stepEliminates, a_stepStart, a_trail) (nI v) := by
  refine ⟨vp_in_nI hv (by omega), ?_⟩
  rw [nI_clamp (show v < 2 ^ 31 by omega)]
  refine br_c h3 (fun a => ⟨vp_in_nI hv (by omega), br_c (h1 a) (fun b => ?_)⟩)
  exact pk_lt st 16 (h0 a b) (hf a b)
end
end
section
/-! Y: the methods that only read -/
section
variable {f_n f_m f_size f_acceptedSize f_stepCount f_rawSize f_leastSize : Int32} {a_formula a_accepted a_state a_stepLit a_stepBlocks a_past a_pastSize a_raw a_least : Nat → Int32}
theorem yw_isLiteral {post : Int32 → Prop} {n : Nat} {x : Int32} (h : post (ce_b (¬ x = 0 ∧ ¬ x < -nI n ∧ ¬ nI n < x))) : wpY_isLiteral post (nI n, f_m, f_size, f_acceptedSize, f_stepCount, f_rawSize, f_leastSize, a_formula, a_accepted, a_state, a_stepLit, a_stepBlocks, a_past, a_pastSize, a_raw, a_least) x :=
  br_c (fun z => ce_p0 h (fun w => w.1 z)) (fun z => br_c (fun y => ce_p0 h (fun w => w.2.1 y)) (fun y => br_c (fun x => ce_p0 h (fun w => w.2.2 x)) (fun x => ce_p1 h ⟨z, y, x⟩)))
theorem yw_bit {post : Int32 → Prop} {x : Int32} (h : post (ce_lb x)) : wpY_bit post (f_n, f_m, f_size, f_acceptedSize, f_stepCount, f_rawSize, f_leastSize, a_formula, a_accepted, a_state, a_stepLit, a_stepBlocks, a_past, a_pastSize, a_raw, a_least) x := by
  unfold ce_lb at h
  refine br_c (fun z => ?_) (fun z => br_c (fun y => ?_) (fun y => ?_))
  · rw [if_pos z] at h; exact h
  · rw [if_neg z, if_pos y] at h; exact h
  · rw [if_neg z, if_neg y] at h; exact h
theorem yw_has {post : Int32 → Prop} {c x : Int32} (h : post (ce_b (¬ c &&& ce_lb x = 0))) : wpY_has post (f_n, f_m, f_size, f_acceptedSize, f_stepCount, f_rawSize, f_leastSize, a_formula, a_accepted, a_state, a_stepLit, a_stepBlocks, a_past, a_pastSize, a_raw, a_least) c x := by
  unfold wpY_has
  dsimp only
  exact yw_bit (br_c (fun z => ce_p0 h (fun w => w z)) (fun z => ce_p1 h z))
theorem yw_mentions {post : Int32 → Prop} {v : Nat} {c : Int32} (hv : v < 8) (h : post (ce_b (¬ c &&& ce_bo (nI (v + 1)) = 0))) : wpY_mentions post (f_n, f_m, f_size, f_acceptedSize, f_stepCount, f_rawSize, f_leastSize, a_formula, a_accepted, a_state, a_stepLit, a_stepBlocks, a_past, a_pastSize, a_raw, a_least) c (nI (v + 1)) := by
  unfold wpY_mentions
  dsimp only
  refine yw_has (ce_br (fun z => yw_has (ce_br (fun y => ce_p0 h ?_) (fun y => ce_p1 h ?_))) (fun z => ce_p1 h ?_))
  · intro w
    rw [ce_boN hv] at w
    rcases w with w | w
    · exact z ((ce_hasN hv true c).mpr w)
    · exact y ((ce_hasN hv false c).mpr w)
  · rw [ce_boN hv]
    exact Or.inr ((ce_hasN hv false c).mp y)
  · rw [ce_boN hv]
    exact Or.inl ((ce_hasN hv true c).mp z)
theorem yw_within {post : Int32 → Prop} {n : Nat} {c d : Int32} (hn : n ≤ 8) (hc : ce_OK n c) (h : post (ce_b (ce_Sub c d))) : wpY_within post (nI n, f_m, f_size, f_acceptedSize, f_stepCount, f_rawSize, f_leastSize, a_formula, a_accepted, a_state, a_stepLit, a_stepBlocks, a_past, a_pastSize, a_raw, a_least) c d := by
  refine nm_r (ce_kst n) ?_
  have h' := ce_pv h (ce_within hn hc d)
  refine loop_0 (fun k i (_ : Unit) => wY_within_6 post c d (nI n) f_m f_size f_acceptedSize f_stepCount f_rawSize f_leastSize a_formula a_accepted a_state a_stepLit a_stepBlocks a_past a_pastSize a_raw a_least k (nI i - nI n)) (fun i _ => ∀ j, j < i → ¬ c &&& ce_lb (nI j - nI n) = 0 → ¬ d &&& ce_lb (nI j - nI n) = 0) (2 * n + 1) () lt_0 ?_ ?_
  · intro k s hI
    exact br_t ((ce_klt n (by omega) _ (by omega)).mpr (by omega)) (ce_p1 h' hI)
  · intro k i s hi hI ih
    refine br_f (fun w => ?_) (yw_has (ce_br (fun z => nm_r (ce_ks n i) (ih () (lt_s hI (fun w => (z w).elim)))) (fun z => yw_has (ce_br (fun y => ce_p0 h' (fun w => y (w i hi z))) (fun y => nm_r (ce_ks n i) (ih () (lt_s hI (fun _ => y))))))))
    have := (ce_klt n (by omega) _ (by omega)).mp w
    omega
theorem yw_clashes {post : Int32 → Prop} {n : Nat} {c : Int32} (hn : n ≤ 8) (hc : ce_OK n c) (h : post (ce_b (¬ ce_NT c))) : wpY_clashes post (nI n, f_m, f_size, f_acceptedSize, f_stepCount, f_rawSize, f_leastSize, a_formula, a_accepted, a_state, a_stepLit, a_stepBlocks, a_past, a_pastSize, a_raw, a_least) c := by
  refine loop_0 (fun k i (_ : Unit) => wY_clashes_2 post c (nI n) f_m f_size f_acceptedSize f_stepCount f_rawSize f_leastSize a_formula a_accepted a_state a_stepLit a_stepBlocks a_past a_pastSize a_raw a_least k (nI (i + 1))) (fun i _ => ∀ v, v < i → ¬ (bt c v = true ∧ bt c (v + 8) = true)) n () lt_0 ?_ ?_
  · intro k s hI
    refine br_t (nI_lt (by omega) (by omega)) (ce_p0 h ?_)
    intro w
    apply w
    intro v hv x y
    have := hc v (by omega) x
    exact hI v (by omega) ⟨x, y⟩
  · intro k i s hi hI ih
    have hv : i < 8 := by omega
    refine br_f (nI_nlt (by omega) (by omega)) (yw_has (ce_br (fun z => nm_r (nI_1 (i + 1)) (ih () (lt_s hI (fun w => z ((ce_hasN hv true c).mpr w.1))))) (fun z => yw_has (ce_br (fun y => nm_r (nI_1 (i + 1)) (ih () (lt_s hI (fun w => y ((ce_hasN hv false c).mpr w.2))))) (fun y => ce_p1 h (fun w => w i hv ((ce_hasN hv true c).mp z) ((ce_hasN hv false c).mp y)))))))
theorem yw_isTrue {post : Int32 → Prop} {n : Nat} {c a : Int32} (hn : n ≤ 8) (h : post (ce_b (ce_Tr n c a))) : wpY_isTrue post (nI n, f_m, f_size, f_acceptedSize, f_stepCount, f_rawSize, f_leastSize, a_formula, a_accepted, a_state, a_stepLit, a_stepBlocks, a_past, a_pastSize, a_raw, a_least) c a := by
  refine loop_0 (fun k i (_ : Unit) => wY_isTrue_2 post c a (nI n) f_m f_size f_acceptedSize f_stepCount f_rawSize f_leastSize a_formula a_accepted a_state a_stepLit a_stepBlocks a_past a_pastSize a_raw a_least k (nI (i + 1))) (fun i _ => ∀ v, v < i → ¬ ((bt c v = true ∧ bt a v = true) ∨ (bt c (v + 8) = true ∧ bt a v = false))) n () lt_0 ?_ ?_
  · intro k s hI
    refine br_t (nI_lt (by omega) (by omega)) (ce_p0 h ?_)
    rintro ⟨v, hv, e⟩
    exact hI v hv e
  · intro k i s hi hI ih
    have hv : i < 8 := by omega
    refine br_f (nI_nlt (by omega) (by omega)) ?_
    rw [nI_pred, ce_sh1t a (show i < 32 by omega)]
    refine br_c (fun z => ?_) (fun z => ?_)
    · refine yw_has (ce_br (fun y => nm_r (nI_1 (i + 1)) (ih () (lt_s hI ?_))) (fun y => ce_p1 h ⟨i, hi, Or.inl ⟨(ce_hasN hv true c).mp y, z⟩⟩))
      rintro (w | w)
      · exact y ((ce_hasN hv true c).mpr w.1)
      · rw [z] at w; exact absurd w.2 (by decide)
    · refine yw_has (ce_br (fun y => nm_r (nI_1 (i + 1)) (ih () (lt_s hI ?_))) (fun y => ce_p1 h ⟨i, hi, Or.inr ⟨(ce_hasN hv false c).mp y, ce_nt z⟩⟩))
      rintro (w | w)
      · exact z w.2
      · exact y ((ce_hasN hv false c).mpr w.1)
theorem yw_holds {post : Int32 → Prop} {n z : Nat} {a : Int32} (hn : n ≤ 8) (hz : z ≤ 16) (h : post (ce_b (ce_Md n (ce_ls a_formula z) a))) : wpY_holds post (nI n, f_m, nI z, f_acceptedSize, f_stepCount, f_rawSize, f_leastSize, a_formula, a_accepted, a_state, a_stepLit, a_stepBlocks, a_past, a_pastSize, a_raw, a_least) a := by
  refine loop_0 (fun k i (_ : Unit) => wY_holds_2 post a (nI n) f_m (nI z) f_acceptedSize f_stepCount f_rawSize f_leastSize a_formula a_accepted a_state a_stepLit a_stepBlocks a_past a_pastSize a_raw a_least k (nI i)) (fun i _ => ∀ v, v < i → ce_Tr n (a_formula v) a) z () lt_0 ?_ ?_
  · intro k s hI
    refine br_t (nI_le (Nat.le_refl _) (by omega)) (ce_p1 h ?_)
    intro c hc
    obtain ⟨j, hj, rfl⟩ := ce_ls_mem.mp hc
    exact hI j hj
  · intro k i s hi hI ih
    refine br_f (nI_ge hi (by omega)) ⟨vp_in_nI (by omega) (by omega), ?_⟩
    rw [nI_clamp (show i < 2 ^ 31 by omega)]
    exact yw_isTrue hn (ce_br (fun y => ce_p0 h (fun w => y (w _ (ce_ls_at hi)))) (fun y => nm_r (nI_1 i) (ih () (lt_s hI y))))
theorem yw_check {post : Int32 → Prop} {n z : Nat} {a : Int32} (hn : n ≤ 8) (hz : z ≤ 32) (h : post (ce_b (ce_Md n (ce_ls a_accepted z) a))) : wpY_check post (nI n, f_m, f_size, nI z, f_stepCount, f_rawSize, f_leastSize, a_formula, a_accepted, a_state, a_stepLit, a_stepBlocks, a_past, a_pastSize, a_raw, a_least) a := by
  refine loop_0 (fun k i (_ : Unit) => wY_check_2 post a (nI n) f_m f_size (nI z) f_stepCount f_rawSize f_leastSize a_formula a_accepted a_state a_stepLit a_stepBlocks a_past a_pastSize a_raw a_least k (nI i)) (fun i _ => ∀ v, v < i → ce_Tr n (a_accepted v) a) z () lt_0 ?_ ?_
  · intro k s hI
    refine br_t (nI_le (Nat.le_refl _) (by omega)) (ce_p1 h ?_)
    intro c hc
    obtain ⟨j, hj, rfl⟩ := ce_ls_mem.mp hc
    exact hI j hj
  · intro k i s hi hI ih
    refine br_f (nI_ge hi (by omega)) ⟨vp_in_nI (by omega) (by omega), ?_⟩
    rw [nI_clamp (show i < 2 ^ 31 by omega)]
    exact yw_isTrue hn (ce_br (fun y => ce_p0 h (fun w => y (w _ (ce_ls_at hi)))) (fun y => nm_r (nI_1 i) (ih () (lt_s hI y))))
theorem yw_pastHolds {post : Int32 → Prop} {n s z : Nat} {a : Int32} (hn : n ≤ 8) (hs : s < 16) (hz : z ≤ 16) (hp : a_pastSize s = nI z) (h : post (ce_b (ce_Md n (ce_sg a_past (16 * s) z) a))) : wpY_pastHolds post (nI n, f_m, f_size, f_acceptedSize, f_stepCount, f_rawSize, f_leastSize, a_formula, a_accepted, a_state, a_stepLit, a_stepBlocks, a_past, a_pastSize, a_raw, a_least) (nI s) a := by
  refine loop_0 (fun k i (_ : Unit) => wY_pastHolds_2 post (nI s) a (nI n) f_m f_size f_acceptedSize f_stepCount f_rawSize f_leastSize a_formula a_accepted a_state a_stepLit a_stepBlocks a_past a_pastSize a_raw a_least k (nI i)) (fun i _ => ∀ v, v < i → ce_Tr n (a_past (16 * s + v)) a) z () lt_0 ?_ ?_
  · intro k s' hI
    refine ⟨vp_in_nI hs (by omega), ?_⟩
    rw [nI_clamp (show s < 2 ^ 31 by omega), hp]
    refine br_t (nI_le (Nat.le_refl _) (by omega)) (ce_p1 h ?_)
    intro c hc
    obtain ⟨j, hj, rfl⟩ := ce_sg_mem.mp hc
    exact hI j hj
  · intro k i s' hi hI ih
    refine ⟨vp_in_nI hs (by omega), ?_⟩
    have e : (16 : Int32) * nI s + nI i = nI (16 * s + i) := by
      rw [← nI_add, ← pk_mul]; rfl
    rw [nI_clamp (show s < 2 ^ 31 by omega), hp, e, nI_clamp (show 16 * s + i < 2 ^ 31 by omega)]
    refine br_f (nI_ge hi (by omega)) ⟨vp_in_nI (by omega) (by omega), ?_⟩
    exact yw_isTrue hn (ce_br (fun y => ce_p0 h (fun w => y (w _ (ce_sg_mem.mpr ⟨i, hi, rfl⟩)))) (fun y => nm_r (nI_1 i) (ih () (lt_s hI y))))
theorem yw_occurrences {post : Int32 → Prop} {z v : Nat} (hv : v < 8) (hz : z ≤ 16) (h : post (nI ((ce_ls a_formula z).countP (fun c => ce_d (¬ c &&& ce_bo (nI (v + 1)) = 0))))) : wpY_occurrences post (f_n, f_m, nI z, f_acceptedSize, f_stepCount, f_rawSize, f_leastSize, a_formula, a_accepted, a_state, a_stepLit, a_stepBlocks, a_past, a_pastSize, a_raw, a_least) (nI (v + 1)) := by
  refine loop_0 (fun k i (s : Int32) => wY_occurrences_4 post (nI (v + 1)) f_n f_m (nI z) f_acceptedSize f_stepCount f_rawSize f_leastSize a_formula a_accepted a_state a_stepLit a_stepBlocks a_past a_pastSize a_raw a_least k s (nI i)) (fun i s => s = nI ((ce_ls a_formula i).countP (fun c => ce_d (¬ c &&& ce_bo (nI (v + 1)) = 0)))) z 0 rfl ?_ ?_
  · intro k s hI
    subst hI
    exact br_t (nI_le (Nat.le_refl _) (by omega)) h
  · intro k i s hi hI ih
    subst hI
    refine br_f (nI_ge hi (by omega)) ⟨vp_in_nI (by omega) (by omega), ?_⟩
    rw [nI_clamp (show i < 2 ^ 31 by omega)]
    refine yw_mentions hv (ce_br (fun y => nm_r (nI_1 i) (ih _ ?_)) (fun y => nm_r (nI_1 _) (nm_r (nI_1 i) (ih _ ?_))))
    · rw [ce_cnt_f (ce_df y)]
    · rw [ce_cnt_t (ce_dt y)]
end
end
section
/-! X: addMinimal, install, pushStep -/
abbrev ce_A : Type := Nat → Int32
abbrev ce_A8 : Type := ce_A → ce_A → ce_A → ce_A → ce_A → ce_A → ce_A → ce_A → Prop
abbrev ce_A9 : Type := ce_A → ce_A → ce_A → ce_A → ce_A → ce_A → ce_A → ce_A → ce_A → Prop
section
variable {f_n f_m f_mask f_size f_workCount f_acceptedCount f_stepCount : Int32} {a_state a_formula a_work a_accepted a_stepLiteral a_stepEliminates a_stepStart a_trail : Nat → Int32}
theorem xw_am35 {w : Nat} (hw : w < 32) (c : Int32) : ∃ (w' : Nat) (W' : Nat → Int32), w' ≤ w + 1 ∧ ce_ls W' w' = (ce_ls a_work w).filter (fun x => ce_d (¬ ce_Sub c x)) ++ [c] ∧
    ∀ post : Int32 → SX → Prop, post 1 (f_n, f_m, f_mask, f_size, nI w', f_acceptedCount, f_stepCount, a_state, a_formula, W', a_accepted, a_stepLiteral, a_stepEliminates, a_stepStart, a_trail) → ∃ n, wX_addMinimal_35 post c f_n f_m f_mask f_size (nI w) f_acceptedCount f_stepCount n 0 0 a_state a_formula a_work a_accepted a_stepLiteral a_stepEliminates a_stepStart a_trail := by
  obtain ⟨s, hI, hq⟩ := ce_lpE (σ := Nat × (Nat → Int32)) (Q := Int32 → SX → Prop)
    (fun q n i s => wX_addMinimal_35 q c f_n f_m f_mask f_size (nI w) f_acceptedCount f_stepCount n (nI s.1) (nI i) a_state a_formula s.2 a_accepted a_stepLiteral a_stepEliminates a_stepStart a_trail)
    (fun i s => s.1 ≤ i ∧ ce_ls s.2 s.1 = (ce_ls a_work i).filter (fun x => ce_d (¬ ce_Sub c x)) ∧ ∀ j, i ≤ j → s.2 j = a_work j)
    (fun q s => q 1 (f_n, f_m, f_mask, f_size, nI (s.1 + 1), f_acceptedCount, f_stepCount, a_state, a_formula, upd s.2 s.1 c, a_accepted, a_stepLiteral, a_stepEliminates, a_stepStart, a_trail)) w
    (by
      rintro q n ⟨k, V⟩ ⟨h1, h2, h3⟩ hq
      refine br_t (nI_le (Nat.le_refl _) (by omega)) ⟨vp_in_nI (show k < 32 by exact Nat.lt_of_le_of_lt h1 hw) (by omega), ?_⟩
      rw [nI_clamp (show k < 2 ^ 31 by exact Nat.lt_of_le_of_lt h1 (by omega))]
      exact nm_e (nm_r (nI_1 k) hq))
    (by
      rintro i ⟨k, V⟩ hi ⟨h1, h2, h3⟩
      dsimp only at h1 h2 h3
      have e3 : V i = a_work i := h3 i (Nat.le_refl _)
      by_cases hs : ce_Sub c (a_work i)
      · refine ⟨(k, V), ⟨by dsimp only; omega, ?_, fun j hj => h3 j (by omega)⟩, fun q n h => ?_⟩
        · rw [ce_fil_f (ce_df (fun z => z hs))]; exact h2
        · dsimp only at h ⊢
          refine br_f (nI_ge hi (by omega)) ⟨vp_in_nI (by omega) (by omega), ?_⟩
          rw [nI_clamp (show i < 2 ^ 31 by omega)]
          refine br_t ?_ (nm_r (nI_1 i) h)
          rw [e3, ce_sub_iff]
          exact hs
      · refine ⟨(k + 1, upd V k (a_work i)), ⟨by dsimp only; omega, ?_, fun j hj => ?_⟩, fun q n h => ?_⟩
        · dsimp only
          rw [ce_ls_push, ce_fil_t (ce_dt hs), h2]
        · dsimp only
          rw [pk_un (by omega)]
          exact h3 j (by omega)
        · dsimp only at h ⊢
          refine br_f (nI_ge hi (by omega)) ⟨vp_in_nI (by omega) (by omega), ?_⟩
          rw [nI_clamp (show i < 2 ^ 31 by omega), nI_clamp (show k < 2 ^ 31 by omega)]
          refine br_f ?_ (nm_r (nI_1 k) ⟨vp_in_nI (by omega) (by omega), vp_in_nI (by omega) (by omega), ?_⟩)
          · rw [e3, ce_sub_iff]
            exact hs
          · rw [e3]
            exact nm_e (nm_r (nI_1 i) h))
    0 (Nat.zero_le _) (0, a_work) ⟨Nat.le_refl _, rfl, fun _ _ => rfl⟩
  obtain ⟨k, V⟩ := s
  obtain ⟨h1, h2, h3⟩ := hI
  dsimp only at h1 h2 h3
  exact ⟨k + 1, upd V k c, by omega, by rw [ce_ls_push, h2], fun post h => hq post h⟩
theorem xw_addMinimal {S : Int32 → Prop} {w : Nat} (hw : w < 32) (c : Int32) (hS : ce_WK S (ce_ls a_work w)) : ∃ (w' : Nat) (W' : Nat → Int32), w' ≤ w + 1 ∧ ce_WK (fun d => S d ∨ d = c) (ce_ls W' w') ∧
    ∀ post : Int32 → SX → Prop, post (ce_b (¬ ∃ x, x ∈ ce_ls a_work w ∧ ce_Sub x c)) (f_n, f_m, f_mask, f_size, nI w', f_acceptedCount, f_stepCount, a_state, a_formula, W', a_accepted, a_stepLiteral, a_stepEliminates, a_stepStart, a_trail) → wpX_addMinimal post (f_n, f_m, f_mask, f_size, nI w, f_acceptedCount, f_stepCount, a_state, a_formula, a_work, a_accepted, a_stepLiteral, a_stepEliminates, a_stepStart, a_trail) c := by
  by_cases hx : ∃ x, x ∈ ce_ls a_work w ∧ ce_Sub x c
  · refine ⟨w, a_work, by omega, ce_WK_add0 hS hx, fun post h => ?_⟩
    rw [ce_bf (fun z => z hx)] at h
    refine loop_0 (fun k i (_ : Unit) => wX_addMinimal_2 post c f_n f_m f_mask f_size (nI w) f_acceptedCount f_stepCount a_state a_formula a_work a_accepted a_stepLiteral a_stepEliminates a_stepStart a_trail k (nI i)) (fun i _ => ∀ v, v < i → ¬ ce_Sub (a_work v) c) w () lt_0 ?_ ?_
    · intro k s hI
      obtain ⟨x, h1, h2⟩ := hx
      obtain ⟨j, hj, rfl⟩ := ce_ls_mem.mp h1
      exact (hI j hj h2).elim
    · intro k i s hi hI ih
      refine br_f (nI_ge hi (by omega)) ⟨vp_in_nI (by omega) (by omega), ?_⟩
      rw [nI_clamp (show i < 2 ^ 31 by omega)]
      exact br_c (fun _ => h) (fun y => nm_r (nI_1 i) (ih () (lt_s hI (fun z => y (ce_sub_iff.mpr z)))))
  · have hx' : ∀ x, x ∈ ce_ls a_work w → ¬ ce_Sub x c := fun x h1 h2 => hx ⟨x, h1, h2⟩
    obtain ⟨w', W', h1, h2, h3⟩ := xw_am35 (f_n := f_n) (f_m := f_m) (f_mask := f_mask) (f_size := f_size) (f_acceptedCount := f_acceptedCount) (f_stepCount := f_stepCount) (a_state := a_state) (a_formula := a_formula) (a_work := a_work) (a_accepted := a_accepted) (a_stepLiteral := a_stepLiteral) (a_stepEliminates := a_stepEliminates) (a_stepStart := a_stepStart) (a_trail := a_trail) hw c
    refine ⟨w', W', h1, by rw [h2]; exact ce_WK_add1 hS hx', fun post h => ?_⟩
    rw [ce_bt hx] at h
    refine loop_0 (fun k i (_ : Unit) => wX_addMinimal_2 post c f_n f_m f_mask f_size (nI w) f_acceptedCount f_stepCount a_state a_formula a_work a_accepted a_stepLiteral a_stepEliminates a_stepStart a_trail k (nI i)) (fun _ _ => True) w () trivial ?_ ?_
    · intro k s hI
      exact br_t (nI_le (Nat.le_refl _) (by omega)) (h3 post h)
    · intro k i s hi hI ih
      refine br_f (nI_ge hi (by omega)) ⟨vp_in_nI (by omega) (by omega), ?_⟩
      rw [nI_clamp (show i < 2 ^ 31 by omega)]
      exact br_f (fun y => hx' _ (ce_ls_at hi) (ce_sub_iff.mp y)) (nm_r (nI_1 i) (ih () trivial))
theorem ce_ls_spl (a : Nat → Int32) (p k : Nat) : ce_ls a (p + k) = ce_ls a p ++ ce_sg a p k := by
  induction k with
  | zero => rw [ce_sg_0, List.append_nil]; rfl
  | succ k ih => rw [show p + (k + 1) = p + k + 1 from rfl, ce_ls_s, ih, ce_sg_s, List.append_assoc]
theorem ce_ls_ins (a : Nat → Int32) (p k : Nat) (c : Int32) : ce_ls (upd a p c) (p + (k + 1)) = ce_ls a p ++ c :: ce_sg a (p + 1) k := by
  rw [ce_ls_spl, ce_sg_cons, ce_ls_upd (Nat.le_refl _), pk_us, ce_sg_upd (Or.inl (by omega))]
theorem xw_ins19 {i : Nat} (hi : i < 16) (c : Int32) (L0 : List Int32) (hs : L0.Pairwise (· < ·)) (hc : ¬ c ∈ L0) : ∀ (p : Nat) (F : Nat → Int32) (B : List Int32), p ≤ i → ce_ls F p ++ B = L0 → ce_sg F (p + 1) (i - p) = B → (∀ b, b ∈ B → c < b) →
    ∃ F' : Nat → Int32, (ce_ls F' (i + 1)).Pairwise (· < ·) ∧ (ce_ls F' (i + 1)).Perm (L0 ++ [c]) ∧ ∀ (post : SX → Prop) (J : Int32 → ce_A8), J (nI (i + 1)) a_state F' a_work a_accepted a_stepLiteral a_stepEliminates a_stepStart a_trail → wX_install_19 post J (nI i) c f_n f_m f_mask f_size f_workCount f_acceptedCount f_stepCount (p + 1) (nI p) a_state F a_work a_accepted a_stepLiteral a_stepEliminates a_stepStart a_trail := by
  have fin : ∀ (p : Nat) (F : Nat → Int32) (B : List Int32), p ≤ i → ce_ls F p ++ B = L0 → ce_sg F (p + 1) (i - p) = B → (∀ b, b ∈ B → c < b) → (∀ a, a ∈ ce_ls F p → a < c) → (ce_ls (upd F p c) (i + 1)).Pairwise (· < ·) ∧ (ce_ls (upd F p c) (i + 1)).Perm (L0 ++ [c]) := by
    intro p F B hp hL hB hcB hA
    have e : ce_ls (upd F p c) (i + 1) = ce_ls F p ++ c :: B := by
      rw [← hB, ← ce_ls_ins, show p + (i - p + 1) = i + 1 by omega]
    rw [e]
    refine ⟨ce_ins (by rw [hL]; exact hs) hA hcB, ?_⟩
    rw [← hL]
    exact List.perm_middle.trans (List.perm_append_singleton c (ce_ls F p ++ B)).symm
  intro p
  induction p with
  | zero =>
    intro F B hp hL hB hcB
    obtain ⟨h1, h2⟩ := fin 0 F B hp hL hB hcB (fun a h => (List.not_mem_nil h).elim)
    refine ⟨upd F 0 c, h1, h2, fun post J h => ?_⟩
    exact br_t ce_00 ⟨vp_in_nI (by omega) (by omega), nm_e (nm_r (nI_1 i) h)⟩
  | succ p ih =>
    intro F B hp hL hB hcB
    have hn0 : ¬ nI (p + 1) ≤ 0 := nI_nle (by omega) (by omega)
    have hpi : vp_in (nI p) 16 := vp_in_nI (by omega) (by omega)
    have hpi1 : vp_in (nI (p + 1)) 16 := vp_in_nI (by omega) (by omega)
    have ec : (nI p).toNatClampNeg = p := nI_clamp (by omega)
    have ec1 : (nI (p + 1)).toNatClampNeg = p + 1 := nI_clamp (by omega)
    have hmem : F p ∈ L0 := by
      rw [← hL]
      exact List.mem_append_left _ (ce_ls_at (by omega))
    by_cases k : F p ≤ c
    · have hlt : F p < c := by
        rcases Int32.le_iff_lt_or_eq.mp k with z | z
        · exact z
        · exact (hc (by rw [← z]; exact hmem)).elim
      have hA : ∀ a, a ∈ ce_ls F (p + 1) → a < c := by
        intro a ha
        have h3 : (ce_ls F (p + 1)).Pairwise (· < ·) := by
          rw [← hL, List.pairwise_append] at hs
          exact hs.1
        obtain ⟨j, hj, rfl⟩ := ce_ls_mem.mp ha
        by_cases e : j = p
        · rw [e]; exact hlt
        · exact Int32.lt_trans (ce_rank h3 j p (by omega) (by omega)) hlt
      obtain ⟨h1, h2⟩ := fin (p + 1) F B hp hL hB hcB hA
      refine ⟨upd F (p + 1) c, h1, h2, fun post J h => ?_⟩
      refine br_f hn0 ?_
      rw [nI_pred, ec, ec1]
      exact ⟨hpi, br_t k ⟨hpi1, nm_e (nm_r (nI_1 i) h)⟩⟩
    · obtain ⟨F', h1, h2, h3⟩ := ih (upd F (p + 1) (F p)) (F p :: B) (by omega)
        (by
          rw [ce_ls_upd (by omega), ← hL, ce_ls_s, List.append_assoc]; rfl)
        (by
          rw [show i - p = (i - (p + 1)) + 1 by omega, ce_sg_cons, pk_us, ce_sg_upd (Or.inl (by omega)), hB])
        (by
          intro b hb
          rcases List.mem_cons.mp hb with z | z
          · rw [z]; exact Int32.not_le.mp k
          · exact hcB b z)
      refine ⟨F', h1, h2, fun post J h => ?_⟩
      refine br_f hn0 ?_
      rw [nI_pred, ec, ec1]
      exact ⟨hpi, br_f k ⟨hpi, hpi1, nm_e (nm_r (pk_m1 p) (h3 post J h))⟩⟩
theorem xw_install {w : Nat} (hw : w ≤ 16) (hd : (ce_ls a_work w).Nodup) : ∃ F' : Nat → Int32, (ce_ls F' w).Pairwise (· < ·) ∧ (ce_ls F' w).Perm (ce_ls a_work w) ∧
    ∀ post : SX → Prop, post (f_n, f_m, f_mask, nI w, nI w, f_acceptedCount, f_stepCount, a_state, F', a_work, a_accepted, a_stepLiteral, a_stepEliminates, a_stepStart, a_trail) → wpX_install post (f_n, f_m, f_mask, f_size, nI w, f_acceptedCount, f_stepCount, a_state, a_formula, a_work, a_accepted, a_stepLiteral, a_stepEliminates, a_stepStart, a_trail) := by
  obtain ⟨F', hI, hq⟩ := ce_lpE (σ := Nat → Int32) (Q := SX → Prop)
    (fun q n i s => wX_install_2 q f_n f_m f_mask f_size (nI w) f_acceptedCount f_stepCount n (nI i) a_state s a_work a_accepted a_stepLiteral a_stepEliminates a_stepStart a_trail)
    (fun i s => (ce_ls s i).Pairwise (· < ·) ∧ (ce_ls s i).Perm (ce_ls a_work i))
    (fun q s => q (f_n, f_m, f_mask, nI w, nI w, f_acceptedCount, f_stepCount, a_state, s, a_work, a_accepted, a_stepLiteral, a_stepEliminates, a_stepStart, a_trail)) w
    (fun q n s hI h => br_t (nI_le (Nat.le_refl _) (by omega)) h)
    (by
      intro i F hi hI
      have hc : ¬ a_work i ∈ ce_ls F i := by
        intro z
        have z2 := hI.2.mem_iff.mp z
        have e : ce_ls a_work w = ce_ls a_work (i + 1) ++ ce_sg a_work (i + 1) (w - (i + 1)) := by
          rw [← ce_ls_spl, show i + 1 + (w - (i + 1)) = w by omega]
        rw [e, List.nodup_append, ce_ls_s, List.nodup_append] at hd
        exact hd.1.2.2 _ z2 _ (List.mem_singleton.mpr rfl) rfl
      obtain ⟨F', h1, h2, h3⟩ := xw_ins19 (f_n := f_n) (f_m := f_m) (f_mask := f_mask) (f_size := f_size) (f_workCount := nI w) (f_acceptedCount := f_acceptedCount) (f_stepCount := f_stepCount) (a_state := a_state) (a_work := a_work) (a_accepted := a_accepted) (a_stepLiteral := a_stepLiteral) (a_stepEliminates := a_stepEliminates) (a_stepStart := a_stepStart) (a_trail := a_trail) (i := i) (by omega) (a_work i) (ce_ls F i) hI.1 hc i F [] (Nat.le_refl _) (List.append_nil _) (by rw [Nat.sub_self]; rfl) (fun b h => (List.not_mem_nil h).elim)
      refine ⟨F', ⟨h1, h2.trans (by rw [ce_ls_s]; exact hI.2.append_right _)⟩, fun q n h => ?_⟩
      refine br_f (nI_ge hi (by omega)) ⟨vp_in_nI (by omega) (by omega), ?_⟩
      rw [nI_clamp (show i < 2 ^ 31 by omega)]
      exact nm_e ⟨i + 1, h3 q _ h⟩)
    0 (Nat.zero_le _) a_formula ⟨List.Pairwise.nil, List.Perm.refl _⟩
  exact ⟨F', hI.1, hI.2, fun post h => hq post h⟩
theorem xw_pushStep {post : SX → Prop} {st : Nat} {l e t : Int32} (hs : st < 16) (h : post (f_n, f_m, f_mask, f_size, f_workCount, f_acceptedCount, nI (st + 1), a_state, a_formula, a_work, a_accepted, upd a_stepLiteral st l, upd a_stepEliminates st (vp_nar .boolean e), upd a_stepStart (st + 1) t, a_trail)) : wpX_pushStep post (f_n, f_m, f_mask, f_size, f_workCount, f_acceptedCount, nI st, a_state, a_formula, a_work, a_accepted, a_stepLiteral, a_stepEliminates, a_stepStart, a_trail) l e t := by
  have hc : (nI st).toNatClampNeg = st := nI_clamp (by omega)
  have hc1 : (nI (st + 1)).toNatClampNeg = st + 1 := nI_clamp (by omega)
  have hi : vp_in (nI st) 16 := vp_in_nI hs (by omega)
  refine ⟨hi, ?_⟩
  rw [hc]
  refine nm_e ⟨hi, nm_e (nm_r (nI_1 st) ⟨vp_in_nI (by omega) (by omega), ?_⟩)⟩
  rw [hc1]
  exact nm_e h
end
end
section
/-! Y: put, minimise, install, addStep -/
section
variable {f_n f_m f_size f_acceptedSize f_stepCount f_rawSize f_leastSize : Int32} {a_formula a_accepted a_state a_stepLit a_stepBlocks a_past a_pastSize a_raw a_least : Nat → Int32}
theorem yw_put {post : SY → Prop} {rz : Nat} {c : Int32} (hr : rz < 64) (h : post (f_n, f_m, f_size, f_acceptedSize, f_stepCount, nI (rz + 1), f_leastSize, a_formula, a_accepted, a_state, a_stepLit, a_stepBlocks, a_past, a_pastSize, upd a_raw rz c, a_least)) : wpY_put post (f_n, f_m, f_size, f_acceptedSize, f_stepCount, nI rz, f_leastSize, a_formula, a_accepted, a_state, a_stepLit, a_stepBlocks, a_past, a_pastSize, a_raw, a_least) c := by
  refine br_f (nI_ge (b := 64) hr (by omega)) ⟨vp_in_nI hr (by omega), ?_⟩
  rw [nI_clamp (show rz < 2 ^ 31 by omega)]
  exact nm_e (nm_r (nI_1 rz) h)
/-- cell j leaves cell i standing -/
def ce_ok (R : Nat → Int32) (i j : Nat) : Prop := ¬ (R j = R i ∧ j < i) ∧ ¬ (¬ R j = R i ∧ ce_Sub (R j) (R i))
theorem ce_ok_t {P : Nat → Prop} {j : Nat} (h : P j) : ce_b (∀ v, v < j + 1 → P v) = ce_b (∀ v, v < j → P v) :=
  ce_bc ⟨fun k v hv => k v (by omega), fun k => lt_s k h⟩
theorem ce_ok_f {P : Nat → Prop} {j : Nat} (h : ¬ P j) : ce_b (∀ v, v < j + 1 → P v) = 0 :=
  ce_bf (fun k => h (k j (by omega)))
theorem yw_min19 {n i rz lz : Nat} (hn : n ≤ 8) (hr : rz ≤ 64) (hi : i < rz) (hl : lz ≤ i) (hok : ∀ c, c ∈ ce_ls a_raw rz → ce_OK n c) (post : SY → Prop) (J : Int32 → Int32 → ce_A9)
    (h0 : ¬ (∀ j, j < rz → ce_ok a_raw i j) → J (nI (i + 1)) (nI lz) a_formula a_accepted a_state a_stepLit a_stepBlocks a_past a_pastSize a_raw a_least) (h1 : (∀ j, j < rz → ce_ok a_raw i j) → J (nI (i + 1)) (nI (lz + 1)) a_formula a_accepted a_state a_stepLit a_stepBlocks a_past a_pastSize a_raw (upd a_least lz (a_raw i))) :
    ∃ k, wY_minimise_19 post J (nI i) (nI n) f_m f_size f_acceptedSize f_stepCount (nI rz) (nI lz) a_formula a_accepted a_state a_stepLit a_stepBlocks a_past a_pastSize a_raw a_least k 1 0 := by
  have ei : (nI i).toNatClampNeg = i := nI_clamp (by omega)
  have vi : vp_in (nI i) 64 := vp_in_nI (by omega) (by omega)
  have e1 : (1 : Int32) = ce_b (∀ v, v < 0 → ce_ok a_raw i v) := (ce_bt lt_0).symm
  rw [e1]
  refine loop_0 (fun k j (s : Int32) => wY_minimise_19 post J (nI i) (nI n) f_m f_size f_acceptedSize f_stepCount (nI rz) (nI lz) a_formula a_accepted a_state a_stepLit a_stepBlocks a_past a_pastSize a_raw a_least k s (nI j)) (fun j s => s = ce_b (∀ v, v < j → ce_ok a_raw i v)) rz _ rfl ?_ ?_
  · intro k s hI
    subst hI
    refine br_t (nI_le (Nat.le_refl _) (by omega)) ?_
    refine ce_br (fun z => nm_r (nI_1 i) (h0 z)) (fun z => ⟨vi, vp_in_nI (by omega) (by omega), ?_⟩)
    rw [ei, nI_clamp (show lz < 2 ^ 31 by omega)]
    exact nm_e (nm_r (nI_1 lz) (nm_r (nI_1 i) (h1 z)))
  · intro k j s hj hI ih
    subst hI
    have vj : vp_in (nI j) 64 := vp_in_nI (by omega) (by omega)
    have ej : (nI j).toNatClampNeg = j := nI_clamp (by omega)
    refine br_f (nI_ge hj (by omega)) ⟨vj, vi, ?_⟩
    rw [ei, ej]
    refine br_c (fun z => ?_) (fun z => ?_)
    · rw [nI_leI (by omega) (by omega)]
      refine br_c (fun y => ⟨vj, vi, ?_⟩) (fun y => ⟨vj, vi, ?_⟩)
      · rw [ei, ej]
        refine br_t z (nm_r (nI_1 j) (ih _ (ce_ok_t ⟨fun w => ?_, fun w => w.1 z⟩).symm))
        omega
      · rw [ei, ej]
        refine br_t z (nm_r (nI_1 j) (ih _ (ce_ok_f (fun w => w.1 ⟨z, ?_⟩)).symm))
        omega
    · refine ⟨vj, vi, ?_⟩
      rw [ei, ej]
      refine br_f z ⟨vj, vi, yw_within hn (hok _ (ce_ls_at hj)) (ce_br (fun y => nm_r (nI_1 j) (ih _ (ce_ok_t ⟨fun w => z w.1, fun w => y w.2⟩).symm)) (fun y => nm_r (nI_1 j) (ih _ (ce_ok_f (fun w => w.2 ⟨z, y⟩)).symm)))⟩
theorem yw_minimise {n rz : Nat} (hn : n ≤ 8) (hr : rz ≤ 64) (hok : ∀ c, c ∈ ce_ls a_raw rz → ce_OK n c) : ∃ (lz : Nat) (L : Nat → Int32), lz ≤ rz ∧ (ce_ls L lz).Nodup ∧ (∀ c, c ∈ ce_ls L lz ↔ ce_Mi (fun d => d ∈ ce_ls a_raw rz) c) ∧
    ∀ post : SY → Prop, post (nI n, f_m, f_size, f_acceptedSize, f_stepCount, nI rz, nI lz, a_formula, a_accepted, a_state, a_stepLit, a_stepBlocks, a_past, a_pastSize, a_raw, L) → wpY_minimise post (nI n, f_m, f_size, f_acceptedSize, f_stepCount, nI rz, f_leastSize, a_formula, a_accepted, a_state, a_stepLit, a_stepBlocks, a_past, a_pastSize, a_raw, a_least) := by
  obtain ⟨s, hI, hq⟩ := ce_lpE (σ := Nat × (Nat → Int32)) (Q := SY → Prop)
    (fun q k i s => wY_minimise_7 q (nI n) f_m f_size f_acceptedSize f_stepCount (nI rz) k (nI i) (nI s.1) a_formula a_accepted a_state a_stepLit a_stepBlocks a_past a_pastSize a_raw s.2)
    (fun i s => s.1 ≤ i ∧ (ce_ls s.2 s.1).Nodup ∧ ∀ c, c ∈ ce_ls s.2 s.1 ↔ ∃ j, j < i ∧ a_raw j = c ∧ ∀ v, v < rz → ce_ok a_raw j v)
    (fun q s => q (nI n, f_m, f_size, f_acceptedSize, f_stepCount, nI rz, nI s.1, a_formula, a_accepted, a_state, a_stepLit, a_stepBlocks, a_past, a_pastSize, a_raw, s.2)) rz
    (by
      rintro q k ⟨lz, L⟩ hI h
      exact br_t (nI_le (Nat.le_refl _) (by omega)) h)
    (by
      rintro i ⟨lz, L⟩ hi ⟨h1, h2, h3⟩
      dsimp only at h1 h2 h3
      by_cases hs : ∀ v, v < rz → ce_ok a_raw i v
      · refine ⟨(lz + 1, upd L lz (a_raw i)), ⟨by dsimp only; omega, ?_, ?_⟩, fun q k h => ?_⟩
        · dsimp only
          rw [ce_ls_push, List.nodup_append]
          refine ⟨h2, List.pairwise_singleton _ _, ?_⟩
          intro a ha b hb e
          rw [List.mem_singleton] at hb
          rw [e, hb] at ha
          obtain ⟨j, hj, e2, _⟩ := (h3 _).mp ha
          exact (hs j (by omega)).1 ⟨e2, hj⟩
        · intro c
          dsimp only
          rw [ce_ls_push, List.mem_append, h3, List.mem_singleton]
          constructor
          · rintro (⟨j, hj, e⟩ | e)
            · exact ⟨j, by omega, e⟩
            · exact ⟨i, by omega, e.symm, hs⟩
          · rintro ⟨j, hj, e⟩
            by_cases k : j = i
            · subst k; exact Or.inr e.1.symm
            · exact Or.inl ⟨j, by omega, e⟩
        · exact br_f (nI_ge hi (by omega)) (yw_min19 (a_least := L) hn hr hi h1 hok q _ (fun z => (z hs).elim) (fun _ => h))
      · refine ⟨(lz, L), ⟨by dsimp only; omega, h2, ?_⟩, fun q k h => ?_⟩
        · intro c
          dsimp only
          rw [h3]
          constructor
          · rintro ⟨j, hj, e⟩
            exact ⟨j, by omega, e⟩
          · rintro ⟨j, hj, e⟩
            by_cases k : j = i
            · subst k; exact (hs e.2).elim
            · exact ⟨j, by omega, e⟩
        · exact br_f (nI_ge hi (by omega)) (yw_min19 (a_least := L) hn hr hi h1 hok q _ (fun _ => h) (fun z => (hs z).elim)))
    0 (Nat.zero_le _) (0, a_least) ⟨Nat.le_refl _, List.nodup_nil, fun c => ⟨fun h => (List.not_mem_nil h).elim, fun ⟨j, hj, _⟩ => absurd hj (Nat.not_lt_zero j)⟩⟩
  obtain ⟨lz, L⟩ := s
  obtain ⟨h1, h2, h3⟩ := hI
  dsimp only at h1 h2 h3
  refine ⟨lz, L, h1, h2, fun c => ?_, fun post h => hq post h⟩
  rw [h3]
  constructor
  · rintro ⟨j, hj, rfl, hs⟩
    refine ⟨ce_ls_at hj, fun d hd s => ?_⟩
    obtain ⟨v, hv, rfl⟩ := ce_ls_mem.mp hd
    exact Classical.byContradiction (fun w => (hs v hv).2 ⟨w, s⟩)
  · rintro ⟨hc, hm⟩
    obtain ⟨j, ⟨hj, e⟩, hl⟩ := pk_least (fun j => j < rz ∧ a_raw j = c) (ce_ls_mem.mp hc)
    refine ⟨j, hj, e, fun v hv => ⟨fun w => ?_, fun w => ?_⟩⟩
    · exact hl v w.2 ⟨hv, w.1.trans e⟩
    · exact w.1 ((hm _ (ce_ls_at hv) (by rw [← e]; exact w.2)).trans e.symm)
theorem yw_install {lz : Nat} (hl : lz ≤ 16) : ∃ F' : Nat → Int32, ce_ls F' lz = ce_ls a_least lz ∧ ∀ post : SY → Prop, post (f_n, f_m, nI lz, f_acceptedSize, f_stepCount, f_rawSize, nI lz, F', a_accepted, a_state, a_stepLit, a_stepBlocks, a_past, a_pastSize, a_raw, a_least) → wpY_install post (f_n, f_m, f_size, f_acceptedSize, f_stepCount, f_rawSize, nI lz, a_formula, a_accepted, a_state, a_stepLit, a_stepBlocks, a_past, a_pastSize, a_raw, a_least) := by
  obtain ⟨F', hI, hq⟩ := ce_lpE (σ := Nat → Int32) (Q := SY → Prop)
    (fun q k i s => wY_install_2 q f_n f_m f_size f_acceptedSize f_stepCount f_rawSize (nI lz) k (nI i) s a_accepted a_state a_stepLit a_stepBlocks a_past a_pastSize a_raw a_least)
    (fun i s => ce_ls s i = ce_ls a_least i)
    (fun q s => q (f_n, f_m, nI lz, f_acceptedSize, f_stepCount, f_rawSize, nI lz, s, a_accepted, a_state, a_stepLit, a_stepBlocks, a_past, a_pastSize, a_raw, a_least)) lz
    (fun q k s hI h => br_t (nI_le (Nat.le_refl _) (by omega)) h)
    (by
      intro i F hi hI
      refine ⟨upd F i (a_least i), by rw [ce_ls_push, hI, ce_ls_s], fun q k h => ?_⟩
      refine br_f (nI_ge hi (by omega)) (br_f (nI_ge (b := 16) (by omega) (by omega)) ⟨vp_in_nI (by omega) (by omega), vp_in_nI (by omega) (by omega), ?_⟩)
      rw [nI_clamp (show i < 2 ^ 31 by omega)]
      exact nm_e (nm_r (nI_1 i) h))
    0 (Nat.zero_le _) a_formula rfl
  exact ⟨F', hI, fun post h => hq post h⟩
theorem yw_addStep {z st : Nat} (hz : z ≤ 16) (hs : st < 16) (l e : Int32) : ∃ P' : Nat → Int32, ce_sg P' (16 * st) z = ce_ls a_formula z ∧ (∀ j, j < 16 * st → P' j = a_past j) ∧
    ∀ post : SY → Prop, post (f_n, f_m, nI z, f_acceptedSize, nI (st + 1), f_rawSize, f_leastSize, a_formula, a_accepted, a_state, upd a_stepLit st l, upd a_stepBlocks st (vp_nar .boolean e), P', upd a_pastSize st (nI z), a_raw, a_least) → wpY_addStep post (f_n, f_m, nI z, f_acceptedSize, nI st, f_rawSize, f_leastSize, a_formula, a_accepted, a_state, a_stepLit, a_stepBlocks, a_past, a_pastSize, a_raw, a_least) l e := by
  have es : (nI st).toNatClampNeg = st := nI_clamp (by omega)
  have vs : vp_in (nI st) 16 := vp_in_nI (by omega) (by omega)
  obtain ⟨P', hI, hq⟩ := ce_lpE (σ := Nat → Int32) (Q := SY → Prop)
    (fun q k i s => wY_addStep_2 q l e f_n f_m (nI z) f_acceptedSize (nI st) f_rawSize f_leastSize k (nI i) a_formula a_accepted a_state a_stepLit a_stepBlocks s a_pastSize a_raw a_least)
    (fun i s => ce_sg s (16 * st) i = ce_ls a_formula i ∧ ∀ j, j < 16 * st → s j = a_past j)
    (fun q s => q (f_n, f_m, nI z, f_acceptedSize, nI (st + 1), f_rawSize, f_leastSize, a_formula, a_accepted, a_state, upd a_stepLit st l, upd a_stepBlocks st (vp_nar .boolean e), s, upd a_pastSize st (nI z), a_raw, a_least)) z
    (by
      intro q k s hI h
      refine br_t (nI_le (Nat.le_refl _) (by omega)) ⟨vs, ?_⟩
      rw [es]
      exact nm_e ⟨vs, nm_e ⟨vs, nm_e (nm_r (nI_1 st) h)⟩⟩)
    (by
      intro i P hi hI
      have e1 : (16 : Int32) * nI st + nI i = nI (16 * st + i) := by
        rw [← nI_add, ← pk_mul]; rfl
      refine ⟨upd P (16 * st + i) (a_formula i), ⟨by rw [ce_sg_push, hI.1, ce_ls_s], fun j hj => ?_⟩, fun q k h => ?_⟩
      · rw [pk_un (by omega)]
        exact hI.2 j hj
      · refine br_f (nI_ge hi (by omega)) ⟨vp_in_nI (by omega) (by omega), ?_⟩
        rw [e1, nI_clamp (show i < 2 ^ 31 by omega), nI_clamp (show 16 * st + i < 2 ^ 31 by omega)]
        exact ⟨vp_in_nI (by omega) (by omega), nm_e (nm_r (nI_1 i) h)⟩)
    0 (Nat.zero_le _) a_past ⟨rfl, fun _ _ => rfl⟩
  exact ⟨P', hI.1, hI.2, fun post h => hq post h⟩
end
end
section
/-! the pure laws: undoing a step, blocked clauses, resolvents, shortening -/
def ce_a0 (e : Bool) (v : Nat) (a : Int32) : Int32 := if e = true then ce_mad false v a else a
def ce_HI (n : Nat) (b : Bool) (v : Nat) (e : Bool) (TT PP NN : List Int32) : Prop :=
  (∀ c, c ∈ TT → c ∈ PP) ∧ ∀ a, ce_Md n NN a → ((ce_Md n TT (ce_a0 e v a) → ce_Md n PP (ce_a0 e v a)) ∧ (¬ ce_Md n TT (ce_a0 e v a) → ce_Md n PP (ce_mad b v (ce_a0 e v a))))
theorem ce_HI_mono {n : Nat} {b : Bool} {v : Nat} {e : Bool} {TT PP NN NN' : List Int32} (h : ∀ a, ce_Md n NN' a → ce_Md n NN a) (k : ce_HI n b v e TT PP NN) : ce_HI n b v e TT PP NN' :=
  ⟨k.1, fun a m => k.2 a (h a m)⟩
theorem ce_nMd {n : Nat} {L : List Int32} {a : Int32} (h : ¬ ce_Md n L a) : ∃ c, c ∈ L ∧ ¬ ce_Tr n c a :=
  Classical.byContradiction (fun k => h (fun c hc => Classical.byContradiction (fun t => k ⟨c, hc, t⟩)))
/-! ### blocked -/
def ce_fl (i : Nat) : Nat := if i < 8 then i + 8 else i - 8
def ce_Blk (L : List Int32) (b : Bool) (v : Nat) (c : Int32) : Prop :=
  bt c (ce_po b v) = true ∧ ∀ o, o ∈ L → bt o (ce_po (!b) v) = true → ∃ i, i < 16 ∧ i ≠ ce_po (!b) v ∧ bt o i = true ∧ bt c (ce_fl i) = true
theorem ce_HI_blk {n : Nat} (hn : n ≤ 8) {b : Bool} {v : Nat} (hv : v < n) {L PP NN TT : List Int32} (hL : ∀ c, c ∈ L → ce_C n c) (hT : ∀ c, c ∈ TT ↔ c ∈ L ∧ ce_Blk L b v c) (hP : ∀ c, c ∈ PP ↔ c ∈ L) (hN : ∀ c, c ∈ NN ↔ c ∈ L ∧ ¬ ce_Blk L b v c) : ce_HI n b v false TT PP NN := by
  refine ⟨fun c hc => (hP c).mpr ((hT c).mp hc).1, fun a m => ?_⟩
  rw [show ce_a0 false v a = a from rfl]
  refine ⟨fun t c hc => ?_, fun t d hd => ?_⟩
  · have hl := (hP c).mp hc
    by_cases k : ce_Blk L b v c
    · exact t c ((hT c).mpr ⟨hl, k⟩)
    · exact m c ((hN c).mpr ⟨hl, k⟩)
  · have hdL := (hP d).mp hd
    obtain ⟨c, hc, hf⟩ := ce_nMd t
    obtain ⟨hcL, hB⟩ := (hT c).mp hc
    by_cases p : bt d (ce_po b v) = true
    · exact ce_Tr_mad hn hv a b p
    · have td := m d ((hN d).mpr ⟨hdL, fun k => p k.1⟩)
      by_cases q : bt d (ce_po (!b) v) = true
      · obtain ⟨i, hi, hne, ho, hc2⟩ := hB.2 d hdL q
        by_cases k : i < 8
        · have hin : i < n := by have := (hL d hdL).1 i (by omega) ho; omega
          unfold ce_fl at hc2
          rw [if_pos k] at hc2
          refine ce_Tr_oth hn hv hin ?_ a b (Or.inl ⟨ho, ?_⟩)
          · rintro rfl
            cases b
            · exact hne rfl
            · exact p ho
          · exact ce_nf (fun z => hf ⟨i, hin, Or.inr ⟨hc2, z⟩⟩)
        · have hin : i - 8 < n := by have := (hL d hdL).1 i (by omega) ho; omega
          have e8 : i - 8 + 8 = i := by omega
          unfold ce_fl at hc2
          rw [if_neg k] at hc2
          refine ce_Tr_oth hn hv hin ?_ a b (Or.inr ⟨by rw [e8]; exact ho, ?_⟩)
          · intro z
            have z2 : i = v + 8 := by omega
            subst z2
            cases b
            · exact p ho
            · exact hne rfl
          · exact ce_nt (fun z => hf ⟨i - 8, hin, Or.inl ⟨hc2, z⟩⟩)
      · obtain ⟨u, hu, e⟩ := td
        refine ce_Tr_oth hn hv hu ?_ a b e
        rintro rfl
        cases b
        · rcases e with e | e
          · exact q e.1
          · exact p e.1
        · rcases e with e | e
          · exact p e.1
          · exact q e.1
/-- X's test of a clash -/
def ce_ng (c : Int32) : Int32 := (c >>> ((8 : Int32) &&& 31)) ||| ((c &&& 255) <<< ((8 : Int32) &&& 31))
theorem ce_ng_b {n : Nat} (hn : n ≤ 8) {c : Int32} (hc : ce_OK n c) {i : Nat} (hi : i < 32) : bt (ce_ng c) i = (decide (i < 16) && bt c (ce_fl i)) := by
  unfold ce_ng ce_fl
  have hbig : ∀ k, 16 ≤ k → k < 32 → bt c k = false := by
    intro k h1 h2
    cases e : bt c k
    · rfl
    · have := hc k h2 e; omega
  rw [b_or, b_sshr8 c hi, b_shl8 _ hi, b_and, b_255]
  by_cases k : i < 8
  · rw [if_pos (show 8 + i < 32 by omega), decide_eq_false (show ¬ 8 ≤ i by omega), Bool.false_and, Bool.or_false, if_pos k, decide_eq_true (show i < 16 by omega), Bool.true_and, Nat.add_comm]
  · have h1 : (if 8 + i < 32 then bt c (8 + i) else bt c 31) = false := by
      split
      · exact hbig _ (by omega) (by omega)
      · exact hbig _ (by omega) (by omega)
    rw [h1, Bool.false_or, decide_eq_true (show 8 ≤ i by omega), Bool.true_and, if_neg k]
    by_cases k2 : i < 16
    · rw [decide_eq_true k2, decide_eq_true (show i - 8 < 8 by omega), Bool.and_true, Bool.true_and]
    · rw [decide_eq_false k2, decide_eq_false (show ¬ i - 8 < 8 by omega), Bool.and_false, Bool.false_and]
theorem ce_clash {n v : Nat} (hn : n ≤ 8) (hv : v < 8) (b : Bool) {c : Int32} (hc : ce_OK n c) (o : Int32) : ¬ o &&& (ce_ng c &&& (ce_lb (ce_li b v) ^^^ (-1))) = 0 ↔ ∃ i, i < 16 ∧ i ≠ ce_po b v ∧ bt o i = true ∧ bt c (ce_fl i) = true := by
  have hb : ∀ i, i < 32 → bt (o &&& (ce_ng c &&& (ce_lb (ce_li b v) ^^^ (-1)))) i = (bt o i && ((decide (i < 16) && bt c (ce_fl i)) && !decide (i = ce_po b v))) := by
    intro i hi
    rw [b_and, b_and, ce_ng_b hn hc hi, ce_not _ hi, ce_li_b v hv b i hi]
  rw [ce_z]
  constructor
  · intro h
    refine Classical.byContradiction (fun k => h (fun i hi => ?_))
    rw [hb i hi]
    cases e1 : bt o i
    · rfl
    · cases e2 : bt c (ce_fl i)
      · simp
      · by_cases e3 : i < 16
        · by_cases e4 : i = ce_po b v
          · rw [decide_eq_true e4]; simp
          · exact (k ⟨i, e3, e4, e1, e2⟩).elim
        · rw [decide_eq_false e3]; simp
  · rintro ⟨i, h1, h2, h3, h4⟩ k
    have h5 := k i (by omega)
    rw [hb i (by omega), h3, h4, decide_eq_true h1, decide_eq_false h2] at h5
    exact absurd h5 (by decide)
theorem ce_blkX {n v : Nat} (hn : n ≤ 8) (hv : v < 8) (b : Bool) {L : List Int32} {c : Int32} (hc : ce_OK n c) :
    (¬ c &&& ce_lb (ce_li b v) = 0 ∧ ∀ o, o ∈ L → ¬ o &&& ce_lb (ce_li (!b) v) = 0 → ¬ o &&& (ce_ng c &&& (ce_lb (ce_li (!b) v) ^^^ (-1))) = 0) ↔ ce_Blk L b v c := by
  rw [ce_hasN hv]
  refine and_congr Iff.rfl (forall_congr' (fun o => forall_congr' (fun _ => ?_)))
  rw [ce_hasN hv, ce_clash hn hv (!b) hc]
/-! ### resolvents -/
def ce_rs (v : Nat) (x y : Int32) : Int32 := (x ||| y) &&& (ce_bo (nI (v + 1)) ^^^ (-1))
theorem ce_rs_b {v : Nat} (hv : v < 8) (x y : Int32) {i : Nat} (hi : i < 32) : bt (ce_rs v x y) i = ((bt x i || bt y i) && !decide (i = v ∨ i = v + 8)) := by
  unfold ce_rs
  rw [ce_mi_b hv _ hi, b_or]
theorem ce_rs_t {v : Nat} (hv : v < 8) {x y : Int32} {i : Nat} (hi : i < 32) : bt (ce_rs v x y) i = true ↔ (bt x i = true ∨ bt y i = true) ∧ i ≠ v ∧ i ≠ v + 8 := by
  rw [ce_rs_b hv x y hi]
  by_cases e : i = v ∨ i = v + 8
  · rw [decide_eq_true e]
    simp only [Bool.not_true, Bool.and_false]
    constructor
    · intro z; exact absurd z (by decide)
    · rintro ⟨_, h1, h2⟩; rcases e with e | e
      · exact (h1 e).elim
      · exact (h2 e).elim
  · rw [decide_eq_false e]
    simp only [Bool.not_false, Bool.and_true, Bool.or_eq_true]
    exact ⟨fun z => ⟨z, fun w => e (Or.inl w), fun w => e (Or.inr w)⟩, fun z => z.1⟩
def ce_Re (L : List Int32) (v : Nat) (c : Int32) : Prop :=
  (c ∈ L ∧ bt c v = false ∧ bt c (v + 8) = false) ∨ ∃ x y, x ∈ L ∧ y ∈ L ∧ bt x v = true ∧ bt y (v + 8) = true ∧ c = ce_rs v x y ∧ ce_NT c
theorem ce_rs_OK {n v : Nat} (hv : v < 8) {x y : Int32} (hx : ce_OK n x) (hy : ce_OK n y) : ce_OK n (ce_rs v x y) := by
  intro i hi h
  rcases ((ce_rs_t hv hi).mp h).1 with k | k
  · exact hx i hi k
  · exact hy i hi k
theorem ce_Re_C {n v : Nat} (hv : v < 8) {L : List Int32} (hL : ∀ c, c ∈ L → ce_C n c) {c : Int32} (h : ce_Re L v c) : ce_C n c := by
  rcases h with ⟨h, _, _⟩ | ⟨x, y, hx, hy, _, _, rfl, hnt⟩
  · exact hL c h
  · exact ⟨ce_rs_OK hv (hL x hx).1 (hL y hy).1, hnt⟩
theorem ce_HI_res {n v : Nat} (hn : n ≤ 8) (hv : v < n) {L PP NN TT : List Int32} (hL : ∀ c, c ∈ L → ce_C n c) (hT : ∀ c, c ∈ TT ↔ c ∈ L ∧ bt c v = true) (hP : ∀ c, c ∈ PP ↔ c ∈ L) (hN : ∀ a, ce_Md n NN a → ∀ c, ce_Re L v c → ce_Tr n c a) : ce_HI n true v true TT PP NN := by
  have hv8 : v < 8 := by omega
  refine ⟨fun c hc => (hP c).mpr ((hT c).mp hc).1, fun a m => ?_⟩
  rw [show ce_a0 true v a = ce_mad false v a from rfl]
  have b0 : ∀ i, i < 32 → bt (ce_mad false v a) i = if i = v then false else bt a i := fun i hi => ce_mad_b (by omega) false a hi
  have nov : ∀ d, d ∈ L → bt d v = false → bt d (v + 8) = false → ∃ u, u < n ∧ u ≠ v ∧ ((bt d u = true ∧ bt a u = true) ∨ (bt d (u + 8) = true ∧ bt a u = false)) := by
    intro d hd h1 h2
    obtain ⟨u, hu, e⟩ := hN a m d (Or.inl ⟨hd, h1, h2⟩)
    refine ⟨u, hu, ?_, e⟩
    rintro rfl
    rcases e with e | e
    · rw [h1] at e; exact absurd e.1 (by decide)
    · rw [h2] at e; exact absurd e.1 (by decide)
  refine ⟨fun t c hc => ?_, fun t d hd => ?_⟩
  · have hl := (hP c).mp hc
    by_cases p : bt c v = true
    · exact t c ((hT c).mpr ⟨hl, p⟩)
    · by_cases q : bt c (v + 8) = true
      · exact ce_Tr_mad hn hv a false q
      · obtain ⟨u, hu, ne, e⟩ := nov c hl (ce_nt p) (ce_nt q)
        exact ce_Tr_oth hn hv hu ne a false e
  · have hl := (hP d).mp hd
    by_cases p : bt d v = true
    · exact ce_Tr_mad hn hv _ true p
    · have fin : ∀ u, u < n → u ≠ v → ((bt d u = true ∧ bt a u = true) ∨ (bt d (u + 8) = true ∧ bt a u = false)) → ce_Tr n d (ce_mad true v (ce_mad false v a)) := by
        intro u hu ne e
        refine ce_Tr_oth hn hv hu ne _ true ?_
        rw [b0 u (by omega), if_neg ne]
        exact e
      by_cases q : bt d (v + 8) = true
      · obtain ⟨c, hc, hf⟩ := ce_nMd t
        obtain ⟨hcL, hcv⟩ := (hT c).mp hc
        have hcf : ∀ u, u < n → u ≠ v → ((bt c u = true ∧ bt a u = true) ∨ (bt c (u + 8) = true ∧ bt a u = false)) → False :=
          fun u hu ne e => hf (ce_Tr_oth hn hv hu ne a false e)
        by_cases k : ce_NT (ce_rs v c d)
        · obtain ⟨u, hu, e⟩ := hN a m _ (Or.inr ⟨c, d, hcL, hl, hcv, q, rfl, k⟩)
          have hu8 : u < 8 := by omega
          rw [ce_rs_t hv8 (show u < 32 by omega), ce_rs_t hv8 (show u + 8 < 32 by omega)] at e
          have ne : u ≠ v := by
            rcases e with e | e
            · exact e.1.2.1
            · intro z; exact e.1.2.2 (by omega)
          rcases e with ⟨⟨e | e, _⟩, f⟩ | ⟨⟨e | e, _⟩, f⟩
          · exact (hcf u hu ne (Or.inl ⟨e, f⟩)).elim
          · exact fin u hu ne (Or.inl ⟨e, f⟩)
          · exact (hcf u hu ne (Or.inr ⟨e, f⟩)).elim
          · exact fin u hu ne (Or.inr ⟨e, f⟩)
        · obtain ⟨u, hu, e1, e2⟩ : ∃ u, u < 8 ∧ bt (ce_rs v c d) u = true ∧ bt (ce_rs v c d) (u + 8) = true :=
            Classical.byContradiction (fun z => k (fun u hu x y => z ⟨u, hu, x, y⟩))
          rw [ce_rs_t hv8 (by omega)] at e1 e2
          have ne : u ≠ v := e1.2.1
          rcases e1.1 with f1 | f1
          · have hun : u < n := by have := (hL c hcL).1 u (by omega) f1; omega
            rcases e2.1 with f2 | f2
            · exact ((hL c hcL).2 u hu f1 f2).elim
            · exact fin u hun ne (Or.inr ⟨f2, ce_nt (fun z => hcf u hun ne (Or.inl ⟨f1, z⟩))⟩)
          · have hun : u < n := by have := (hL d hl).1 u (by omega) f1; omega
            rcases e2.1 with f2 | f2
            · exact fin u hun ne (Or.inl ⟨f1, ce_nf (fun z => hcf u hun ne (Or.inr ⟨f2, z⟩))⟩)
            · exact ((hL d hl).2 u hu f1 f2).elim
      · obtain ⟨u, hu, ne, e⟩ := nov d hl (ce_nt p) (ce_nt q)
        exact fin u hu ne e
/-- Y's union -/
theorem ce_uni {v : Nat} (hv : v < 8) {x y : Int32} (hx : ce_NT x) (hy : ce_NT y) (h1 : bt x v = true) (h2 : bt y (v + 8) = true) : (x &&& (ce_lb (nI (v + 1)) ^^^ (-1))) ||| (y &&& (ce_lb (-nI (v + 1)) ^^^ (-1))) = ce_rs v x y := by
  apply b_ext
  intro i hi
  have e1 := ce_li_b v hv true i hi
  have e2 := ce_li_b v hv false i hi
  rw [ce_li_t, ce_po_t] at e1
  rw [ce_li_f, ce_po_f] at e2
  rw [b_or, b_and, b_and, ce_not _ hi, ce_not _ hi, e1, e2, ce_rs_b hv x y hi]
  have hxv : bt x (v + 8) = false := ce_nt (fun z => hx v hv h1 z)
  have hyv : bt y v = false := ce_nt (fun z => hy v hv z h2)
  by_cases k : i = v
  · subst k
    rw [hyv, decide_eq_true rfl, decide_eq_true (Or.inl rfl)]; simp
  · by_cases k2 : i = v + 8
    · subst k2
      rw [hxv, decide_eq_true (p := v + 8 = v + 8) rfl, decide_eq_true (Or.inr rfl)]; simp
    · rw [decide_eq_false k, decide_eq_false k2, decide_eq_false (show ¬ (i = v ∨ i = v + 8) by omega)]; simp
/-! ### shortening -/
def ce_mi (v : Nat) (c : Int32) : Int32 := c &&& (ce_bo (nI (v + 1)) ^^^ (-1))
theorem ce_mi_t {v : Nat} (hv : v < 8) {c : Int32} {i : Nat} (hi : i < 32) : bt (ce_mi v c) i = true ↔ bt c i = true ∧ i ≠ v ∧ i ≠ v + 8 := by
  unfold ce_mi
  rw [ce_mi_b hv c hi]
  by_cases e : i = v ∨ i = v + 8
  · rw [decide_eq_true e]
    simp only [Bool.not_true, Bool.and_false]
    constructor
    · intro z; exact absurd z (by decide)
    · rintro ⟨_, h1, h2⟩; rcases e with e | e
      · exact (h1 e).elim
      · exact (h2 e).elim
  · rw [decide_eq_false e]
    simp only [Bool.not_false, Bool.and_true]
    exact ⟨fun z => ⟨z, fun w => e (Or.inl w), fun w => e (Or.inr w)⟩, fun z => z.1⟩
def ce_Sh (L : List Int32) (v : Nat) (c : Int32) : Prop :=
  ∃ b : Bool, bt c (ce_po b v) = true ∧ ∃ o, o ∈ L ∧ bt o (ce_po (!b) v) = true ∧ ce_Sub (ce_mi v o) c
noncomputable def ce_St (L : List Int32) (v : Nat) (c : Int32) : Int32 := if ce_d (ce_Sh L v c) = true then ce_mi v c else c
theorem ce_St_t {L : List Int32} {v : Nat} {c : Int32} (h : ce_Sh L v c) : ce_St L v c = ce_mi v c := if_pos (ce_dt h)
theorem ce_St_f {L : List Int32} {v : Nat} {c : Int32} (h : ¬ ce_Sh L v c) : ce_St L v c = c := if_neg (fun z => h (ce_di.mp z))
theorem ce_St_sub {L : List Int32} {v : Nat} (hv : v < 8) (c : Int32) : ce_Sub (ce_St L v c) c := by
  by_cases h : ce_Sh L v c
  · rw [ce_St_t h]
    exact fun i hi x => ((ce_mi_t hv hi).mp x).1
  · rw [ce_St_f h]
    exact ce_sub_rfl c
/-- X's own and opposite literal of a clause -/
theorem ce_own {v : Nat} (hv : v < 8) {c : Int32} (hc : ce_NT c) (b : Bool) (h : bt c (ce_po b v) = true) : c &&& ce_bo (nI (v + 1)) = ce_lb (ce_li b v) := by
  apply b_ext
  intro i hi
  rw [b_and, ce_bo_b v hv i hi, ce_li_b v hv b i hi]
  by_cases e : i = ce_po b v
  · subst e
    rw [h, decide_eq_true (p := ce_po b v = ce_po b v) rfl, decide_eq_true (by cases b <;> simp [ce_po])]
    rfl
  · rw [decide_eq_false e]
    by_cases k : i = v ∨ i = v + 8
    · have : bt c i = false := by
        apply ce_nt
        intro z
        cases b
        · rw [ce_po_f] at h e
          rcases k with k | k
          · subst k; exact hc _ hv z h
          · exact e k
        · rw [ce_po_t] at h e
          rcases k with k | k
          · exact e k
          · subst k; exact hc _ hv h z
      rw [this]; rfl
    · rw [decide_eq_false k, Bool.and_false]
theorem ce_shX {v : Nat} (hv : v < 8) {L : List Int32} {c : Int32} (hc : ce_NT c) :
    (¬ c &&& ce_bo (nI (v + 1)) = 0 ∧ ∃ o, o ∈ L ∧ ¬ o &&& (ce_bo (nI (v + 1)) ^^^ (c &&& ce_bo (nI (v + 1)))) = 0 ∧ (o &&& (ce_bo (nI (v + 1)) ^^^ (-1))) &&& (c ^^^ (-1)) = 0) ↔ ce_Sh L v c := by
  rw [ce_boN hv]
  constructor
  · rintro ⟨h, o, ho, h1, h2⟩
    have key : ∀ b : Bool, bt c (ce_po b v) = true → ce_Sh L v c := by
      intro b hb
      rw [ce_own hv hc b hb, ce_bo_x v hv b, ce_hasN hv] at h1
      exact ⟨b, hb, o, ho, h1, ce_sub_iff.mp h2⟩
    rcases h with h | h
    · exact key true h
    · exact key false h
  · rintro ⟨b, hb, o, ho, h1, h2⟩
    refine ⟨?_, o, ho, ?_, ce_sub_iff.mpr h2⟩
    · cases b
      · exact Or.inr hb
      · exact Or.inl hb
    · rw [ce_own hv hc b hb, ce_bo_x v hv b, ce_hasN hv]
      exact h1
/-- Y's test with one literal -/
theorem ce_shY {v : Nat} (hv : v < 8) (b : Bool) {o c : Int32} (ho : ce_NT o) (h : bt o (ce_po (!b) v) = true) :
    ce_Sub (o &&& (ce_lb (ce_li (!b) v) ^^^ (-1))) (c &&& (ce_lb (ce_li b v) ^^^ (-1))) ↔ ce_Sub (ce_mi v o) c := by
  have hx : ∀ (x : Int32) (s : Bool) i, i < 32 → (bt (x &&& (ce_lb (ce_li s v) ^^^ (-1))) i = true ↔ bt x i = true ∧ i ≠ ce_po s v) := by
    intro x s i hi
    rw [b_and, ce_not _ hi, ce_li_b v hv s i hi]
    by_cases e : i = ce_po s v
    · rw [decide_eq_true e]; simp [e]
    · rw [decide_eq_false e]; simp [e]
  constructor
  · intro k i hi z
    obtain ⟨z1, z2, z3⟩ := (ce_mi_t hv hi).mp z
    refine ((hx c b i hi).mp (k i hi ((hx o (!b) i hi).mpr ⟨z1, ?_⟩))).1
    cases b
    · exact z2
    · exact z3
  · intro k i hi z
    obtain ⟨z1, z2⟩ := (hx o (!b) i hi).mp z
    have ne : i ≠ ce_po b v := by
      rintro rfl
      cases b
      · exact ho v hv h z1
      · exact ho v hv z1 h
    refine (hx c b i hi).mpr ⟨k i hi ((ce_mi_t hv hi).mpr ⟨z1, ?_, ?_⟩), ne⟩
    · cases b
      · exact z2
      · exact ne
    · cases b
      · exact ne
      · exact z2
theorem ce_miY {v : Nat} (hv : v < 8) (c : Int32) : (c &&& (ce_lb (nI (v + 1)) ^^^ (-1))) &&& (ce_lb (-nI (v + 1)) ^^^ (-1)) = ce_mi v c := by
  apply b_ext
  intro i hi
  have e1 := ce_li_b v hv true i hi
  have e2 := ce_li_b v hv false i hi
  rw [ce_li_t, ce_po_t] at e1
  rw [ce_li_f, ce_po_f] at e2
  unfold ce_mi
  rw [b_and, b_and, ce_not _ hi, ce_not _ hi, e1, e2, ce_mi_b hv c hi]
  by_cases k : i = v
  · subst k
    rw [decide_eq_true (p := i = i) rfl, decide_eq_true (Or.inl rfl)]; simp
  · by_cases k2 : i = v + 8
    · rw [decide_eq_false k, decide_eq_true k2, decide_eq_true (Or.inr k2)]; simp
    · rw [decide_eq_false k, decide_eq_false k2, decide_eq_false (show ¬ (i = v ∨ i = v + 8) by omega)]; simp
end
section
/-! X: strengthen -/
theorem ce_WK_pm {S : Int32 → Prop} {W L : List Int32} (h : ce_WK S W) (p : L.Perm W) : ce_WK S L :=
  ⟨p.symm.nodup h.1, fun c hc => h.2.1 c (p.mem_iff.mp hc), fun d hd => by
    obtain ⟨w, hw, s⟩ := h.2.2.1 d hd
    exact ⟨w, p.mem_iff.mpr hw, s⟩, fun c hc d hd s => h.2.2.2 c (p.mem_iff.mp hc) d (p.mem_iff.mp hd) s⟩
theorem ce_WK_len {S : Int32 → Prop} {a : Nat → Int32} {w : Nat} (L : List Int32) (h : ce_WK S (ce_ls a w)) (k : ∀ c, S c → c ∈ L) : w ≤ L.length := by
  have h1 := List.Nodup.length_le_of_subset h.1 (fun c hc => k c (h.2.1 c hc))
  rw [ce_ls_len] at h1
  exact h1
/-- the set of shortened clauses of the first i cells -/
def ce_SS (L : List Int32) (v : Nat) (K : List Int32) (d : Int32) : Prop := ∃ c, c ∈ K ∧ d = ce_St L v c
theorem ce_SS_s {L : List Int32} {v : Nat} {a : Nat → Int32} {i : Nat} (d : Int32) : (ce_SS L v (ce_ls a i) d ∨ d = ce_St L v (a i)) ↔ ce_SS L v (ce_ls a (i + 1)) d := by
  constructor
  · rintro (⟨c, hc, e⟩ | e)
    · exact ⟨c, by rw [ce_ls_s]; exact List.mem_append_left _ hc, e⟩
    · exact ⟨a i, ce_ls_at (by omega), e⟩
  · rintro ⟨c, hc, e⟩
    rw [ce_ls_s, List.mem_append, List.mem_singleton] at hc
    rcases hc with hc | hc
    · exact Or.inl ⟨c, hc, e⟩
    · subst hc; exact Or.inr e
noncomputable def ce_shc (L : List Int32) (v : Nat) (K : List Int32) : Nat := K.countP (fun c => ce_d (ce_Sh L v c))
section
variable {f_n f_m f_mask f_size f_workCount f_acceptedCount f_stepCount : Int32} {a_state a_formula a_work a_accepted a_stepLiteral a_stepEliminates a_stepStart a_trail : Nat → Int32}
theorem xw_str39 {n z v : Nat} (hn : n ≤ 8) (hv : v < 8) (hz : z ≤ 16) (hF : ce_F n (ce_ls a_formula z)) : ∃ (w : Nat) (W' : Nat → Int32), w ≤ z ∧ ce_WK (ce_SS (ce_ls a_formula z) v (ce_ls a_formula z)) (ce_ls W' w) ∧
    ∀ post : Int32 → SX → Prop, (∀ m, wX_strengthen_39 post (ce_bo (nI (v + 1))) (m + 1) (nI (ce_shc (ce_ls a_formula z) v (ce_ls a_formula z))) (nI z) (nI n) f_m f_mask (nI z) (nI w) f_acceptedCount f_stepCount a_state a_formula W' a_accepted a_stepLiteral a_stepEliminates a_stepStart a_trail) → ∃ k, wX_strengthen_39 post (ce_bo (nI (v + 1))) k 0 0 (nI n) f_m f_mask (nI z) 0 f_acceptedCount f_stepCount a_state a_formula a_work a_accepted a_stepLiteral a_stepEliminates a_stepStart a_trail := by
  obtain ⟨s, hI, hq⟩ := ce_lpX (σ := Nat × (Nat → Int32)) (Q := Int32 → SX → Prop)
    (fun q k i s => wX_strengthen_39 q (ce_bo (nI (v + 1))) k (nI (ce_shc (ce_ls a_formula z) v (ce_ls a_formula i))) (nI i) (nI n) f_m f_mask (nI z) (nI s.1) f_acceptedCount f_stepCount a_state a_formula s.2 a_accepted a_stepLiteral a_stepEliminates a_stepStart a_trail)
    (fun i s => s.1 ≤ i ∧ ce_WK (ce_SS (ce_ls a_formula z) v (ce_ls a_formula i)) (ce_ls s.2 s.1)) z
    (by
      rintro i ⟨w, V⟩ hi ⟨h1, h2⟩
      dsimp only at h1 h2
      have hc : ce_NT (a_formula i) := (hF.2.1 _ (ce_ls_at hi)).2
      obtain ⟨w', W', g1, g2, g3⟩ := xw_addMinimal (f_n := nI n) (f_m := f_m) (f_mask := f_mask) (f_size := nI z) (f_acceptedCount := f_acceptedCount) (f_stepCount := f_stepCount) (a_state := a_state) (a_formula := a_formula) (a_work := V) (a_accepted := a_accepted) (a_stepLiteral := a_stepLiteral) (a_stepEliminates := a_stepEliminates) (a_stepStart := a_stepStart) (a_trail := a_trail) (w := w) (by omega) (ce_St (ce_ls a_formula z) v (a_formula i)) h2
      refine ⟨(w', W'), ⟨by dsimp only; omega, ce_WK_congr ce_SS_s g2⟩, fun q k h => ?_⟩
      dsimp only at h ⊢
      refine br_f (nI_ge hi (by omega)) ⟨vp_in_nI (by omega) (by omega), ?_⟩
      rw [nI_clamp (show i < 2 ^ 31 by omega)]
      refine nm_e (xw_isShortenable hz (ce_br (fun y => ?_) (fun y => ?_)))
      · have ns : ¬ ce_Sh (ce_ls a_formula z) v (a_formula i) := fun t => y ((ce_shX hv hc).mpr t)
        rw [ce_St_f ns] at g3
        unfold wX_strengthen_78
        refine g3 _ (nm_r (nI_1 i) ?_)
        have e : ce_shc (ce_ls a_formula z) v (ce_ls a_formula (i + 1)) = ce_shc (ce_ls a_formula z) v (ce_ls a_formula i) := ce_cnt_f (ce_df ns)
        rw [e] at h
        exact h
      · have sh : ce_Sh (ce_ls a_formula z) v (a_formula i) := (ce_shX hv hc).mp y
        rw [ce_St_t sh] at g3
        refine nm_e (nm_r (nI_1 _) ?_)
        unfold wX_strengthen_78
        refine g3 _ (nm_r (nI_1 i) ?_)
        have e : ce_shc (ce_ls a_formula z) v (ce_ls a_formula (i + 1)) = ce_shc (ce_ls a_formula z) v (ce_ls a_formula i) + 1 := ce_cnt_t (ce_dt sh)
        rw [e] at h
        exact h)
    0 (Nat.zero_le _) (0, a_work) ⟨Nat.le_refl _, ce_WK_nil (fun c h => by obtain ⟨d, hd, _⟩ := h; exact List.not_mem_nil hd)⟩
  obtain ⟨w, V⟩ := s
  exact ⟨w, V, hI.1, hI.2, fun post h => hq post h⟩
theorem ce_St_id {L : List Int32} {v : Nat} (h : ce_shc L v L = 0) {c : Int32} (hc : c ∈ L) : ce_St L v c = c := by
  refine ce_St_f (fun s => ?_)
  have h1 := List.countP_eq_zero.mp h c hc
  exact h1 (ce_dt s)
theorem xw_strengthen {n z v : Nat} (hn : n ≤ 8) (hv : v < n) (hz : z ≤ 16) (hF : ce_F n (ce_ls a_formula z)) (hs : ¬ a_state (v + 1) = 3) : ∃ (w z' : Nat) (W' F' : Nat → Int32), z' ≤ z ∧ (ce_ls F' z').Pairwise (· < ·) ∧ ce_WK (ce_SS (ce_ls a_formula z) v (ce_ls a_formula z)) (ce_ls F' z') ∧
    ∀ post : Int32 → SX → Prop, post (nI (ce_shc (ce_ls a_formula z) v (ce_ls a_formula z))) (nI n, f_m, f_mask, nI z', nI w, f_acceptedCount, f_stepCount, a_state, F', W', a_accepted, a_stepLiteral, a_stepEliminates, a_stepStart, a_trail) → wpX_strengthen post (nI n, f_m, f_mask, nI z, f_workCount, f_acceptedCount, f_stepCount, a_state, a_formula, a_work, a_accepted, a_stepLiteral, a_stepEliminates, a_stepStart, a_trail) (nI (v + 1)) := by
  obtain ⟨w, W', h1, h2, h3⟩ := xw_str39 (f_m := f_m) (f_mask := f_mask) (f_acceptedCount := f_acceptedCount) (f_stepCount := f_stepCount) (a_state := a_state) (a_formula := a_formula) (a_work := a_work) (a_accepted := a_accepted) (a_stepLiteral := a_stepLiteral) (a_stepEliminates := a_stepEliminates) (a_stepStart := a_stepStart) (a_trail := a_trail) hn (show v < 8 by omega) hz hF
  have pre : ∀ post : Int32 → SX → Prop, (∃ k, wX_strengthen_39 post (ce_bo (nI (v + 1))) k 0 0 (nI n) f_m f_mask (nI z) 0 f_acceptedCount f_stepCount a_state a_formula a_work a_accepted a_stepLiteral a_stepEliminates a_stepStart a_trail) → wpX_strengthen post (nI n, f_m, f_mask, nI z, f_workCount, f_acceptedCount, f_stepCount, a_state, a_formula, a_work, a_accepted, a_stepLiteral, a_stepEliminates, a_stepStart, a_trail) (nI (v + 1)) := by
    intro post h
    unfold wpX_strengthen
    dsimp only
    refine xw_isVariable (ce_br (fun y => ?_) (fun y => ⟨vp_in_nI (by omega) (by omega), ?_⟩))
    · exact (y ⟨nI_nlt (b := 1) (by omega) (by omega), nI_nlt (by omega) (by omega)⟩).elim
    · rw [nI_clamp (show v + 1 < 2 ^ 31 by omega)]
      exact br_f hs (xw_bothOf h)
  have hk : ce_shc (ce_ls a_formula z) v (ce_ls a_formula z) ≤ 16 := Nat.le_trans (ce_cnt_k _ _ _) hz
  by_cases h0 : ce_shc (ce_ls a_formula z) v (ce_ls a_formula z) = 0
  · refine ⟨w, z, W', a_formula, Nat.le_refl _, hF.1, ce_WK_congr (fun c => ?_) (ce_F_WK hF), fun post h => pre post (h3 post (fun m => br_t (nI_le (Nat.le_refl _) (by omega)) (br_t ?_ h)))⟩
    · constructor
      · exact fun hc => ⟨c, hc, (ce_St_id h0 hc).symm⟩
      · rintro ⟨d, hd, e⟩
        rw [ce_St_id h0 hd] at e
        rw [e]; exact hd
    · rw [h0]; exact ce_00
  · obtain ⟨F', g1, g2, g3⟩ := xw_install (f_n := nI n) (f_m := f_m) (f_mask := f_mask) (f_size := nI z) (f_acceptedCount := f_acceptedCount) (f_stepCount := f_stepCount) (a_state := a_state) (a_formula := a_formula) (a_work := W') (a_accepted := a_accepted) (a_stepLiteral := a_stepLiteral) (a_stepEliminates := a_stepEliminates) (a_stepStart := a_stepStart) (a_trail := a_trail) (w := w) (by omega) h2.1
    exact ⟨w, w, W', F', h1, g1, ce_WK_pm h2 g2, fun post h => pre post (h3 post (fun m => br_t (nI_le (Nat.le_refl _) (by omega)) (br_f (nI_nle (by omega) (by omega)) (g3 _ h))))⟩
theorem xw_str_bad {post : Int32 → SX → Prop} {n : Nat} {x : Int32} (hx : x < 1 ∨ nI n < x) (h : post (-1) (nI n, f_m, f_mask, f_size, f_workCount, f_acceptedCount, f_stepCount, a_state, a_formula, a_work, a_accepted, a_stepLiteral, a_stepEliminates, a_stepStart, a_trail)) : wpX_strengthen post (nI n, f_m, f_mask, f_size, f_workCount, f_acceptedCount, f_stepCount, a_state, a_formula, a_work, a_accepted, a_stepLiteral, a_stepEliminates, a_stepStart, a_trail) x := by
  unfold wpX_strengthen
  dsimp only
  exact xw_isVariable (ce_br (fun _ => h) (fun y => (hx.elim y.1 y.2).elim))
theorem xw_str_gone {post : Int32 → SX → Prop} {n v : Nat} (hn : n ≤ 8) (hv : v < n) (hs : a_state (v + 1) = 3) (h : post (-6) (nI n, f_m, f_mask, f_size, f_workCount, f_acceptedCount, f_stepCount, a_state, a_formula, a_work, a_accepted, a_stepLiteral, a_stepEliminates, a_stepStart, a_trail)) : wpX_strengthen post (nI n, f_m, f_mask, f_size, f_workCount, f_acceptedCount, f_stepCount, a_state, a_formula, a_work, a_accepted, a_stepLiteral, a_stepEliminates, a_stepStart, a_trail) (nI (v + 1)) := by
  unfold wpX_strengthen
  dsimp only
  refine xw_isVariable (ce_br (fun y => ?_) (fun y => ⟨vp_in_nI (by omega) (by omega), ?_⟩))
  · exact (y ⟨nI_nlt (b := 1) (by omega) (by omega), nI_nlt (by omega) (by omega)⟩).elim
  · rw [nI_clamp (show v + 1 < 2 ^ 31 by omega)]
    exact br_t hs h
end
end
section
/-! X: block -/
section
variable {f_n f_m f_mask f_size f_workCount f_acceptedCount f_stepCount : Int32} {a_state a_formula a_work a_accepted a_stepLiteral a_stepEliminates a_stepStart a_trail : Nat → Int32}
theorem xw_block77 {n z t0 v : Nat} {b : Bool} (hn : n ≤ 8) (hv : v < 8) (hz : z ≤ 16) (ht : t0 ≤ 240) (hF : ce_F n (ce_ls a_formula z)) (l x : Int32) : ∃ (w : Nat) (W : Nat → Int32) (k : Nat) (T : Nat → Int32), w + k = z ∧
    ce_ls W w = (ce_ls a_formula z).filter (fun c => ce_d (¬ ce_Blk (ce_ls a_formula z) b v c)) ∧ ce_sg T t0 k = (ce_ls a_formula z).filter (fun c => ce_d (ce_Blk (ce_ls a_formula z) b v c)) ∧ (∀ j, j < t0 → T j = a_trail j) ∧
    ∀ post : Int32 → SX → Prop, (∀ m, wX_block_77 post l x (ce_lb (ce_li b v)) (ce_lb (ce_li (!b) v)) (nI t0) f_n f_m f_mask (nI z) f_acceptedCount f_stepCount (m + 1) (nI (t0 + k)) (nI z) (nI w) a_state a_formula W a_accepted a_stepLiteral a_stepEliminates a_stepStart T) →
      ∃ m, wX_block_77 post l x (ce_lb (ce_li b v)) (ce_lb (ce_li (!b) v)) (nI t0) f_n f_m f_mask (nI z) f_acceptedCount f_stepCount m (nI t0) 0 0 a_state a_formula a_work a_accepted a_stepLiteral a_stepEliminates a_stepStart a_trail := by
  obtain ⟨s, hI, hq⟩ := ce_lpX (σ := (Nat × (Nat → Int32)) × (Nat × (Nat → Int32))) (Q := Int32 → SX → Prop)
    (fun q m i s => wX_block_77 q l x (ce_lb (ce_li b v)) (ce_lb (ce_li (!b) v)) (nI t0) f_n f_m f_mask (nI z) f_acceptedCount f_stepCount m (nI (t0 + s.2.1)) (nI i) (nI s.1.1) a_state a_formula s.1.2 a_accepted a_stepLiteral a_stepEliminates a_stepStart s.2.2)
    (fun i s => s.1.1 + s.2.1 = i ∧ ce_ls s.1.2 s.1.1 = (ce_ls a_formula i).filter (fun c => ce_d (¬ ce_Blk (ce_ls a_formula z) b v c)) ∧ ce_sg s.2.2 t0 s.2.1 = (ce_ls a_formula i).filter (fun c => ce_d (ce_Blk (ce_ls a_formula z) b v c)) ∧ ∀ j, j < t0 → s.2.2 j = a_trail j) z
    (by
      rintro i ⟨⟨w, W⟩, ⟨k, T⟩⟩ hi ⟨h1, h2, h3, h4⟩
      dsimp only at h1 h2 h3 h4
      have hc : ce_OK n (a_formula i) := (hF.2.1 _ (ce_ls_at hi)).1
      have ei : (nI i).toNatClampNeg = i := nI_clamp (by omega)
      have hX := ce_blkX hn hv b (L := ce_ls a_formula z) hc
      by_cases hb : ce_Blk (ce_ls a_formula z) b v (a_formula i)
      · refine ⟨((w, W), (k + 1, upd T (t0 + k) (a_formula i))), ⟨by dsimp only; omega, ?_, ?_, fun j hj => ?_⟩, fun q m h => ?_⟩
        · dsimp only
          rw [ce_fil_f (ce_df (fun z => z hb)), h2]
        · dsimp only
          rw [ce_fil_t (ce_dt hb), ce_sg_push, h3]
        · dsimp only
          rw [pk_un (by omega)]
          exact h4 j hj
        · dsimp only at h ⊢
          obtain ⟨hb1, hb2⟩ := hX.mpr hb
          refine br_f (nI_ge hi (by omega)) ⟨vp_in_nI (by omega) (by omega), ?_⟩
          rw [ei]
          refine nm_e (br_f hb1 (xw_isBlocked hz (ce_br (fun y => (y hb2).elim) (fun _ => ?_))))
          refine nm_r (nI_1 (t0 + k)) ⟨vp_in_nI (by omega) (by omega), ?_⟩
          rw [nI_clamp (show t0 + k < 2 ^ 31 by omega)]
          exact nm_e (nm_r (nI_1 i) h)
      · refine ⟨((w + 1, upd W w (a_formula i)), (k, T)), ⟨by dsimp only; omega, ?_, ?_, h4⟩, fun q m h => ?_⟩
        · dsimp only
          rw [ce_fil_t (ce_dt hb), ce_ls_push, h2]
        · dsimp only
          rw [ce_fil_f (ce_df hb), h3]
        · dsimp only at h ⊢
          have keep : ∀ q : Int32 → SX → Prop, wX_block_77 q l x (ce_lb (ce_li b v)) (ce_lb (ce_li (!b) v)) (nI t0) f_n f_m f_mask (nI z) f_acceptedCount f_stepCount m (nI (t0 + k)) (nI (i + 1)) (nI (w + 1)) a_state a_formula (upd W w (a_formula i)) a_accepted a_stepLiteral a_stepEliminates a_stepStart T →
              wX_block_129 q (wX_block_77 q l x (ce_lb (ce_li b v)) (ce_lb (ce_li (!b) v)) (nI t0) f_n f_m f_mask (nI z) f_acceptedCount f_stepCount m) l x (ce_lb (ce_li b v)) (ce_lb (ce_li (!b) v)) (nI t0) (nI (t0 + k)) (nI i) (a_formula i) f_n f_m f_mask (nI z) (nI w) f_acceptedCount f_stepCount a_state a_formula W a_accepted a_stepLiteral a_stepEliminates a_stepStart T := by
            intro q h
            unfold wX_block_129
            refine nm_r (nI_1 w) ⟨vp_in_nI (by omega) (by omega), ?_⟩
            rw [nI_clamp (show w < 2 ^ 31 by omega)]
            exact nm_e (nm_r (nI_1 i) h)
          refine br_f (nI_ge hi (by omega)) ⟨vp_in_nI (by omega) (by omega), ?_⟩
          rw [ei]
          refine nm_e (br_c (fun _ => keep q h) (fun y => xw_isBlocked hz (ce_br (fun _ => keep q h) (fun t => (hb (hX.mp ⟨y, t⟩)).elim)))))
    0 (Nat.zero_le _) ((0, a_work), (0, a_trail)) ⟨rfl, rfl, rfl, fun _ _ => rfl⟩
  obtain ⟨⟨w, W⟩, ⟨k, T⟩⟩ := s
  exact ⟨w, W, k, T, hI.1, hI.2.1, hI.2.2.1, hI.2.2.2, fun post h => hq post h⟩
theorem xw_blk24 {post : Int32 → SX → Prop} {n v : Nat} {b : Bool} (hn : n ≤ 8) (hv : v < n) (h : wX_block_24 post (ce_li b v) (nI (v + 1)) (nI n) f_m f_mask f_size f_workCount f_acceptedCount f_stepCount a_state a_formula a_work a_accepted a_stepLiteral a_stepEliminates a_stepStart a_trail) : wpX_block post (nI n, f_m, f_mask, f_size, f_workCount, f_acceptedCount, f_stepCount, a_state, a_formula, a_work, a_accepted, a_stepLiteral, a_stepEliminates, a_stepStart, a_trail) (ce_li b v) := by
  refine br_f (ce_li_ne v (by omega) b) (xw_inRange (ce_br (fun y => (y (ce_li_in hn hv b)).elim) (fun _ => ?_)))
  cases b
  · rw [ce_li_f] at h ⊢
    refine br_t ?_ ?_
    · rw [← Int32.neg_zero, ← nI_0, sb_nle (by omega) (by omega)]; omega
    · rw [Int32.neg_neg]; exact h
  · rw [ce_li_t] at h ⊢
    exact br_f (nI_nle (by omega) (by omega)) h
theorem xw_blk_bad {post : Int32 → SX → Prop} {n : Nat} {x : Int32} (hx : x = 0 ∨ x < -nI n ∨ nI n < x) (h : post (-1) (nI n, f_m, f_mask, f_size, f_workCount, f_acceptedCount, f_stepCount, a_state, a_formula, a_work, a_accepted, a_stepLiteral, a_stepEliminates, a_stepStart, a_trail)) : wpX_block post (nI n, f_m, f_mask, f_size, f_workCount, f_acceptedCount, f_stepCount, a_state, a_formula, a_work, a_accepted, a_stepLiteral, a_stepEliminates, a_stepStart, a_trail) x :=
  br_c (fun _ => h) (fun z => xw_inRange (ce_br (fun _ => h) (fun y => (hx.elim z (fun w => w.elim y.1 y.2)).elim)))
theorem xw_blk_ref {post : Int32 → SX → Prop} {n v st : Nat} {b : Bool} (hn : n ≤ 8) (hv : v < n) (hs : st ≤ 16) (h3 : a_state (v + 1) = 3 → post (-6) (nI n, f_m, f_mask, f_size, f_workCount, f_acceptedCount, nI st, a_state, a_formula, a_work, a_accepted, a_stepLiteral, a_stepEliminates, a_stepStart, a_trail)) (h1 : ¬ a_state (v + 1) = 3 → a_state (v + 1) = 1 → post (-5) (nI n, f_m, f_mask, f_size, f_workCount, f_acceptedCount, nI st, a_state, a_formula, a_work, a_accepted, a_stepLiteral, a_stepEliminates, a_stepStart, a_trail))
    (hf : ¬ a_state (v + 1) = 3 → ¬ a_state (v + 1) = 1 → 16 ≤ st → post (-4) (nI n, f_m, f_mask, f_size, f_workCount, f_acceptedCount, nI st, a_state, a_formula, a_work, a_accepted, a_stepLiteral, a_stepEliminates, a_stepStart, a_trail)) (h0 : ¬ (¬ a_state (v + 1) = 3 ∧ ¬ a_state (v + 1) = 1 ∧ st < 16)) : wpX_block post (nI n, f_m, f_mask, f_size, f_workCount, f_acceptedCount, nI st, a_state, a_formula, a_work, a_accepted, a_stepLiteral, a_stepEliminates, a_stepStart, a_trail) (ce_li b v) := by
  refine xw_blk24 hn hv ?_
  unfold wX_block_24
  exact xw_refusal (by omega) hs (fun a => br_f (by decide) (h3 a)) (fun a c => br_f (by decide) (h1 a c)) (fun a c d => br_f (by decide) (hf a c d)) (fun a c d => (h0 ⟨a, c, d⟩).elim)
theorem xw_block {n z st t0 v : Nat} {b : Bool} (hn : n ≤ 8) (hv : v < n) (hz : z ≤ 16) (hst : st < 16) (h3 : ¬ a_state (v + 1) = 3) (h1 : ¬ a_state (v + 1) = 1) (ht : a_stepStart st = nI t0) (ht2 : t0 ≤ 16 * st) (hF : ce_F n (ce_ls a_formula z)) : ∃ (w : Nat) (W : Nat → Int32) (k : Nat) (T : Nat → Int32), w + k = z ∧
    ce_ls W w = (ce_ls a_formula z).filter (fun c => ce_d (¬ ce_Blk (ce_ls a_formula z) b v c)) ∧ ce_sg T t0 k = (ce_ls a_formula z).filter (fun c => ce_d (ce_Blk (ce_ls a_formula z) b v c)) ∧ (∀ j, j < t0 → T j = a_trail j) ∧
    (k = 0 → ∀ post : Int32 → SX → Prop, post 0 (nI n, f_m, f_mask, nI z, nI w, f_acceptedCount, nI st, a_state, a_formula, W, a_accepted, a_stepLiteral, a_stepEliminates, a_stepStart, T) → wpX_block post (nI n, f_m, f_mask, nI z, f_workCount, f_acceptedCount, nI st, a_state, a_formula, a_work, a_accepted, a_stepLiteral, a_stepEliminates, a_stepStart, a_trail) (ce_li b v)) ∧
    (k ≠ 0 → ∃ F : Nat → Int32, (ce_ls F w).Pairwise (· < ·) ∧ (ce_ls F w).Perm (ce_ls W w) ∧ ∀ post : Int32 → SX → Prop, post (nI k) (nI n, f_m, f_mask, nI w, nI w, f_acceptedCount, nI (st + 1), upd a_state (v + 1) 2, F, W, a_accepted, upd a_stepLiteral st (ce_li b v), upd a_stepEliminates st 0, upd a_stepStart (st + 1) (nI (t0 + k)), T) → wpX_block post (nI n, f_m, f_mask, nI z, f_workCount, f_acceptedCount, nI st, a_state, a_formula, a_work, a_accepted, a_stepLiteral, a_stepEliminates, a_stepStart, a_trail) (ce_li b v)) := by
  have hv8 : v < 8 := by omega
  obtain ⟨w, W, k, T, g1, g2, g3, g4, g5⟩ := xw_block77 (f_n := nI n) (f_m := f_m) (f_mask := f_mask) (f_acceptedCount := f_acceptedCount) (f_stepCount := nI st) (a_state := a_state) (a_formula := a_formula) (a_work := a_work) (a_accepted := a_accepted) (a_stepLiteral := a_stepLiteral) (a_stepEliminates := a_stepEliminates) (a_stepStart := a_stepStart) (a_trail := a_trail) (b := b) hn hv8 hz (show t0 ≤ 240 by omega) hF (ce_li b v) (nI (v + 1))
  have pre : ∀ post : Int32 → SX → Prop, (∀ m, wX_block_77 post (ce_li b v) (nI (v + 1)) (ce_lb (ce_li b v)) (ce_lb (ce_li (!b) v)) (nI t0) (nI n) f_m f_mask (nI z) f_acceptedCount (nI st) (m + 1) (nI (t0 + k)) (nI z) (nI w) a_state a_formula W a_accepted a_stepLiteral a_stepEliminates a_stepStart T) → wpX_block post (nI n, f_m, f_mask, nI z, f_workCount, f_acceptedCount, nI st, a_state, a_formula, a_work, a_accepted, a_stepLiteral, a_stepEliminates, a_stepStart, a_trail) (ce_li b v) := by
    intro post h
    refine xw_blk24 hn hv ?_
    unfold wX_block_24
    refine xw_refusal (by omega) (by omega) (fun a => (h3 a).elim) (fun _ a => (h1 a).elim) (fun _ _ a => absurd a (by omega)) (fun _ _ _ => br_t rfl ?_)
    refine xw_bitOf (xw_bothOf (nm_r (ce_bo_x v hv8 b) ⟨vp_in_nI (by omega) (by omega), ?_⟩))
    rw [nI_clamp (show st < 2 ^ 31 by omega)]
    exact nm_r ht (g5 post h)
  refine ⟨w, W, k, T, g1, g2, g3, g4, fun hk post h => pre post (fun m => ?_), fun hk => ?_⟩
  · subst hk
    refine br_t (nI_le (Nat.le_refl _) (by omega)) (br_t (nI_le (Nat.le_refl _) (by omega)) ?_)
    rw [Nat.add_zero, Int32.sub_self]
    exact h
  · have hd : (ce_ls W w).Nodup := by
      rw [g2]
      exact (ce_srt_nodup hF.1).sublist List.filter_sublist
    obtain ⟨F, f1, f2, f3⟩ := xw_install (f_n := nI n) (f_m := f_m) (f_mask := f_mask) (f_size := nI z) (f_acceptedCount := f_acceptedCount) (f_stepCount := nI (st + 1)) (a_state := upd a_state (v + 1) 2) (a_formula := a_formula) (a_work := W) (a_accepted := a_accepted) (a_stepLiteral := upd a_stepLiteral st (ce_li b v)) (a_stepEliminates := upd a_stepEliminates st 0) (a_stepStart := upd a_stepStart (st + 1) (nI (t0 + k))) (a_trail := T) (w := w) (by omega) hd
    refine ⟨F, f1, f2, fun post h => pre post (fun m => ?_)⟩
    refine br_t (nI_le (Nat.le_refl _) (by omega)) (br_f (nI_ge (by omega) (by omega)) ⟨vp_in_nI (by omega) (by omega), ?_⟩)
    rw [nI_clamp (show v + 1 < 2 ^ 31 by omega), pk_sub (by omega), Nat.add_sub_cancel_left]
    exact nm_e (xw_pushStep hst (f3 _ h))
end
end
section
/-! X: eliminate -/
theorem ce_occ {v : Nat} (hv : v < 8) : ∀ L : List Int32, (∀ c, c ∈ L → ce_NT c) → L.countP (fun c => ce_d (¬ c &&& ce_bo (nI (v + 1)) = 0)) = L.countP (fun c => bt c v) + L.countP (fun c => bt c (v + 8)) := by
  intro L
  induction L with
  | nil => intro _; rfl
  | cons c L ih =>
    intro h
    have h1 := ih (fun d hd => h d (List.mem_cons_of_mem _ hd))
    have h2 := h c (List.mem_cons_self ..)
    rw [List.countP_cons, List.countP_cons, List.countP_cons, h1]
    have e := ce_boN hv c
    cases e1 : bt c v
    · cases e2 : bt c (v + 8)
      · rw [e1, e2] at e
        rw [ce_df (fun z => by rcases e.mp z with w | w <;> exact absurd w (by decide))]
        simp
      · rw [e2] at e
        rw [ce_dt (e.mpr (Or.inr rfl))]
        simp; omega
    · cases e2 : bt c (v + 8)
      · rw [e1] at e
        rw [ce_dt (e.mpr (Or.inl rfl))]
        simp; omega
      · exact (h2 v hv e1 e2).elim
theorem ce_pq : ∀ p, p < 9 → ∀ q, q < 9 → p + q ≤ 8 → p * q ≤ 16 := by decide +kernel
def ce_nv (v : Nat) (c : Int32) : Bool := !bt c v && !bt c (v + 8)
theorem ce_nv_t {v : Nat} {c : Int32} (h1 : bt c v = false) (h2 : bt c (v + 8) = false) : ce_nv v c = true := by unfold ce_nv; rw [h1, h2]; rfl
theorem ce_neg {v : Nat} (hv : v < 8) {c : Int32} (h1 : bt c v = true) (h2 : bt c (v + 8) = false) : ce_bo (nI (v + 1)) &&& (c ^^^ (-1)) = ce_lb (ce_li false v) := by
  apply b_ext
  intro i hi
  rw [b_and, ce_not _ hi, ce_bo_b v hv i hi, ce_li_b v hv false i hi, ce_po_f]
  by_cases k : i = v
  · subst k
    rw [h1, decide_eq_false (show ¬ i = i + 8 by omega)]; simp
  · by_cases k2 : i = v + 8
    · subst k2
      rw [h2, decide_eq_true (Or.inr rfl), decide_eq_true (p := v + 8 = v + 8) rfl]; simp
    · rw [decide_eq_false k2, decide_eq_false (show ¬ (i = v ∨ i = v + 8) by omega)]; simp
/-- the resolvents of x with the clauses of K -/
def ce_RR (v : Nat) (x : Int32) (K : List Int32) (d : Int32) : Prop := ∃ y, y ∈ K ∧ bt y (v + 8) = true ∧ d = ce_rs v x y ∧ ce_NT d
/-- what the first clauses K of L give -/
def ce_Rp (L : List Int32) (v : Nat) (K : List Int32) (c : Int32) : Prop :=
  (c ∈ K ∧ bt c v = false ∧ bt c (v + 8) = false) ∨ ∃ x y, x ∈ K ∧ y ∈ L ∧ bt x v = true ∧ bt y (v + 8) = true ∧ c = ce_rs v x y ∧ ce_NT c
theorem ce_mem_s {a : Nat → Int32} {i : Nat} {c : Int32} : c ∈ ce_ls a (i + 1) ↔ c ∈ ce_ls a i ∨ c = a i := by
  rw [ce_ls_s, List.mem_append, List.mem_singleton]
theorem ce_RR_t {v : Nat} {x : Int32} {a : Nat → Int32} {j : Nat} (S : Int32 → Prop) (h : bt (a j) (v + 8) = true) (hn : ce_NT (ce_rs v x (a j))) (d : Int32) : ((S d ∨ ce_RR v x (ce_ls a j) d) ∨ d = ce_rs v x (a j)) ↔ (S d ∨ ce_RR v x (ce_ls a (j + 1)) d) := by
  constructor
  · rintro ((k | ⟨y, hy, k⟩) | k)
    · exact Or.inl k
    · exact Or.inr ⟨y, ce_mem_s.mpr (Or.inl hy), k⟩
    · exact Or.inr ⟨a j, ce_ls_at (by omega), h, k, by rw [k]; exact hn⟩
  · rintro (k | ⟨y, hy, k1, k2, k3⟩)
    · exact Or.inl (Or.inl k)
    · rcases ce_mem_s.mp hy with z | z
      · exact Or.inl (Or.inr ⟨y, z, k1, k2, k3⟩)
      · subst z; exact Or.inr k2
theorem ce_RR_f {v : Nat} {x : Int32} {a : Nat → Int32} {j : Nat} (S : Int32 → Prop) (h : ¬ (bt (a j) (v + 8) = true ∧ ce_NT (ce_rs v x (a j)))) (d : Int32) : (S d ∨ ce_RR v x (ce_ls a j) d) ↔ (S d ∨ ce_RR v x (ce_ls a (j + 1)) d) := by
  constructor
  · rintro (k | ⟨y, hy, k⟩)
    · exact Or.inl k
    · exact Or.inr ⟨y, ce_mem_s.mpr (Or.inl hy), k⟩
  · rintro (k | ⟨y, hy, k1, k2, k3⟩)
    · exact Or.inl k
    · rcases ce_mem_s.mp hy with z | z
      · exact Or.inr ⟨y, z, k1, k2, k3⟩
      · subst z
        subst k2
        exact (h ⟨k1, k3⟩).elim
theorem ce_Rp_nov {L : List Int32} {v : Nat} {a : Nat → Int32} {i : Nat} (h1 : bt (a i) v = false) (h2 : bt (a i) (v + 8) = false) (d : Int32) : (ce_Rp L v (ce_ls a i) d ∨ d = a i) ↔ ce_Rp L v (ce_ls a (i + 1)) d := by
  constructor
  · rintro ((⟨k, k'⟩ | ⟨x, y, hx, k⟩) | k)
    · exact Or.inl ⟨ce_mem_s.mpr (Or.inl k), k'⟩
    · exact Or.inr ⟨x, y, ce_mem_s.mpr (Or.inl hx), k⟩
    · subst k; exact Or.inl ⟨ce_ls_at (by omega), h1, h2⟩
  · rintro (⟨k, k'⟩ | ⟨x, y, hx, hy, k1, k2⟩)
    · rcases ce_mem_s.mp k with z | z
      · exact Or.inl (Or.inl ⟨z, k'⟩)
      · exact Or.inr z
    · rcases ce_mem_s.mp hx with z | z
      · exact Or.inl (Or.inr ⟨x, y, z, hy, k1, k2⟩)
      · subst z; rw [h1] at k1; exact absurd k1 (by decide)
theorem ce_Rp_pos {L : List Int32} {v : Nat} {a : Nat → Int32} {i : Nat} (h1 : bt (a i) v = true) (d : Int32) : (ce_Rp L v (ce_ls a i) d ∨ ce_RR v (a i) L d) ↔ ce_Rp L v (ce_ls a (i + 1)) d := by
  constructor
  · rintro ((⟨k, k'⟩ | ⟨x, y, hx, k⟩) | ⟨y, hy, k1, k2, k3⟩)
    · exact Or.inl ⟨ce_mem_s.mpr (Or.inl k), k'⟩
    · exact Or.inr ⟨x, y, ce_mem_s.mpr (Or.inl hx), k⟩
    · exact Or.inr ⟨a i, y, ce_ls_at (by omega), hy, h1, k1, k2, k3⟩
  · rintro (⟨k, k'⟩ | ⟨x, y, hx, hy, k1, k2, k3, k4⟩)
    · rcases ce_mem_s.mp k with z | z
      · exact Or.inl (Or.inl ⟨z, k'⟩)
      · subst z; rw [h1] at k'; exact absurd k'.1 (by decide)
    · rcases ce_mem_s.mp hx with z | z
      · exact Or.inl (Or.inr ⟨x, y, z, hy, k1, k2, k3, k4⟩)
      · subst z; exact Or.inr ⟨y, hy, k2, k3, k4⟩
theorem ce_Rp_neg {L : List Int32} {v : Nat} {a : Nat → Int32} {i : Nat} (h1 : bt (a i) v = false) (h2 : bt (a i) (v + 8) = true) (d : Int32) : ce_Rp L v (ce_ls a i) d ↔ ce_Rp L v (ce_ls a (i + 1)) d := by
  constructor
  · rintro (⟨k, k'⟩ | ⟨x, y, hx, k⟩)
    · exact Or.inl ⟨ce_mem_s.mpr (Or.inl k), k'⟩
    · exact Or.inr ⟨x, y, ce_mem_s.mpr (Or.inl hx), k⟩
  · rintro (⟨k, k'⟩ | ⟨x, y, hx, hy, k1, k2⟩)
    · rcases ce_mem_s.mp k with z | z
      · exact Or.inl ⟨z, k'⟩
      · subst z; rw [h2] at k'; exact absurd k'.2 (by decide)
    · rcases ce_mem_s.mp hx with z | z
      · exact Or.inr ⟨x, y, z, hy, k1, k2⟩
      · subst z; rw [h1] at k1; exact absurd k1 (by decide)
section
variable {f_n f_m f_mask f_size f_workCount f_acceptedCount f_stepCount : Int32} {a_state a_formula a_work a_accepted a_stepLiteral a_stepEliminates a_stepStart a_trail : Nat → Int32}
theorem xw_addRes {n z v w : Nat} (hn : n ≤ 8) (hv : v < 8) (hz : z ≤ 16) (hL : ∀ c, c ∈ ce_ls a_formula z → ce_C n c) {S : Int32 → Prop} {x : Int32} (hx : ce_C n x) (h1 : bt x v = true) (hS : ce_WK S (ce_ls a_work w)) (hb : w + (ce_ls a_formula z).countP (fun c => bt c (v + 8)) ≤ 32) :
    ∃ (w' : Nat) (W' : Nat → Int32), w' ≤ w + (ce_ls a_formula z).countP (fun c => bt c (v + 8)) ∧ ce_WK (fun d => S d ∨ ce_RR v x (ce_ls a_formula z) d) (ce_ls W' w') ∧
    ∀ post : SX → Prop, post (f_n, f_m, f_mask, nI z, nI w', f_acceptedCount, f_stepCount, a_state, a_formula, W', a_accepted, a_stepLiteral, a_stepEliminates, a_stepStart, a_trail) → wpX_addResolvents post (f_n, f_m, f_mask, nI z, nI w, f_acceptedCount, f_stepCount, a_state, a_formula, a_work, a_accepted, a_stepLiteral, a_stepEliminates, a_stepStart, a_trail) x (ce_bo (nI (v + 1))) := by
  have h2 : bt x (v + 8) = false := ce_nt (fun z => hx.2 v hv h1 z)
  obtain ⟨s, hI, hq⟩ := ce_lpX (σ := Nat × (Nat → Int32)) (Q := SX → Prop)
    (fun q m j s => wX_addResolvents_9 q x (ce_bo (nI (v + 1))) (ce_lb (ce_li false v)) m (nI j) f_n f_m f_mask (nI z) (nI s.1) f_acceptedCount f_stepCount a_state a_formula s.2 a_accepted a_stepLiteral a_stepEliminates a_stepStart a_trail)
    (fun j s => s.1 ≤ w + (ce_ls a_formula j).countP (fun c => bt c (v + 8)) ∧ ce_WK (fun d => S d ∨ ce_RR v x (ce_ls a_formula j) d) (ce_ls s.2 s.1)) z
    (by
      rintro j ⟨k, V⟩ hj ⟨g1, g2⟩
      dsimp only at g1 g2
      have ej : (nI j).toNatClampNeg = j := nI_clamp (by omega)
      have hy := hL _ (ce_ls_at hj)
      by_cases hb2 : bt (a_formula j) (v + 8) = true
      · have ec : (ce_ls a_formula (j + 1)).countP (fun c => bt c (v + 8)) = (ce_ls a_formula j).countP (fun c => bt c (v + 8)) + 1 := ce_cnt_t hb2
        have hle := ce_cnt_le (fun c => bt c (v + 8)) a_formula (show j + 1 ≤ z from hj)
        have hok : ce_OK n (ce_rs v x (a_formula j)) := ce_rs_OK hv hx.1 hy.1
        by_cases ht : ce_NT (ce_rs v x (a_formula j))
        · obtain ⟨w', W', f1, f2, f3⟩ := xw_addMinimal (f_n := f_n) (f_m := f_m) (f_mask := f_mask) (f_size := nI z) (f_acceptedCount := f_acceptedCount) (f_stepCount := f_stepCount) (a_state := a_state) (a_formula := a_formula) (a_work := V) (a_accepted := a_accepted) (a_stepLiteral := a_stepLiteral) (a_stepEliminates := a_stepEliminates) (a_stepStart := a_stepStart) (a_trail := a_trail) (w := k) (by omega) (ce_rs v x (a_formula j)) g2
          refine ⟨(w', W'), ⟨by dsimp only; omega, ce_WK_congr (ce_RR_t S hb2 ht) f2⟩, fun q m h => ?_⟩
          dsimp only at h ⊢
          refine br_f (nI_ge hj (by omega)) ⟨vp_in_nI (by omega) (by omega), ?_⟩
          rw [ej]
          refine br_f ((ce_hasN hv false _).mpr hb2) ⟨vp_in_nI (by omega) (by omega), nm_e ?_⟩
          exact xw_isTautology hn hok (ce_br (fun _ => f3 _ (nm_r (nI_1 j) h)) (fun y => (y ht).elim))
        · refine ⟨(k, V), ⟨by dsimp only; omega, ce_WK_congr (ce_RR_f S (fun z => ht z.2)) g2⟩, fun q m h => ?_⟩
          dsimp only at h ⊢
          refine br_f (nI_ge hj (by omega)) ⟨vp_in_nI (by omega) (by omega), ?_⟩
          rw [ej]
          refine br_f ((ce_hasN hv false _).mpr hb2) ⟨vp_in_nI (by omega) (by omega), nm_e ?_⟩
          exact xw_isTautology hn hok (ce_br (fun y => (y ht).elim) (fun _ => nm_r (nI_1 j) h))
      · have ec : (ce_ls a_formula (j + 1)).countP (fun c => bt c (v + 8)) = (ce_ls a_formula j).countP (fun c => bt c (v + 8)) := ce_cnt_f (ce_nt hb2)
        refine ⟨(k, V), ⟨by dsimp only; omega, ce_WK_congr (ce_RR_f S (fun z => hb2 z.1)) g2⟩, fun q m h => ?_⟩
        dsimp only at h ⊢
        refine br_f (nI_ge hj (by omega)) ⟨vp_in_nI (by omega) (by omega), ?_⟩
        rw [ej]
        exact br_t ((ce_has hv false _).mpr (ce_nt hb2)) (nm_r (nI_1 j) h))
    0 (Nat.zero_le _) (w, a_work) ⟨Nat.le_refl _, ce_WK_congr (fun d => ⟨fun k => Or.inl k, fun k => k.elim id (fun ⟨y, hy, _⟩ => (List.not_mem_nil hy).elim)⟩) hS⟩
  obtain ⟨k, V⟩ := s
  refine ⟨k, V, hI.1, hI.2, fun post h => nm_r (ce_neg hv h1 h2) (hq post (fun m => ?_))⟩
  exact br_t (nI_le (Nat.le_refl _) (by omega)) h
theorem xw_resolve {n z v : Nat} (hn : n ≤ 8) (hv : v < 8) (hz : z ≤ 16) (hL : ∀ c, c ∈ ce_ls a_formula z → ce_C n c) (hb : (ce_ls a_formula z).countP (ce_nv v) + (ce_ls a_formula z).countP (fun c => bt c v) * (ce_ls a_formula z).countP (fun c => bt c (v + 8)) ≤ 32) :
    ∃ (w' : Nat) (W' : Nat → Int32), w' ≤ 32 ∧ ce_WK (ce_Re (ce_ls a_formula z) v) (ce_ls W' w') ∧
    ∀ post : SX → Prop, post (f_n, f_m, f_mask, nI z, nI w', f_acceptedCount, f_stepCount, a_state, a_formula, W', a_accepted, a_stepLiteral, a_stepEliminates, a_stepStart, a_trail) → wpX_resolveAway post (f_n, f_m, f_mask, nI z, f_workCount, f_acceptedCount, f_stepCount, a_state, a_formula, a_work, a_accepted, a_stepLiteral, a_stepEliminates, a_stepStart, a_trail) (nI (v + 1)) := by
  obtain ⟨s, hI, hq⟩ := ce_lpX (σ := Nat × (Nat → Int32)) (Q := SX → Prop)
    (fun q m i s => wX_resolveAway_20 q (ce_bo (nI (v + 1))) (ce_lb (ce_li true v)) m (nI i) f_n f_m f_mask (nI z) (nI s.1) f_acceptedCount f_stepCount a_state a_formula s.2 a_accepted a_stepLiteral a_stepEliminates a_stepStart a_trail)
    (fun i s => s.1 ≤ (ce_ls a_formula i).countP (ce_nv v) + (ce_ls a_formula i).countP (fun c => bt c v) * (ce_ls a_formula z).countP (fun c => bt c (v + 8)) ∧ ce_WK (ce_Rp (ce_ls a_formula z) v (ce_ls a_formula i)) (ce_ls s.2 s.1)) z
    (by
      rintro i ⟨k, V⟩ hi ⟨g1, g2⟩
      dsimp only at g1 g2
      have ei : (nI i).toNatClampNeg = i := nI_clamp (by omega)
      have hy := hL _ (ce_ls_at hi)
      have l1 := ce_cnt_le (ce_nv v) a_formula (show i + 1 ≤ z from hi)
      have l2 := Nat.mul_le_mul_right ((ce_ls a_formula z).countP (fun c => bt c (v + 8))) (ce_cnt_le (fun c => bt c v) a_formula (show i + 1 ≤ z from hi))
      by_cases p : bt (a_formula i) v = true
      · have ec : (ce_ls a_formula (i + 1)).countP (fun c => bt c v) = (ce_ls a_formula i).countP (fun c => bt c v) + 1 := ce_cnt_t p
        have l3 := ce_cnt_le (ce_nv v) a_formula (show i ≤ i + 1 by omega)
        rw [ec, Nat.add_mul, Nat.one_mul] at l2
        obtain ⟨w', W', f1, f2, f3⟩ := xw_addRes (f_n := f_n) (f_m := f_m) (f_mask := f_mask) (f_acceptedCount := f_acceptedCount) (f_stepCount := f_stepCount) (a_state := a_state) (a_formula := a_formula) (a_work := V) (a_accepted := a_accepted) (a_stepLiteral := a_stepLiteral) (a_stepEliminates := a_stepEliminates) (a_stepStart := a_stepStart) (a_trail := a_trail) (w := k) hn hv hz hL hy p g2 (by omega)
        refine ⟨(w', W'), ⟨?_, ce_WK_congr (ce_Rp_pos p) f2⟩, fun q m h => ?_⟩
        · dsimp only
          rw [ec, Nat.add_mul, Nat.one_mul]
          omega
        · dsimp only at h ⊢
          refine br_f (nI_ge hi (by omega)) ⟨vp_in_nI (by omega) (by omega), ?_⟩
          rw [ei]
          refine nm_e (br_f ((ce_boN hv _).mpr (Or.inl p)) (br_f ((ce_hasN hv true _).mpr p) (f3 _ (nm_r (nI_1 i) h))))
      · have ec : (ce_ls a_formula (i + 1)).countP (fun c => bt c v) = (ce_ls a_formula i).countP (fun c => bt c v) := ce_cnt_f (ce_nt p)
        by_cases q : bt (a_formula i) (v + 8) = true
        · have ec2 : (ce_ls a_formula (i + 1)).countP (ce_nv v) = (ce_ls a_formula i).countP (ce_nv v) := ce_cnt_f (by unfold ce_nv; rw [q]; simp)
          refine ⟨(k, V), ⟨by dsimp only; rw [ec, ec2]; exact g1, ce_WK_congr (ce_Rp_neg (ce_nt p) q) g2⟩, fun q' m h => ?_⟩
          dsimp only at h ⊢
          refine br_f (nI_ge hi (by omega)) ⟨vp_in_nI (by omega) (by omega), ?_⟩
          rw [ei]
          refine nm_e (br_f ((ce_boN hv _).mpr (Or.inr q)) (br_t ((ce_has hv true _).mpr (ce_nt p)) (nm_r (nI_1 i) h)))
        · have ec2 : (ce_ls a_formula (i + 1)).countP (ce_nv v) = (ce_ls a_formula i).countP (ce_nv v) + 1 := ce_cnt_t (ce_nv_t (ce_nt p) (ce_nt q))
          rw [ec] at l2
          obtain ⟨w', W', f1, f2, f3⟩ := xw_addMinimal (f_n := f_n) (f_m := f_m) (f_mask := f_mask) (f_size := nI z) (f_acceptedCount := f_acceptedCount) (f_stepCount := f_stepCount) (a_state := a_state) (a_formula := a_formula) (a_work := V) (a_accepted := a_accepted) (a_stepLiteral := a_stepLiteral) (a_stepEliminates := a_stepEliminates) (a_stepStart := a_stepStart) (a_trail := a_trail) (w := k) (by omega) (a_formula i) g2
          refine ⟨(w', W'), ⟨by dsimp only; rw [ec, ec2]; omega, ce_WK_congr (ce_Rp_nov (ce_nt p) (ce_nt q)) f2⟩, fun q' m h => ?_⟩
          dsimp only at h ⊢
          refine br_f (nI_ge hi (by omega)) ⟨vp_in_nI (by omega) (by omega), ?_⟩
          rw [ei]
          refine nm_e (br_t ((ce_bo_z hv _).mpr ⟨ce_nt p, ce_nt q⟩) (f3 _ (nm_r (nI_1 i) h))))
    0 (Nat.zero_le _) (0, a_work) ⟨Nat.zero_le _, ce_WK_nil (fun c h => by
      rcases h with ⟨h, _⟩ | ⟨x, y, h, _⟩
      · exact List.not_mem_nil h
      · exact List.not_mem_nil h)⟩
  obtain ⟨k, V⟩ := s
  refine ⟨k, V, Nat.le_trans hI.1 hb, hI.2, fun post h => ?_⟩
  unfold wpX_resolveAway
  dsimp only
  refine xw_bothOf (xw_bitOf (hq post (fun m => ?_)))
  exact br_t (nI_le (Nat.le_refl _) (by omega)) h
theorem xw_savePos {z v st t0 : Nat} (hv : v < 8) (hz : z ≤ 16) (hst : st < 16) (ht : a_stepStart st = nI t0) (ht2 : t0 ≤ 16 * st) : ∃ (k : Nat) (T : Nat → Int32), k ≤ z ∧ ce_sg T t0 k = (ce_ls a_formula z).filter (fun c => bt c v) ∧ (∀ j, j < t0 → T j = a_trail j) ∧
    ∀ post : Int32 → SX → Prop, post (nI (t0 + k)) (f_n, f_m, f_mask, nI z, f_workCount, f_acceptedCount, nI st, a_state, a_formula, a_work, a_accepted, a_stepLiteral, a_stepEliminates, a_stepStart, T) → wpX_savePositive post (f_n, f_m, f_mask, nI z, f_workCount, f_acceptedCount, nI st, a_state, a_formula, a_work, a_accepted, a_stepLiteral, a_stepEliminates, a_stepStart, a_trail) (nI (v + 1)) := by
  obtain ⟨s, hI, hq⟩ := ce_lpX (σ := Nat × (Nat → Int32)) (Q := Int32 → SX → Prop)
    (fun q m i s => wX_savePositive_19 q (ce_lb (ce_li true v)) f_n f_m f_mask (nI z) f_workCount f_acceptedCount (nI st) m (nI (t0 + s.1)) (nI i) a_state a_formula a_work a_accepted a_stepLiteral a_stepEliminates a_stepStart s.2)
    (fun i s => s.1 ≤ i ∧ ce_sg s.2 t0 s.1 = (ce_ls a_formula i).filter (fun c => bt c v) ∧ ∀ j, j < t0 → s.2 j = a_trail j) z
    (by
      rintro i ⟨k, T⟩ hi ⟨g1, g2, g3⟩
      dsimp only at g1 g2 g3
      have ei : (nI i).toNatClampNeg = i := nI_clamp (by omega)
      by_cases p : bt (a_formula i) v = true
      · refine ⟨(k + 1, upd T (t0 + k) (a_formula i)), ⟨by dsimp only; omega, ?_, fun j hj => ?_⟩, fun q m h => ?_⟩
        · dsimp only
          rw [ce_fil_t (p := fun c => bt c v) p, ce_sg_push, g2]
        · dsimp only
          rw [pk_un (by omega)]
          exact g3 j hj
        · dsimp only at h ⊢
          refine br_f (nI_ge hi (by omega)) ⟨vp_in_nI (by omega) (by omega), ?_⟩
          rw [ei, nI_clamp (show t0 + k < 2 ^ 31 by omega)]
          exact br_f ((ce_hasN hv true _).mpr p) (nm_r (nI_1 (t0 + k)) ⟨vp_in_nI (by omega) (by omega), vp_in_nI (by omega) (by omega), nm_e (nm_r (nI_1 i) h)⟩)
      · refine ⟨(k, T), ⟨by dsimp only; omega, ?_, g3⟩, fun q m h => ?_⟩
        · rw [ce_fil_f (p := fun c => bt c v) (ce_nt p)]; exact g2
        · dsimp only at h ⊢
          refine br_f (nI_ge hi (by omega)) ⟨vp_in_nI (by omega) (by omega), ?_⟩
          rw [ei]
          exact br_t ((ce_has hv true _).mpr (ce_nt p)) (nm_r (nI_1 i) h))
    0 (Nat.zero_le _) (0, a_trail) ⟨Nat.le_refl _, rfl, fun _ _ => rfl⟩
  obtain ⟨k, T⟩ := s
  refine ⟨k, T, hI.1, hI.2.1, hI.2.2, fun post h => ?_⟩
  unfold wpX_savePositive
  dsimp only
  refine xw_bitOf ⟨vp_in_nI (by omega) (by omega), ?_⟩
  rw [nI_clamp (show st < 2 ^ 31 by omega)]
  exact nm_r ht (hq post (fun m => br_t (nI_le (Nat.le_refl _) (by omega)) h))
theorem xw_el_bad {post : Int32 → SX → Prop} {n : Nat} {x : Int32} (hx : x < 1 ∨ nI n < x) (h : post (-1) (nI n, f_m, f_mask, f_size, f_workCount, f_acceptedCount, f_stepCount, a_state, a_formula, a_work, a_accepted, a_stepLiteral, a_stepEliminates, a_stepStart, a_trail)) : wpX_eliminate post (nI n, f_m, f_mask, f_size, f_workCount, f_acceptedCount, f_stepCount, a_state, a_formula, a_work, a_accepted, a_stepLiteral, a_stepEliminates, a_stepStart, a_trail) x := by
  unfold wpX_eliminate
  dsimp only
  exact xw_isVariable (ce_br (fun _ => h) (fun y => (hx.elim y.1 y.2).elim))
theorem xw_el_ref {post : Int32 → SX → Prop} {n v st : Nat} (hn : n ≤ 8) (hv : v < n) (hs : st ≤ 16) (h3 : a_state (v + 1) = 3 → post (-6) (nI n, f_m, f_mask, f_size, f_workCount, f_acceptedCount, nI st, a_state, a_formula, a_work, a_accepted, a_stepLiteral, a_stepEliminates, a_stepStart, a_trail)) (h1 : ¬ a_state (v + 1) = 3 → a_state (v + 1) = 1 → post (-5) (nI n, f_m, f_mask, f_size, f_workCount, f_acceptedCount, nI st, a_state, a_formula, a_work, a_accepted, a_stepLiteral, a_stepEliminates, a_stepStart, a_trail))
    (hf : ¬ a_state (v + 1) = 3 → ¬ a_state (v + 1) = 1 → 16 ≤ st → post (-4) (nI n, f_m, f_mask, f_size, f_workCount, f_acceptedCount, nI st, a_state, a_formula, a_work, a_accepted, a_stepLiteral, a_stepEliminates, a_stepStart, a_trail)) (h0 : ¬ (¬ a_state (v + 1) = 3 ∧ ¬ a_state (v + 1) = 1 ∧ st < 16)) : wpX_eliminate post (nI n, f_m, f_mask, f_size, f_workCount, f_acceptedCount, nI st, a_state, a_formula, a_work, a_accepted, a_stepLiteral, a_stepEliminates, a_stepStart, a_trail) (nI (v + 1)) := by
  unfold wpX_eliminate
  dsimp only
  refine xw_isVariable (ce_br (fun y => ?_) (fun y => ?_))
  · exact (y ⟨nI_nlt (b := 1) (by omega) (by omega), nI_nlt (by omega) (by omega)⟩).elim
  · exact xw_refusal (by omega) hs (fun a => br_f (by decide) (h3 a)) (fun a c => br_f (by decide) (h1 a c)) (fun a c d => br_f (by decide) (hf a c d)) (fun a c d => (h0 ⟨a, c, d⟩).elim)
theorem xw_el_many {post : Int32 → SX → Prop} {n z v st : Nat} (hn : n ≤ 8) (hv : v < n) (hz : z ≤ 16) (hst : st < 16) (h3 : ¬ a_state (v + 1) = 3) (h1 : ¬ a_state (v + 1) = 1) (ho : 8 < (ce_ls a_formula z).countP (fun c => ce_d (¬ c &&& ce_bo (nI (v + 1)) = 0))) (h : post (-7) (nI n, f_m, f_mask, nI z, f_workCount, f_acceptedCount, nI st, a_state, a_formula, a_work, a_accepted, a_stepLiteral, a_stepEliminates, a_stepStart, a_trail)) : wpX_eliminate post (nI n, f_m, f_mask, nI z, f_workCount, f_acceptedCount, nI st, a_state, a_formula, a_work, a_accepted, a_stepLiteral, a_stepEliminates, a_stepStart, a_trail) (nI (v + 1)) := by
  unfold wpX_eliminate
  dsimp only
  have hk := ce_cnt_k (fun c => ce_d (¬ c &&& ce_bo (nI (v + 1)) = 0)) a_formula z
  refine xw_isVariable (ce_br (fun y => ?_) (fun y => ?_))
  · exact (y ⟨nI_nlt (b := 1) (by omega) (by omega), nI_nlt (by omega) (by omega)⟩).elim
  · exact xw_refusal (by omega) (by omega) (fun a => (h3 a).elim) (fun _ c => (h1 c).elim) (fun _ _ d => absurd d (by omega)) (fun _ _ _ => br_t rfl (xw_occurrencesOf hz (br_f (nI_ge (a := 8) ho (by omega)) h)))
theorem xw_eliminate {n z v st t0 : Nat} (hn : n ≤ 8) (hv : v < n) (hz : z ≤ 16) (hst : st < 16) (h3 : ¬ a_state (v + 1) = 3) (h1 : ¬ a_state (v + 1) = 1) (ht : a_stepStart st = nI t0) (ht2 : t0 ≤ 16 * st) (hL : ∀ c, c ∈ ce_ls a_formula z → ce_C n c)
    (ho : (ce_ls a_formula z).countP (fun c => ce_d (¬ c &&& ce_bo (nI (v + 1)) = 0)) ≤ 8) : ∃ (w : Nat) (W : Nat → Int32), ce_WK (ce_Re (ce_ls a_formula z) v) (ce_ls W w) ∧
    (z < w → ∀ post : Int32 → SX → Prop, post (-7) (nI n, f_m, f_mask, nI z, nI w, f_acceptedCount, nI st, a_state, a_formula, W, a_accepted, a_stepLiteral, a_stepEliminates, a_stepStart, a_trail) → wpX_eliminate post (nI n, f_m, f_mask, nI z, f_workCount, f_acceptedCount, nI st, a_state, a_formula, a_work, a_accepted, a_stepLiteral, a_stepEliminates, a_stepStart, a_trail) (nI (v + 1))) ∧
    (w ≤ z → ∃ (k : Nat) (T F : Nat → Int32), k ≤ z ∧ ce_sg T t0 k = (ce_ls a_formula z).filter (fun c => bt c v) ∧ (∀ j, j < t0 → T j = a_trail j) ∧ (ce_ls F w).Pairwise (· < ·) ∧ (ce_ls F w).Perm (ce_ls W w) ∧
      ∀ post : Int32 → SX → Prop, post 1 (nI n, f_m, f_mask, nI w, nI w, f_acceptedCount, nI (st + 1), upd a_state (v + 1) 3, F, W, a_accepted, upd a_stepLiteral st (nI (v + 1)), upd a_stepEliminates st 1, upd a_stepStart (st + 1) (nI (t0 + k)), T) → wpX_eliminate post (nI n, f_m, f_mask, nI z, f_workCount, f_acceptedCount, nI st, a_state, a_formula, a_work, a_accepted, a_stepLiteral, a_stepEliminates, a_stepStart, a_trail) (nI (v + 1))) := by
  have hv8 : v < 8 := by omega
  have hsum := ce_occ hv8 (ce_ls a_formula z) (fun c hc => (hL c hc).2)
  have hb : (ce_ls a_formula z).countP (ce_nv v) + (ce_ls a_formula z).countP (fun c => bt c v) * (ce_ls a_formula z).countP (fun c => bt c (v + 8)) ≤ 32 := by
    have a1 := ce_cnt_k (ce_nv v) a_formula z
    have a2 := ce_pq ((ce_ls a_formula z).countP (fun c => bt c v)) (by omega) ((ce_ls a_formula z).countP (fun c => bt c (v + 8))) (by omega) (by omega)
    omega
  obtain ⟨w, W, g1, g2, g3⟩ := xw_resolve (f_n := nI n) (f_m := f_m) (f_mask := f_mask) (f_acceptedCount := f_acceptedCount) (f_stepCount := nI st) (a_state := a_state) (a_formula := a_formula) (a_work := a_work) (a_accepted := a_accepted) (a_stepLiteral := a_stepLiteral) (a_stepEliminates := a_stepEliminates) (a_stepStart := a_stepStart) (a_trail := a_trail) hn hv8 hz hL hb
  have hvc : (nI (v + 1)).toNatClampNeg = v + 1 := nI_clamp (by omega)
  have e8 : nI ((ce_ls a_formula z).countP (fun c => ce_d (¬ c &&& ce_bo (nI (v + 1)) = 0))) ≤ 8 := nI_le (b := 8) ho (by omega)
  refine ⟨w, W, g2, fun hw post h => ?_, fun hw => ?_⟩
  · unfold wpX_eliminate
    dsimp only
    refine xw_isVariable (ce_br (fun y => ?_) (fun y => ?_))
    · exact (y ⟨nI_nlt (b := 1) (by omega) (by omega), nI_nlt (by omega) (by omega)⟩).elim
    · refine xw_refusal (by omega) (by omega) (fun a => (h3 a).elim) (fun _ c => (h1 c).elim) (fun _ _ d => absurd d (by omega)) (fun _ _ _ => br_t rfl (xw_occurrencesOf hz (br_t e8 (g3 _ ?_))))
      exact br_f (nI_ge hw (by omega)) h
  · obtain ⟨k, T, f1, f2, f3, f4⟩ := xw_savePos (f_n := nI n) (f_m := f_m) (f_mask := f_mask) (f_workCount := nI w) (f_acceptedCount := f_acceptedCount) (a_state := a_state) (a_formula := a_formula) (a_work := W) (a_accepted := a_accepted) (a_stepLiteral := a_stepLiteral) (a_stepEliminates := a_stepEliminates) (a_stepStart := a_stepStart) (a_trail := a_trail) hv8 hz hst ht ht2
    obtain ⟨F, d1, d2, d3⟩ := xw_install (f_n := nI n) (f_m := f_m) (f_mask := f_mask) (f_size := nI z) (f_acceptedCount := f_acceptedCount) (f_stepCount := nI (st + 1)) (a_state := upd a_state (v + 1) 3) (a_formula := a_formula) (a_work := W) (a_accepted := a_accepted) (a_stepLiteral := upd a_stepLiteral st (nI (v + 1))) (a_stepEliminates := upd a_stepEliminates st 1) (a_stepStart := upd a_stepStart (st + 1) (nI (t0 + k))) (a_trail := T) (w := w) (by omega) g2.1
    refine ⟨k, T, F, f1, f2, f3, d1, d2, fun post h => ?_⟩
    unfold wpX_eliminate
    dsimp only
    refine xw_isVariable (ce_br (fun y => ?_) (fun y => ?_))
    · exact (y ⟨nI_nlt (b := 1) (by omega) (by omega), nI_nlt (by omega) (by omega)⟩).elim
    · refine xw_refusal (by omega) (by omega) (fun a => (h3 a).elim) (fun _ c => (h1 c).elim) (fun _ _ d => absurd d (by omega)) (fun _ _ _ => br_t rfl (xw_occurrencesOf hz (br_t e8 (g3 _ ?_))))
      refine br_t (nI_le hw (by omega)) (f4 _ ⟨vp_in_nI (by omega) (by omega), ?_⟩)
      rw [hvc]
      exact nm_e (xw_pushStep hst (d3 _ h))
end
end
section
/-! X: join, clause -/
theorem ce_or0 {x y : Int32} : x ||| y = 0 ↔ x = 0 ∧ y = 0 := by
  rw [ce_z, ce_z, ce_z]
  constructor
  · intro h
    refine ⟨fun i hi => ?_, fun i hi => ?_⟩
    · have := h i hi; rw [b_or] at this
      cases e : bt x i
      · rfl
      · rw [e] at this; simp at this
    · have := h i hi; rw [b_or] at this
      cases e : bt y i
      · rfl
      · rw [e] at this; simp at this
  · rintro ⟨h1, h2⟩ i hi
    rw [b_or, h1 i hi, h2 i hi]; rfl
def ce_rg (n : Nat) (x : Int32) : Prop := ¬ x < -nI n ∧ ¬ nI n < x
theorem ce_rg0 : ∀ n, n < 9 → (¬ (0 : Int32) < -nI n ∧ ¬ nI n < 0) := by decide +kernel
theorem ce_lb_OK {n : Nat} (hn : n ≤ 8) {x : Int32} (h : ce_rg n x) : ce_OK n (ce_lb x) := by
  by_cases h0 : x = 0
  · subst h0
    intro i hi e
    rw [show ce_lb 0 = 0 from rfl, b_0] at e
    exact absurd e (by decide)
  · obtain ⟨b, v, hv, rfl⟩ := ce_lit hn h0 h.1 h.2
    intro i hi e
    rw [ce_li_b v (by omega) b i hi] at e
    have e' : i = ce_po b v := of_decide_eq_true e
    cases b
    · rw [ce_po_f] at e'; omega
    · rw [ce_po_t] at e'; omega
theorem ce_OK_or {n : Nat} {x y : Int32} (hx : ce_OK n x) (hy : ce_OK n y) : ce_OK n (x ||| y) := by
  intro i hi e
  rw [b_or] at e
  cases f : bt x i
  · rw [f, Bool.false_or] at e; exact hy i hi e
  · exact hx i hi f
def ce_cd (a b c d : Int32) : Int32 := ((ce_lb a ||| ce_lb b) ||| ce_lb c) ||| ce_lb d
def ce_ok4 (n : Nat) (a b c d : Int32) : Prop := ¬ (a = 0 ∧ b = 0 ∧ c = 0 ∧ d = 0) ∧ ce_rg n a ∧ ce_rg n b ∧ ce_rg n c ∧ ce_rg n d
theorem ce_cd_OK {n : Nat} (hn : n ≤ 8) {a b c d : Int32} (h : ce_ok4 n a b c d) : ce_OK n (ce_cd a b c d) :=
  ce_OK_or (ce_OK_or (ce_OK_or (ce_lb_OK hn h.2.1) (ce_lb_OK hn h.2.2.1)) (ce_lb_OK hn h.2.2.2.1)) (ce_lb_OK hn h.2.2.2.2)
section
variable {f_n f_m f_mask f_size f_workCount f_acceptedCount f_stepCount : Int32} {a_state a_formula a_work a_accepted a_stepLiteral a_stepEliminates a_stepStart a_trail : Nat → Int32}
theorem xw_cl_bad {post : Int32 → SX → Prop} {n : Nat} {a b c d : Int32} (hb : ¬ ce_ok4 n a b c d) (h : post (-1) (nI n, f_m, f_mask, f_size, f_workCount, f_acceptedCount, f_stepCount, a_state, a_formula, a_work, a_accepted, a_stepLiteral, a_stepEliminates, a_stepStart, a_trail)) : wpX_clause post (nI n, f_m, f_mask, f_size, f_workCount, f_acceptedCount, f_stepCount, a_state, a_formula, a_work, a_accepted, a_stepLiteral, a_stepEliminates, a_stepStart, a_trail) a b c d := by
  refine br_c (fun _ => h) (fun z => ?_)
  refine xw_inRange (ce_br (fun _ => h) (fun y1 => xw_inRange (ce_br (fun _ => h) (fun y2 => xw_inRange (ce_br (fun _ => h) (fun y3 => xw_inRange (ce_br (fun _ => h) (fun y4 => ?_)))))))) 
  refine (hb ⟨fun w => z ?_, y1, y2, y3, y4⟩).elim
  rw [ce_or0, ce_or0, ce_or0]
  exact ⟨⟨⟨w.1, w.2.1⟩, w.2.2.1⟩, w.2.2.2⟩
theorem xw_cl {post : Int32 → SX → Prop} {n ac : Nat} {a b c d : Int32} (hn : n ≤ 8) (hac : ac ≤ 32) (hb : ce_ok4 n a b c d) (ht : ¬ ce_NT (ce_cd a b c d) → post (-2) (nI n, f_m, f_mask, f_size, f_workCount, nI ac, f_stepCount, a_state, a_formula, a_work, a_accepted, a_stepLiteral, a_stepEliminates, a_stepStart, a_trail)) (hto : ce_NT (ce_cd a b c d) → ce_tch n a_state (ce_cd a b c d) → post (-3) (nI n, f_m, f_mask, f_size, f_workCount, nI ac, f_stepCount, a_state, a_formula, a_work, a_accepted, a_stepLiteral, a_stepEliminates, a_stepStart, a_trail))
    (hf : ce_NT (ce_cd a b c d) → ¬ ce_tch n a_state (ce_cd a b c d) → 32 ≤ ac → post (-4) (nI n, f_m, f_mask, f_size, f_workCount, nI ac, f_stepCount, a_state, a_formula, a_work, a_accepted, a_stepLiteral, a_stepEliminates, a_stepStart, a_trail))
    (hj : ce_NT (ce_cd a b c d) → ¬ ce_tch n a_state (ce_cd a b c d) → ac < 32 → ∀ q : Int32 → SX → Prop, (∀ r u, post r u → q r u) → wpX_join q (nI n, f_m, f_mask, f_size, f_workCount, nI ac, f_stepCount, a_state, a_formula, a_work, a_accepted, a_stepLiteral, a_stepEliminates, a_stepStart, a_trail) (ce_cd a b c d)) : wpX_clause post (nI n, f_m, f_mask, f_size, f_workCount, nI ac, f_stepCount, a_state, a_formula, a_work, a_accepted, a_stepLiteral, a_stepEliminates, a_stepStart, a_trail) a b c d := by
  have hok := ce_cd_OK hn hb
  obtain ⟨h0, h1, h2, h3, h4⟩ := hb
  refine br_f (fun z => h0 ?_) ?_
  · rw [ce_or0, ce_or0, ce_or0] at z
    exact ⟨z.1.1.1, z.1.1.2, z.1.2, z.2⟩
  · refine xw_inRange (ce_br (fun y => (y h1).elim) (fun _ => xw_inRange (ce_br (fun y => (y h2).elim) (fun _ => xw_inRange (ce_br (fun y => (y h3).elim) (fun _ => xw_inRange (ce_br (fun y => (y h4).elim) (fun _ => ?_))))))))
    refine xw_bitOf (xw_bitOf (xw_bitOf (xw_bitOf (nm_e ?_))))
    refine xw_isTautology hn hok (ce_br (fun y => ?_) (fun y => ht y))
    have y' : ce_NT (ce_cd a b c d) := Classical.byContradiction y
    refine xw_isTouched hn (ce_br (fun t => ?_) (fun t => hto y' t))
    exact pk_lt ac 32 (fun k => hj y' t k _ (fun r u h => h)) (fun k => hf y' t k)
theorem xw_join {n z m ac : Nat} (hz : z ≤ 16) (hm : m ≤ 16) (hac : ac < 32) (c : Int32) (hF : ce_F n (ce_ls a_formula z)) : ∃ (w : Nat) (W : Nat → Int32), w ≤ z + 1 ∧ ce_WK (fun d => d ∈ ce_ls a_formula z ∨ d = c) (ce_ls W w) ∧
    ((∃ x, x ∈ ce_ls a_formula z ∧ ce_Sub x c) → ∀ post : Int32 → SX → Prop, post 2 (f_n, nI m, f_mask, nI z, nI w, nI (ac + 1), f_stepCount, a_state, a_formula, W, upd a_accepted ac c, a_stepLiteral, a_stepEliminates, a_stepStart, a_trail) → wpX_join post (f_n, nI m, f_mask, nI z, f_workCount, nI ac, f_stepCount, a_state, a_formula, a_work, a_accepted, a_stepLiteral, a_stepEliminates, a_stepStart, a_trail) c) ∧
    ((¬ ∃ x, x ∈ ce_ls a_formula z ∧ ce_Sub x c) → m < w → ∀ post : Int32 → SX → Prop, post (-4) (f_n, nI m, f_mask, nI z, nI w, nI ac, f_stepCount, a_state, a_formula, W, a_accepted, a_stepLiteral, a_stepEliminates, a_stepStart, a_trail) → wpX_join post (f_n, nI m, f_mask, nI z, f_workCount, nI ac, f_stepCount, a_state, a_formula, a_work, a_accepted, a_stepLiteral, a_stepEliminates, a_stepStart, a_trail) c) ∧
    ((¬ ∃ x, x ∈ ce_ls a_formula z ∧ ce_Sub x c) → w ≤ m → ∃ F : Nat → Int32, (ce_ls F w).Pairwise (· < ·) ∧ (ce_ls F w).Perm (ce_ls W w) ∧ ∀ post : Int32 → SX → Prop, post 1 (f_n, nI m, f_mask, nI w, nI w, nI (ac + 1), f_stepCount, a_state, F, W, upd a_accepted ac c, a_stepLiteral, a_stepEliminates, a_stepStart, a_trail) → wpX_join post (f_n, nI m, f_mask, nI z, f_workCount, nI ac, f_stepCount, a_state, a_formula, a_work, a_accepted, a_stepLiteral, a_stepEliminates, a_stepStart, a_trail) c) := by
  obtain ⟨V, hI, hq⟩ := ce_lpX (σ := Nat → Int32) (Q := Int32 → SX → Prop)
    (fun q k i s => wX_join_2 q c f_n (nI m) f_mask (nI z) f_workCount (nI ac) f_stepCount k (nI i) a_state a_formula s a_accepted a_stepLiteral a_stepEliminates a_stepStart a_trail)
    (fun i s => ce_ls s i = ce_ls a_formula i) z
    (by
      intro i V hi hI
      refine ⟨upd V i (a_formula i), by rw [ce_ls_push, hI, ce_ls_s], fun q k h => ?_⟩
      refine br_f (nI_ge hi (by omega)) ⟨vp_in_nI (by omega) (by omega), vp_in_nI (by omega) (by omega), ?_⟩
      rw [nI_clamp (show i < 2 ^ 31 by omega)]
      exact nm_e (nm_r (nI_1 i) h))
    0 (Nat.zero_le _) a_work rfl
  have hwk : ce_WK (fun d => d ∈ ce_ls a_formula z) (ce_ls V z) := by
    rw [hI]; exact ce_F_WK hF
  obtain ⟨w, W, g1, g2, g3⟩ := xw_addMinimal (f_n := f_n) (f_m := nI m) (f_mask := f_mask) (f_size := nI z) (f_acceptedCount := nI ac) (f_stepCount := f_stepCount) (a_state := a_state) (a_formula := a_formula) (a_work := V) (a_accepted := a_accepted) (a_stepLiteral := a_stepLiteral) (a_stepEliminates := a_stepEliminates) (a_stepStart := a_stepStart) (a_trail := a_trail) (w := z) (by omega) c hwk
  rw [hI] at g3
  have hca : (nI ac).toNatClampNeg = ac := nI_clamp (by omega)
  refine ⟨w, W, g1, g2, fun hs post h => hq post (fun k => ?_), fun hs hw post h => hq post (fun k => ?_), fun hs hw => ?_⟩
  · refine br_t (nI_le (Nat.le_refl _) (by omega)) (g3 _ (ce_br (fun _ => ?_) (fun y => (y hs).elim)))
    refine nm_r (nI_1 ac) ⟨vp_in_nI (by omega) (by omega), ?_⟩
    rw [hca]
    exact nm_e (br_t (ce_bf (fun y => y hs)) h)
  · exact br_t (nI_le (Nat.le_refl _) (by omega)) (g3 _ (ce_br (fun y => (y hs).elim) (fun _ => br_f (nI_ge hw (by omega)) h)))
  · obtain ⟨F, f1, f2, f3⟩ := xw_install (f_n := f_n) (f_m := nI m) (f_mask := f_mask) (f_size := nI z) (f_acceptedCount := nI (ac + 1)) (f_stepCount := f_stepCount) (a_state := a_state) (a_formula := a_formula) (a_work := W) (a_accepted := upd a_accepted ac c) (a_stepLiteral := a_stepLiteral) (a_stepEliminates := a_stepEliminates) (a_stepStart := a_stepStart) (a_trail := a_trail) (w := w) (by omega) g2.1
    refine ⟨F, f1, f2, fun post h => hq post (fun k => ?_)⟩
    refine br_t (nI_le (Nat.le_refl _) (by omega)) (g3 _ (ce_br (fun y => (y hs).elim) (fun _ => br_t (nI_le hw (by omega)) ?_)))
    refine nm_r (nI_1 ac) ⟨vp_in_nI (by omega) (by omega), ?_⟩
    rw [hca]
    exact nm_e (br_f (by rw [ce_bt hs]; decide) (f3 _ h))
end
end
section
/-! Y: strengthen -/
theorem ce_Sh_perm {L L' : List Int32} (p : L.Perm L') {v : Nat} {c : Int32} : ce_Sh L v c ↔ ce_Sh L' v c := by
  constructor
  · rintro ⟨b, h, o, ho, k⟩
    exact ⟨b, h, o, p.mem_iff.mp ho, k⟩
  · rintro ⟨b, h, o, ho, k⟩
    exact ⟨b, h, o, p.mem_iff.mpr ho, k⟩
theorem ce_St_perm {L L' : List Int32} (p : L.Perm L') (v : Nat) (c : Int32) : ce_St L v c = ce_St L' v c := by
  unfold ce_St
  rw [ce_dc (ce_Sh_perm p)]
theorem ce_shc_perm {L L' : List Int32} (p : L.Perm L') (v : Nat) : ce_shc L v L = ce_shc L' v L' := by
  unfold ce_shc
  rw [p.countP_eq]
  congr 1
  funext c
  exact ce_dc (ce_Sh_perm p)
theorem ce_SS_perm {L L' : List Int32} (p : L.Perm L') (v : Nat) (d : Int32) : ce_SS L v L d ↔ ce_SS L' v L' d := by
  constructor
  · rintro ⟨c, hc, e⟩
    exact ⟨c, p.mem_iff.mp hc, by rw [← ce_St_perm p]; exact e⟩
  · rintro ⟨c, hc, e⟩
    exact ⟨c, p.mem_iff.mpr hc, by rw [ce_St_perm p]; exact e⟩
section
variable {f_n f_m f_size f_acceptedSize f_stepCount f_rawSize f_leastSize : Int32} {a_formula a_accepted a_state a_stepLit a_stepBlocks a_past a_pastSize a_raw a_least : Nat → Int32}
theorem yw_shortenable {post : Int32 → Prop} {n z v : Nat} {b : Bool} {c : Int32} (hn : n ≤ 8) (hv : v < 8) (hz : z ≤ 16) (hL : ∀ c, c ∈ ce_ls a_formula z → ce_C n c)
    (h : post (ce_b (bt c (ce_po b v) = true ∧ ∃ o, o ∈ ce_ls a_formula z ∧ bt o (ce_po (!b) v) = true ∧ ce_Sub (ce_mi v o) c))) : wpY_shortenable post (nI n, f_m, nI z, f_acceptedSize, f_stepCount, f_rawSize, f_leastSize, a_formula, a_accepted, a_state, a_stepLit, a_stepBlocks, a_past, a_pastSize, a_raw, a_least) c (ce_li b v) := by
  unfold wpY_shortenable
  dsimp only
  refine yw_has (ce_br (fun y => ce_p0 h (fun w => y ((ce_hasN hv b c).mpr w.1))) (fun y => yw_bit (nm_e ?_)))
  have hcb := (ce_hasN hv b c).mp y
  refine loop_0 (fun k i (_ : Unit) => wY_shortenable_24 post (ce_li b v) (c &&& (ce_lb (ce_li b v) ^^^ (-1))) (nI n) f_m (nI z) f_acceptedSize f_stepCount f_rawSize f_leastSize a_formula a_accepted a_state a_stepLit a_stepBlocks a_past a_pastSize a_raw a_least k (nI i)) (fun i _ => ∀ j, j < i → ¬ (bt (a_formula j) (ce_po (!b) v) = true ∧ ce_Sub (ce_mi v (a_formula j)) c)) z () lt_0 ?_ ?_
  · intro k s hI
    refine br_t (nI_le (Nat.le_refl _) (by omega)) (ce_p0 h ?_)
    rintro ⟨_, o, ho, w⟩
    obtain ⟨j, hj, rfl⟩ := ce_ls_mem.mp ho
    exact hI j hj w
  · intro k i s hi hI ih
    have hy := hL _ (ce_ls_at hi)
    have hok : ce_OK n (a_formula i &&& (ce_lb (ce_li (!b) v) ^^^ (-1))) := by
      intro j hj e
      rw [b_and] at e
      cases f : bt (a_formula i) j
      · rw [f, Bool.false_and] at e; exact absurd e (by decide)
      · exact hy.1 j hj f
    refine br_f (nI_ge hi (by omega)) ⟨vp_in_nI (by omega) (by omega), ?_⟩
    rw [nI_clamp (show i < 2 ^ 31 by omega), ce_li_neg v hv b]
    refine yw_bit (nm_e ⟨vp_in_nI (by omega) (by omega), ?_⟩)
    refine yw_has (ce_br (fun t => nm_r (nI_1 i) (ih () (lt_s hI (fun w => t ((ce_hasN hv (!b) _).mpr w.1))))) (fun t => ?_))
    have ht := (ce_hasN hv (!b) _).mp t
    refine yw_within hn hok (ce_br (fun x => nm_r (nI_1 i) (ih () (lt_s hI (fun w => x ((ce_shY hv b hy.2 ht).mpr w.2))))) (fun x => ce_p1 h ⟨hcb, _, ce_ls_at hi, ht, (ce_shY hv b hy.2 ht).mp x⟩))
theorem yw_strengthen {n z v : Nat} (hn : n ≤ 8) (hv : v < n) (hz : z ≤ 16) (hL : ∀ c, c ∈ ce_ls a_formula z → ce_C n c) (hs : ¬ a_state (v + 1) = 3) : ∃ (lz : Nat) (R L F : Nat → Int32), lz ≤ z ∧ (ce_ls F lz).Nodup ∧ (∀ c, c ∈ ce_ls F lz ↔ ce_Mi (ce_SS (ce_ls a_formula z) v (ce_ls a_formula z)) c) ∧
    ∀ post : Int32 → SY → Prop, post (nI (ce_shc (ce_ls a_formula z) v (ce_ls a_formula z))) (nI n, f_m, nI lz, f_acceptedSize, f_stepCount, nI z, nI lz, F, a_accepted, a_state, a_stepLit, a_stepBlocks, a_past, a_pastSize, R, L) → wpY_strengthen post (nI n, f_m, nI z, f_acceptedSize, f_stepCount, f_rawSize, f_leastSize, a_formula, a_accepted, a_state, a_stepLit, a_stepBlocks, a_past, a_pastSize, a_raw, a_least) (nI (v + 1)) := by
  have hv8 : v < 8 := by omega
  obtain ⟨R, hI, hq⟩ := ce_lpX (σ := Nat → Int32) (Q := Int32 → SY → Prop)
    (fun q k i s => wY_strengthen_37 q (nI (v + 1)) k (nI (ce_shc (ce_ls a_formula z) v (ce_ls a_formula i))) (nI i) (nI n) f_m (nI z) f_acceptedSize f_stepCount (nI i) f_leastSize a_formula a_accepted a_state a_stepLit a_stepBlocks a_past a_pastSize s a_least)
    (fun i s => ∀ d, d ∈ ce_ls s i ↔ ce_SS (ce_ls a_formula z) v (ce_ls a_formula i) d) z
    (by
      intro i R hi hI
      refine ⟨upd R i (ce_St (ce_ls a_formula z) v (a_formula i)), fun d => ?_, fun q k h => ?_⟩
      · rw [ce_ls_push, List.mem_append, List.mem_singleton, hI, ce_SS_s]
      · have yes : ce_Sh (ce_ls a_formula z) v (a_formula i) → wY_strengthen_74 q (wY_strengthen_37 q (nI (v + 1)) k) (nI (v + 1)) (nI (ce_shc (ce_ls a_formula z) v (ce_ls a_formula i))) (nI i) (a_formula i) (nI n) f_m (nI z) f_acceptedSize f_stepCount (nI i) f_leastSize a_formula a_accepted a_state a_stepLit a_stepBlocks a_past a_pastSize R a_least := by
          intro sh
          have e : ce_shc (ce_ls a_formula z) v (ce_ls a_formula (i + 1)) = ce_shc (ce_ls a_formula z) v (ce_ls a_formula i) + 1 := ce_cnt_t (ce_dt sh)
          rw [e, ce_St_t sh] at h
          unfold wY_strengthen_74
          refine yw_bit (yw_bit (nm_r (ce_miY hv8 _) (nm_r (nI_1 _) ?_)))
          unfold wY_strengthen_98
          exact yw_put (by omega) (nm_r (nI_1 i) h)
        refine br_f (nI_ge hi (by omega)) ⟨vp_in_nI (by omega) (by omega), ?_⟩
        rw [nI_clamp (show i < 2 ^ 31 by omega)]
        refine nm_e (yw_shortenable (b := true) hn hv8 hz hL (ce_br (fun y1 => ?_) (fun y1 => yes ⟨true, y1⟩)))
        refine yw_shortenable (b := false) hn hv8 hz hL (ce_br (fun y2 => ?_) (fun y2 => yes ⟨false, y2⟩))
        have ns : ¬ ce_Sh (ce_ls a_formula z) v (a_formula i) := by
          rintro ⟨b, w⟩
          cases b
          · exact y2 w
          · exact y1 w
        have e : ce_shc (ce_ls a_formula z) v (ce_ls a_formula (i + 1)) = ce_shc (ce_ls a_formula z) v (ce_ls a_formula i) := ce_cnt_f (ce_df ns)
        rw [e, ce_St_f ns] at h
        unfold wY_strengthen_98
        exact yw_put (by omega) (nm_r (nI_1 i) h))
    0 (Nat.zero_le _) a_raw (fun d => ⟨fun h => (List.not_mem_nil h).elim, fun ⟨c, hc, _⟩ => (List.not_mem_nil hc).elim⟩)
  have hok : ∀ c, c ∈ ce_ls R z → ce_OK n c := by
    intro c hc
    obtain ⟨d, hd, e⟩ := (hI c).mp hc
    rw [e]
    exact (ce_C_sub (ce_St_sub hv8 d) (hL d hd)).1
  obtain ⟨lz, L, g1, g2, g3, g4⟩ := yw_minimise (f_m := f_m) (f_size := nI z) (f_acceptedSize := f_acceptedSize) (f_stepCount := f_stepCount) (f_leastSize := f_leastSize) (a_formula := a_formula) (a_accepted := a_accepted) (a_state := a_state) (a_stepLit := a_stepLit) (a_stepBlocks := a_stepBlocks) (a_past := a_past) (a_pastSize := a_pastSize) (a_raw := R) (a_least := a_least) (n := n) hn (show z ≤ 64 by omega) hok
  obtain ⟨F, f1, f2⟩ := yw_install (f_n := nI n) (f_m := f_m) (f_size := nI z) (f_acceptedSize := f_acceptedSize) (f_stepCount := f_stepCount) (f_rawSize := nI z) (a_formula := a_formula) (a_accepted := a_accepted) (a_state := a_state) (a_stepLit := a_stepLit) (a_stepBlocks := a_stepBlocks) (a_past := a_past) (a_pastSize := a_pastSize) (a_raw := R) (a_least := L) (lz := lz) (by omega)
  refine ⟨lz, R, L, F, g1, by rw [f1]; exact g2, fun c => ?_, fun post h => ?_⟩
  · rw [f1, g3]
    have e : (fun d => d ∈ ce_ls R z) = ce_SS (ce_ls a_formula z) v (ce_ls a_formula z) := funext (fun d => propext (hI d))
    rw [e]
  · refine br_f (nI_nlt (b := 1) (by omega) (by omega)) (br_t (nI_le (by omega) (by omega)) ⟨vp_in_nI (by omega) (by omega), ?_⟩)
    rw [nI_clamp (show v + 1 < 2 ^ 31 by omega)]
    refine br_f hs (hq post (fun k => ?_))
    exact br_t (nI_le (Nat.le_refl _) (by omega)) (g4 _ (f2 _ h))
theorem yw_str_bad {post : Int32 → SY → Prop} {n : Nat} {x : Int32} (hx : x < 1 ∨ nI n < x) (h : post (-1) (nI n, f_m, f_size, f_acceptedSize, f_stepCount, f_rawSize, f_leastSize, a_formula, a_accepted, a_state, a_stepLit, a_stepBlocks, a_past, a_pastSize, a_raw, a_least)) : wpY_strengthen post (nI n, f_m, f_size, f_acceptedSize, f_stepCount, f_rawSize, f_leastSize, a_formula, a_accepted, a_state, a_stepLit, a_stepBlocks, a_past, a_pastSize, a_raw, a_least) x := by
  refine br_c (fun _ => h) (fun y => br_f (fun w => ?_) h)
  rcases hx with hx | hx
  · exact y hx
  · exact Int32.not_le.mpr hx w
theorem yw_str_gone {post : Int32 → SY → Prop} {n v : Nat} (hn : n ≤ 8) (hv : v < n) (hs : a_state (v + 1) = 3) (h : post (-6) (nI n, f_m, f_size, f_acceptedSize, f_stepCount, f_rawSize, f_leastSize, a_formula, a_accepted, a_state, a_stepLit, a_stepBlocks, a_past, a_pastSize, a_raw, a_least)) : wpY_strengthen post (nI n, f_m, f_size, f_acceptedSize, f_stepCount, f_rawSize, f_leastSize, a_formula, a_accepted, a_state, a_stepLit, a_stepBlocks, a_past, a_pastSize, a_raw, a_least) (nI (v + 1)) := by
  refine br_f (nI_nlt (b := 1) (by omega) (by omega)) (br_t (nI_le (by omega) (by omega)) ⟨vp_in_nI (by omega) (by omega), ?_⟩)
  rw [nI_clamp (show v + 1 < 2 ^ 31 by omega)]
  exact br_t hs h
end
end
section
/-! Y: block -/
theorem ce_psfl : ∀ n, n < 9 → ∀ j, j < 2 * n + 1 → j ≠ n → ce_ps n (2 * n - j) = ce_fl (ce_ps n j) := by decide +kernel
theorem ce_psj {n i : Nat} (h : i < n ∨ (8 ≤ i ∧ i < 8 + n)) : ∃ j, j < 2 * n + 1 ∧ j ≠ n ∧ ce_ps n j = i := by
  unfold ce_ps
  by_cases k : i < n
  · exact ⟨n + i + 1, by omega, by omega, by rw [if_neg (by omega)]; omega⟩
  · exact ⟨n - 1 - (i - 8), by omega, by omega, by rw [if_pos (by omega)]; omega⟩
theorem ce_psk {n : Nat} (hn : n ≤ 8) {j : Nat} (hj : j < 2 * n + 1) (hne : j ≠ n) (x : Int32) : ¬ x &&& ce_lb (nI j - nI n) = 0 ↔ bt x (ce_ps n j) = true := by
  rw [ce_one (p := ce_ps n j) (by unfold ce_ps; split <;> omega) (fun i hi => ce_ps_b n (by omega) j hj hne i hi)]
  cases bt x (ce_ps n j) <;> simp
def ce_gd (n : Nat) (l o c : Int32) (j : Nat) : Prop := ¬ nI j - nI n = l ∧ ¬ o &&& ce_lb (nI j - nI n) = 0 ∧ ¬ c &&& ce_lb (-(nI j - nI n)) = 0
theorem ce_good {n v : Nat} (hn : n ≤ 8) (hv : v < 8) (b : Bool) {o c : Int32} (ho : ce_OK n o) : (∃ j, j < 2 * n + 1 ∧ ce_gd n (ce_li b v) o c j) ↔ ∃ i, i < 16 ∧ i ≠ ce_po b v ∧ bt o i = true ∧ bt c (ce_fl i) = true := by
  constructor
  · rintro ⟨j, hj, h1, h2, h3⟩
    have hne : j ≠ n := by
      rintro rfl
      exact h2 (by rw [Int32.sub_self]; exact Int32.and_zero)
    rw [ce_kli n (by omega) j hj hne v hv b] at h1
    rw [ce_psk hn hj hne] at h2
    rw [ce_kneg n (by omega) j hj, ce_psk hn (by omega) (by omega), ce_psfl n (by omega) j hj hne] at h3
    have := ho _ (by unfold ce_ps; split <;> omega) h2
    exact ⟨_, by omega, h1, h2, h3⟩
  · rintro ⟨i, hi, h1, h2, h3⟩
    obtain ⟨j, hj, hne, rfl⟩ := ce_psj (ho i (by omega) h2)
    refine ⟨j, hj, ?_, ?_, ?_⟩
    · rw [ce_kli n (by omega) j hj hne v hv b]; exact h1
    · rw [ce_psk hn hj hne]; exact h2
    · rw [ce_kneg n (by omega) j hj, ce_psk hn (by omega) (by omega), ce_psfl n (by omega) j hj hne]; exact h3
theorem ce_ex_t {P : Nat → Prop} {j : Nat} {f : Prop} (h : P j) : ce_b (f ∨ ∃ v, v < j + 1 ∧ P v) = 1 := ce_bt (Or.inr ⟨j, by omega, h⟩)
theorem ce_ex_f {P : Nat → Prop} {j : Nat} {f : Prop} (h : ¬ P j) : ce_b (f ∨ ∃ v, v < j + 1 ∧ P v) = ce_b (f ∨ ∃ v, v < j ∧ P v) := by
  apply ce_bc
  constructor
  · rintro (k | ⟨v, hv, p⟩)
    · exact Or.inl k
    · by_cases e : v = j
      · subst e; exact (h p).elim
      · exact Or.inr ⟨v, by omega, p⟩
  · rintro (k | ⟨v, hv, p⟩)
    · exact Or.inl k
    · exact Or.inr ⟨v, by omega, p⟩
theorem ce_ex_0 {P : Nat → Prop} (f : Prop) : ce_b f = ce_b (f ∨ ∃ v, v < 0 ∧ P v) :=
  ce_bc ⟨Or.inl, fun k => k.elim id (fun ⟨v, hv, _⟩ => absurd hv (Nat.not_lt_zero v))⟩
section
variable {f_n f_m f_size f_acceptedSize f_stepCount f_rawSize f_leastSize : Int32} {a_formula a_accepted a_state a_stepLit a_stepBlocks a_past a_pastSize a_raw a_least : Nat → Int32}
theorem yw_blk50 {post : Int32 → Prop} {J : Int32 → Prop} {n z i v : Nat} {b : Bool} {c x : Int32} (f : Prop) (hn : n ≤ 8) (hv : v < 8) (hi : i < 16) (hx : x = ce_b f)
    (h0 : ¬ (f ∨ ∃ j, j < 2 * n + 1 ∧ ce_gd n (ce_li (!b) v) (a_formula i) c j) → post 0) (h1 : (f ∨ ∃ j, j < 2 * n + 1 ∧ ce_gd n (ce_li (!b) v) (a_formula i) c j) → J (nI (i + 1))) :
    ∃ k, wY_blocked_50 post J c (ce_li b v) (nI i) (nI n) f_m (nI z) f_acceptedSize f_stepCount f_rawSize f_leastSize a_formula a_accepted a_state a_stepLit a_stepBlocks a_past a_pastSize a_raw a_least k x (nI 0 - nI n) := by
  have ei : (nI i).toNatClampNeg = i := nI_clamp (by omega)
  refine loop_0 (fun k j (s : Int32) => wY_blocked_50 post J c (ce_li b v) (nI i) (nI n) f_m (nI z) f_acceptedSize f_stepCount f_rawSize f_leastSize a_formula a_accepted a_state a_stepLit a_stepBlocks a_past a_pastSize a_raw a_least k s (nI j - nI n)) (fun j s => s = ce_b (f ∨ ∃ v', v' < j ∧ ce_gd n (ce_li (!b) v) (a_formula i) c v')) (2 * n + 1) x (hx.trans (ce_ex_0 f)) ?_ ?_
  · intro k s hI
    subst hI
    exact br_t ((ce_klt n (by omega) _ (by omega)).mpr (by omega)) (ce_br (fun y => h0 y) (fun y => nm_r (nI_1 i) (h1 y)))
  · intro k j s hj hI ih
    subst hI
    refine br_f (fun w => ?_) ?_
    · have := (ce_klt n (by omega) _ (by omega)).mp w
      omega
    · rw [ce_li_neg v hv b, ei]
      refine br_c (fun y => nm_r (ce_ks n j) (ih _ (ce_ex_f (fun w => w.1 y)).symm)) (fun y => ⟨vp_in_nI (by omega) (by omega), ?_⟩)
      refine yw_has (ce_br (fun t => nm_r (ce_ks n j) (ih _ (ce_ex_f (fun w => t w.2.1)).symm)) (fun t => ?_))
      exact yw_has (ce_br (fun r => nm_r (ce_ks n j) (ih _ (ce_ex_f (fun w => r w.2.2)).symm)) (fun r => nm_r (ce_ks n j) (ih _ (ce_ex_t ⟨y, t, r⟩).symm)))
theorem yw_blocked {post : Int32 → Prop} {n z v : Nat} {b : Bool} {c : Int32} (hn : n ≤ 8) (hv : v < 8) (hz : z ≤ 16) (hL : ∀ c, c ∈ ce_ls a_formula z → ce_C n c) (h : post (ce_b (ce_Blk (ce_ls a_formula z) b v c))) : wpY_blocked post (nI n, f_m, nI z, f_acceptedSize, f_stepCount, f_rawSize, f_leastSize, a_formula, a_accepted, a_state, a_stepLit, a_stepBlocks, a_past, a_pastSize, a_raw, a_least) c (ce_li b v) := by
  unfold wpY_blocked
  dsimp only
  refine yw_has (ce_br (fun y => ce_p0 h (fun w => y ((ce_hasN hv b c).mpr w.1))) (fun y => ?_))
  have hcb := (ce_hasN hv b c).mp y
  refine loop_0 (fun k i (_ : Unit) => wY_blocked_13 post c (ce_li b v) (nI n) f_m (nI z) f_acceptedSize f_stepCount f_rawSize f_leastSize a_formula a_accepted a_state a_stepLit a_stepBlocks a_past a_pastSize a_raw a_least k (nI i)) (fun i _ => ∀ j, j < i → bt (a_formula j) (ce_po (!b) v) = true → ∃ i', i' < 16 ∧ i' ≠ ce_po (!b) v ∧ bt (a_formula j) i' = true ∧ bt c (ce_fl i') = true) z () lt_0 ?_ ?_
  · intro k s hI
    refine br_t (nI_le (Nat.le_refl _) (by omega)) (ce_p1 h ⟨hcb, fun o ho => ?_⟩)
    obtain ⟨j, hj, rfl⟩ := ce_ls_mem.mp ho
    exact hI j hj
  · intro k i s hi hI ih
    have hg := ce_good hn hv (!b) (c := c) (hL _ (ce_ls_at hi)).1
    refine br_f (nI_ge hi (by omega)) ⟨vp_in_nI (by omega) (by omega), ?_⟩
    rw [nI_clamp (show i < 2 ^ 31 by omega), ce_li_neg v hv b]
    refine yw_has (ce_br (fun t => nm_r (ce_kst n) ?_) (fun t => nm_r (ce_kst n) ?_))
    · have ht : ¬ bt (a_formula i) (ce_po (!b) v) = true := fun w => t ((ce_hasN hv (!b) _).mpr w)
      refine yw_blk50 True hn hv (by omega) (ce_bt trivial).symm (fun w => (w (Or.inl trivial)).elim) (fun _ => ih () (lt_s hI (fun w => (ht w).elim)))
    · have ht : bt (a_formula i) (ce_po (!b) v) = true := (ce_hasN hv (!b) _).mp t
      refine yw_blk50 False hn hv (by omega) (ce_bf id).symm (fun w => ce_p0 h (fun bl => w (Or.inr (hg.mpr (bl.2 _ (ce_ls_at hi) ht))))) (fun w => ih () (lt_s hI (fun _ => ?_)))
      rcases w with w | w
      · exact w.elim
      · exact hg.mp w
theorem yw_blk20 {post : Int32 → SY → Prop} {n v : Nat} {b : Bool} (hn : n ≤ 8) (hv : v < n) (h : wY_block_20 post (ce_li b v) (nI (v + 1)) (nI n) f_m f_size f_acceptedSize f_stepCount f_rawSize f_leastSize a_formula a_accepted a_state a_stepLit a_stepBlocks a_past a_pastSize a_raw a_least) : wpY_block post (nI n, f_m, f_size, f_acceptedSize, f_stepCount, f_rawSize, f_leastSize, a_formula, a_accepted, a_state, a_stepLit, a_stepBlocks, a_past, a_pastSize, a_raw, a_least) (ce_li b v) := by
  unfold wpY_block
  dsimp only
  refine yw_isLiteral (ce_br (fun y => (y ⟨ce_li_ne v (by omega) b, ce_li_in hn hv b⟩).elim) (fun _ => ?_))
  cases b
  · rw [ce_li_f] at h ⊢
    refine br_t ?_ ?_
    · rw [← Int32.neg_zero, ← nI_0, sb_nle (by omega) (by omega)]; omega
    · rw [Int32.neg_neg]; exact h
  · rw [ce_li_t] at h ⊢
    exact br_f (nI_nle (by omega) (by omega)) h
theorem yw_blk_bad {post : Int32 → SY → Prop} {n : Nat} {x : Int32} (hx : x = 0 ∨ x < -nI n ∨ nI n < x) (h : post (-1) (nI n, f_m, f_size, f_acceptedSize, f_stepCount, f_rawSize, f_leastSize, a_formula, a_accepted, a_state, a_stepLit, a_stepBlocks, a_past, a_pastSize, a_raw, a_least)) : wpY_block post (nI n, f_m, f_size, f_acceptedSize, f_stepCount, f_rawSize, f_leastSize, a_formula, a_accepted, a_state, a_stepLit, a_stepBlocks, a_past, a_pastSize, a_raw, a_least) x := by
  unfold wpY_block
  dsimp only
  refine yw_isLiteral (ce_br (fun _ => h) (fun y => ?_))
  rcases hx with hx | hx | hx
  · exact (y.1 hx).elim
  · exact (y.2.1 hx).elim
  · exact (y.2.2 hx).elim
theorem yw_blk_ref {post : Int32 → SY → Prop} {n v st : Nat} {b : Bool} (hn : n ≤ 8) (hv : v < n) (hs : st ≤ 16) (h3 : a_state (v + 1) = 3 → post (-6) (nI n, f_m, f_size, f_acceptedSize, nI st, f_rawSize, f_leastSize, a_formula, a_accepted, a_state, a_stepLit, a_stepBlocks, a_past, a_pastSize, a_raw, a_least)) (h1 : ¬ a_state (v + 1) = 3 → a_state (v + 1) = 1 → post (-5) (nI n, f_m, f_size, f_acceptedSize, nI st, f_rawSize, f_leastSize, a_formula, a_accepted, a_state, a_stepLit, a_stepBlocks, a_past, a_pastSize, a_raw, a_least))
    (hf : ¬ a_state (v + 1) = 3 → ¬ a_state (v + 1) = 1 → 16 ≤ st → post (-4) (nI n, f_m, f_size, f_acceptedSize, nI st, f_rawSize, f_leastSize, a_formula, a_accepted, a_state, a_stepLit, a_stepBlocks, a_past, a_pastSize, a_raw, a_least))
    (h0 : ¬ a_state (v + 1) = 3 → ¬ a_state (v + 1) = 1 → st < 16 → ∃ k, wY_block_66 post (ce_li b v) (nI (v + 1)) k 0 (nI n) f_m f_size f_acceptedSize (nI st) 0 f_leastSize a_formula a_accepted a_state a_stepLit a_stepBlocks a_past a_pastSize a_raw a_least) : wpY_block post (nI n, f_m, f_size, f_acceptedSize, nI st, f_rawSize, f_leastSize, a_formula, a_accepted, a_state, a_stepLit, a_stepBlocks, a_past, a_pastSize, a_raw, a_least) (ce_li b v) := by
  refine yw_blk20 hn hv ⟨vp_in_nI (by omega) (by omega), ?_⟩
  rw [nI_clamp (show v + 1 < 2 ^ 31 by omega)]
  exact br_c h3 (fun a => ⟨vp_in_nI (by omega) (by omega), br_c (h1 a) (fun c => pk_lt st 16 (h0 a c) (hf a c))⟩)
theorem yw_block {n z st v : Nat} {b : Bool} (hn : n ≤ 8) (hv : v < n) (hz : z ≤ 16) (hst : st < 16) (h3 : ¬ a_state (v + 1) = 3) (h1 : ¬ a_state (v + 1) = 1) (hL : ∀ c, c ∈ ce_ls a_formula z → ce_C n c) : ∃ (rz : Nat) (R : Nat → Int32), rz ≤ z ∧
    ce_ls R rz = (ce_ls a_formula z).filter (fun c => ce_d (¬ ce_Blk (ce_ls a_formula z) b v c)) ∧
    (z - rz = 0 → ∀ post : Int32 → SY → Prop, post 0 (nI n, f_m, nI z, f_acceptedSize, nI st, nI rz, f_leastSize, a_formula, a_accepted, a_state, a_stepLit, a_stepBlocks, a_past, a_pastSize, R, a_least) → wpY_block post (nI n, f_m, nI z, f_acceptedSize, nI st, f_rawSize, f_leastSize, a_formula, a_accepted, a_state, a_stepLit, a_stepBlocks, a_past, a_pastSize, a_raw, a_least) (ce_li b v)) ∧
    (z - rz ≠ 0 → ∃ (P : Nat → Int32) (lz : Nat) (L F : Nat → Int32), ce_sg P (16 * st) z = ce_ls a_formula z ∧ (∀ j, j < 16 * st → P j = a_past j) ∧ lz ≤ rz ∧ (ce_ls F lz).Nodup ∧ (∀ c, c ∈ ce_ls F lz ↔ ce_Mi (fun d => d ∈ ce_ls R rz) c) ∧
      ∀ post : Int32 → SY → Prop, post (nI (z - rz)) (nI n, f_m, nI lz, f_acceptedSize, nI (st + 1), nI rz, nI lz, F, a_accepted, upd a_state (v + 1) 2, upd a_stepLit st (ce_li b v), upd a_stepBlocks st 1, P, upd a_pastSize st (nI z), R, L) → wpY_block post (nI n, f_m, nI z, f_acceptedSize, nI st, f_rawSize, f_leastSize, a_formula, a_accepted, a_state, a_stepLit, a_stepBlocks, a_past, a_pastSize, a_raw, a_least) (ce_li b v)) := by
  have hv8 : v < 8 := by omega
  obtain ⟨s, hI, hq⟩ := ce_lpX (σ := Nat × (Nat → Int32)) (Q := Int32 → SY → Prop)
    (fun q k i s => wY_block_66 q (ce_li b v) (nI (v + 1)) k (nI i) (nI n) f_m (nI z) f_acceptedSize (nI st) (nI s.1) f_leastSize a_formula a_accepted a_state a_stepLit a_stepBlocks a_past a_pastSize s.2 a_least)
    (fun i s => s.1 ≤ i ∧ ce_ls s.2 s.1 = (ce_ls a_formula i).filter (fun c => ce_d (¬ ce_Blk (ce_ls a_formula z) b v c))) z
    (by
      rintro i ⟨rz, R⟩ hi ⟨g1, g2⟩
      dsimp only at g1 g2
      have ei : (nI i).toNatClampNeg = i := nI_clamp (by omega)
      by_cases hb : ce_Blk (ce_ls a_formula z) b v (a_formula i)
      · refine ⟨(rz, R), ⟨by dsimp only; omega, ?_⟩, fun q k h => ?_⟩
        · rw [ce_fil_f (ce_df (fun w => w hb))]; exact g2
        · dsimp only at h ⊢
          refine br_f (nI_ge hi (by omega)) ⟨vp_in_nI (by omega) (by omega), ?_⟩
          rw [ei]
          exact yw_blocked hn hv8 hz hL (ce_br (fun w => (w hb).elim) (fun _ => nm_r (nI_1 i) h))
      · refine ⟨(rz + 1, upd R rz (a_formula i)), ⟨by dsimp only; omega, ?_⟩, fun q k h => ?_⟩
        · dsimp only
          rw [ce_fil_t (ce_dt hb), ce_ls_push, g2]
        · dsimp only at h ⊢
          refine br_f (nI_ge hi (by omega)) ⟨vp_in_nI (by omega) (by omega), ?_⟩
          rw [ei]
          exact yw_blocked hn hv8 hz hL (ce_br (fun _ => ⟨vp_in_nI (by omega) (by omega), yw_put (by omega) (nm_r (nI_1 i) h)⟩) (fun w => (hb w).elim)))
    0 (Nat.zero_le _) (0, a_raw) ⟨Nat.le_refl _, rfl⟩
  obtain ⟨rz, R⟩ := s
  obtain ⟨g1, g2⟩ := hI
  dsimp only at g1 g2
  have pre : ∀ post : Int32 → SY → Prop, (∀ k, wY_block_66 post (ce_li b v) (nI (v + 1)) (k + 1) (nI z) (nI n) f_m (nI z) f_acceptedSize (nI st) (nI rz) f_leastSize a_formula a_accepted a_state a_stepLit a_stepBlocks a_past a_pastSize R a_least) → wpY_block post (nI n, f_m, nI z, f_acceptedSize, nI st, f_rawSize, f_leastSize, a_formula, a_accepted, a_state, a_stepLit, a_stepBlocks, a_past, a_pastSize, a_raw, a_least) (ce_li b v) :=
    fun post h => yw_blk_ref hn hv (by omega) (fun a => (h3 a).elim) (fun _ a => (h1 a).elim) (fun _ _ a => absurd a (by omega)) (fun _ _ _ => hq post h)
  refine ⟨rz, R, g1, g2, fun hk post h => pre post (fun k => ?_), fun hk => ?_⟩
  · refine br_t (nI_le (Nat.le_refl _) (by omega)) (nm_r (pk_sub g1) (br_t ?_ h))
    rw [hk, nI_0]
  · obtain ⟨P, p1, p2, p3⟩ := yw_addStep (f_n := nI n) (f_m := f_m) (f_acceptedSize := f_acceptedSize) (f_rawSize := nI rz) (f_leastSize := f_leastSize) (a_formula := a_formula) (a_accepted := a_accepted) (a_state := a_state) (a_stepLit := a_stepLit) (a_stepBlocks := a_stepBlocks) (a_past := a_past) (a_pastSize := a_pastSize) (a_raw := R) (a_least := a_least) hz hst (ce_li b v) 1
    have hok : ∀ c, c ∈ ce_ls R rz → ce_OK n c := by
      intro c hc
      rw [g2, List.mem_filter] at hc
      exact (hL c hc.1).1
    obtain ⟨lz, L, d1, d2, d3, d4⟩ := yw_minimise (f_m := f_m) (f_size := nI z) (f_acceptedSize := f_acceptedSize) (f_stepCount := nI (st + 1)) (f_leastSize := f_leastSize) (a_formula := a_formula) (a_accepted := a_accepted) (a_state := upd a_state (v + 1) 2) (a_stepLit := upd a_stepLit st (ce_li b v)) (a_stepBlocks := upd a_stepBlocks st 1) (a_past := P) (a_pastSize := upd a_pastSize st (nI z)) (a_raw := R) (a_least := a_least) (n := n) (rz := rz) hn (by omega) hok
    obtain ⟨F, f1, f2⟩ := yw_install (f_n := nI n) (f_m := f_m) (f_size := nI z) (f_acceptedSize := f_acceptedSize) (f_stepCount := nI (st + 1)) (f_rawSize := nI rz) (a_formula := a_formula) (a_accepted := a_accepted) (a_state := upd a_state (v + 1) 2) (a_stepLit := upd a_stepLit st (ce_li b v)) (a_stepBlocks := upd a_stepBlocks st 1) (a_past := P) (a_pastSize := upd a_pastSize st (nI z)) (a_raw := R) (a_least := L) (lz := lz) (by omega)
    refine ⟨P, lz, L, F, p1, p2, d1, by rw [f1]; exact d2, fun c => by rw [f1, d3], fun post h => pre post (fun k => ?_)⟩
    refine br_t (nI_le (Nat.le_refl _) (by omega)) (nm_r (pk_sub g1) (br_f (nI_ne0 (by omega) (by omega)) (p3 _ ⟨vp_in_nI (by omega) (by omega), ?_⟩)))
    rw [nI_clamp (show v + 1 < 2 ^ 31 by omega)]
    exact nm_e (d4 _ (f2 _ h))
end
end
section
/-! Y: eliminate -/
abbrev ce_J7 : Type := Int32 → Int32 → Int32 → Int32 → Int32 → Int32 → Int32 → Int32 → ce_A9
section
variable {f_n f_m f_size f_acceptedSize f_stepCount f_rawSize f_leastSize : Int32} {a_formula a_accepted a_state a_stepLit a_stepBlocks a_past a_pastSize a_raw a_least : Nat → Int32}
theorem yw_el107 {n z v i rz : Nat} (hn : n ≤ 8) (hv : v < 8) (hz : z ≤ 16) (hi : i < z) (hL : ∀ c, c ∈ ce_ls a_formula z → ce_C n c) (hb : bt (a_formula i) v = true → rz + (ce_ls a_formula z).countP (fun c => bt c (v + 8)) ≤ 63) :
    ∃ (rz' : Nat) (R' : Nat → Int32), rz' ≤ rz + (if bt (a_formula i) v = true then (ce_ls a_formula z).countP (fun c => bt c (v + 8)) else 0) ∧
    (∀ d, d ∈ ce_ls R' rz' ↔ d ∈ ce_ls a_raw rz ∨ (bt (a_formula i) v = true ∧ ce_RR v (a_formula i) (ce_ls a_formula z) d)) ∧
    ∀ (post : Int32 → SY → Prop) (J : ce_J7), J (nI (i + 1)) (nI n) f_m (nI z) f_acceptedSize f_stepCount (nI rz') f_leastSize a_formula a_accepted a_state a_stepLit a_stepBlocks a_past a_pastSize R' a_least → ∃ k, wY_eliminate_107 post J (nI (v + 1)) (nI i) k 0 (nI n) f_m (nI z) f_acceptedSize f_stepCount (nI rz) f_leastSize a_formula a_accepted a_state a_stepLit a_stepBlocks a_past a_pastSize a_raw a_least := by
  have ei : (nI i).toNatClampNeg = i := nI_clamp (by omega)
  have vi : vp_in (nI i) 16 := vp_in_nI (by omega) (by omega)
  have hx := hL _ (ce_ls_at hi)
  by_cases p : bt (a_formula i) v = true
  · rw [if_pos p]
    have hb' := hb p
    obtain ⟨s, hI, hq⟩ := ce_lpX (σ := Nat × (Nat → Int32)) (Q := (Int32 → SY → Prop) × ce_J7)
      (fun q k j s => wY_eliminate_107 q.1 q.2 (nI (v + 1)) (nI i) k (nI j) (nI n) f_m (nI z) f_acceptedSize f_stepCount (nI s.1) f_leastSize a_formula a_accepted a_state a_stepLit a_stepBlocks a_past a_pastSize s.2 a_least)
      (fun j s => s.1 ≤ rz + (ce_ls a_formula j).countP (fun c => bt c (v + 8)) ∧ ∀ d, d ∈ ce_ls s.2 s.1 ↔ (d ∈ ce_ls a_raw rz ∨ ce_RR v (a_formula i) (ce_ls a_formula j) d)) z
      (by
        rintro j ⟨k, R⟩ hj ⟨g1, g2⟩
        dsimp only at g1 g2
        have ej : (nI j).toNatClampNeg = j := nI_clamp (by omega)
        have vj : vp_in (nI j) 16 := vp_in_nI (by omega) (by omega)
        have hy := hL _ (ce_ls_at hj)
        by_cases hb2 : bt (a_formula j) (v + 8) = true
        · have ec : (ce_ls a_formula (j + 1)).countP (fun c => bt c (v + 8)) = (ce_ls a_formula j).countP (fun c => bt c (v + 8)) + 1 := ce_cnt_t hb2
          have hle := ce_cnt_le (fun c => bt c (v + 8)) a_formula (show j + 1 ≤ z from hj)
          have hok : ce_OK n (ce_rs v (a_formula i) (a_formula j)) := ce_rs_OK hv hx.1 hy.1
          by_cases ht : ce_NT (ce_rs v (a_formula i) (a_formula j))
          · refine ⟨(k + 1, upd R k (ce_rs v (a_formula i) (a_formula j))), ⟨by dsimp only; omega, fun d => ?_⟩, fun q m h => ?_⟩
            · dsimp only
              rw [ce_ls_push, List.mem_append, List.mem_singleton, g2, ce_RR_t (fun d => d ∈ ce_ls a_raw rz) hb2 ht]
            · dsimp only at h ⊢
              refine br_f (nI_ge hj (by omega)) ⟨vi, ?_⟩
              rw [ei, ej]
              refine yw_bit ⟨vj, yw_bit (nm_e ⟨vi, yw_has (ce_br (fun y => (y ((ce_hasN hv true _).mpr p)).elim) (fun _ => ⟨vj, yw_has (ce_br (fun y => (y ((ce_hasN hv false _).mpr hb2)).elim) (fun _ => ?_))⟩))⟩)⟩
              rw [ce_uni hv hx.2 hy.2 p hb2]
              exact yw_clashes hn hok (ce_br (fun _ => yw_put (by omega) (nm_r (nI_1 j) h)) (fun y => (y ht).elim))
          · refine ⟨(k, R), ⟨by dsimp only; omega, fun d => ?_⟩, fun q m h => ?_⟩
            · dsimp only
              rw [g2, ce_RR_f (fun d => d ∈ ce_ls a_raw rz) (fun w => ht w.2)]
            · dsimp only at h ⊢
              refine br_f (nI_ge hj (by omega)) ⟨vi, ?_⟩
              rw [ei, ej]
              refine yw_bit ⟨vj, yw_bit (nm_e ⟨vi, yw_has (ce_br (fun y => (y ((ce_hasN hv true _).mpr p)).elim) (fun _ => ⟨vj, yw_has (ce_br (fun y => (y ((ce_hasN hv false _).mpr hb2)).elim) (fun _ => ?_))⟩))⟩)⟩
              rw [ce_uni hv hx.2 hy.2 p hb2]
              exact yw_clashes hn hok (ce_br (fun y => (y ht).elim) (fun _ => nm_r (nI_1 j) h))
        · have ec : (ce_ls a_formula (j + 1)).countP (fun c => bt c (v + 8)) = (ce_ls a_formula j).countP (fun c => bt c (v + 8)) := ce_cnt_f (ce_nt hb2)
          refine ⟨(k, R), ⟨by dsimp only; omega, fun d => ?_⟩, fun q m h => ?_⟩
          · dsimp only
            rw [g2, ce_RR_f (fun d => d ∈ ce_ls a_raw rz) (fun w => hb2 w.1)]
          · dsimp only at h ⊢
            refine br_f (nI_ge hj (by omega)) ⟨vi, ?_⟩
            rw [ei, ej]
            exact yw_bit ⟨vj, yw_bit (nm_e ⟨vi, yw_has (ce_br (fun y => (y ((ce_hasN hv true _).mpr p)).elim) (fun _ => ⟨vj, yw_has (ce_br (fun _ => nm_r (nI_1 j) h) (fun y => (hb2 ((ce_hasN hv false _).mp y)).elim))⟩))⟩)⟩)
      0 (Nat.zero_le _) (rz, a_raw) ⟨Nat.le_refl _, fun d => ⟨Or.inl, fun w => w.elim id (fun ⟨y, hy, _⟩ => (List.not_mem_nil hy).elim)⟩⟩
    obtain ⟨k, R⟩ := s
    refine ⟨k, R, hI.1, fun d => ?_, fun post J h => hq (post, J) (fun m => br_t (nI_le (Nat.le_refl _) (by omega)) (nm_r (nI_1 i) h))⟩
    rw [hI.2 d]
    exact ⟨fun w => w.elim Or.inl (fun w => Or.inr ⟨p, w⟩), fun w => w.elim Or.inl (fun w => Or.inr w.2)⟩
  · rw [if_neg p]
    refine ⟨rz, a_raw, Nat.le_refl _, fun d => ⟨Or.inl, fun w => w.elim id (fun w => (p w.1).elim)⟩, fun post J h => ?_⟩
    refine loop_0 (fun k j (_ : Unit) => wY_eliminate_107 post J (nI (v + 1)) (nI i) k (nI j) (nI n) f_m (nI z) f_acceptedSize f_stepCount (nI rz) f_leastSize a_formula a_accepted a_state a_stepLit a_stepBlocks a_past a_pastSize a_raw a_least) (fun _ _ => True) z () trivial ?_ ?_
    · intro k s _
      exact br_t (nI_le (Nat.le_refl _) (by omega)) (nm_r (nI_1 i) h)
    · intro k j s hj _ ih
      refine br_f (nI_ge hj (by omega)) ⟨vi, ?_⟩
      rw [ei]
      exact yw_bit ⟨vp_in_nI (by omega) (by omega), yw_bit (nm_e ⟨vi, yw_has (ce_br (fun _ => nm_r (nI_1 j) (ih () trivial)) (fun y => (p ((ce_hasN hv true _).mp y)).elim))⟩)⟩
theorem yw_el73 {n z v : Nat} (hn : n ≤ 8) (hv : v < 8) (hz : z ≤ 16) (hL : ∀ c, c ∈ ce_ls a_formula z → ce_C n c) (hb : (ce_ls a_formula z).countP (ce_nv v) + (ce_ls a_formula z).countP (fun c => bt c v) * (ce_ls a_formula z).countP (fun c => bt c (v + 8)) ≤ 32) :
    ∃ (rz : Nat) (R : Nat → Int32), rz ≤ 32 ∧ (∀ d, d ∈ ce_ls R rz ↔ ce_Re (ce_ls a_formula z) v d) ∧
    ∀ post : Int32 → SY → Prop, (∀ k, wY_eliminate_73 post (nI (v + 1)) (k + 1) (nI z) (nI n) f_m (nI z) f_acceptedSize f_stepCount (nI rz) f_leastSize a_formula a_accepted a_state a_stepLit a_stepBlocks a_past a_pastSize R a_least) → ∃ k, wY_eliminate_73 post (nI (v + 1)) k 0 (nI n) f_m (nI z) f_acceptedSize f_stepCount 0 f_leastSize a_formula a_accepted a_state a_stepLit a_stepBlocks a_past a_pastSize a_raw a_least := by
  obtain ⟨s, hI, hq⟩ := ce_lpX (σ := Nat × (Nat → Int32)) (Q := Int32 → SY → Prop)
    (fun q k i s => wY_eliminate_73 q (nI (v + 1)) k (nI i) (nI n) f_m (nI z) f_acceptedSize f_stepCount (nI s.1) f_leastSize a_formula a_accepted a_state a_stepLit a_stepBlocks a_past a_pastSize s.2 a_least)
    (fun i s => s.1 ≤ (ce_ls a_formula i).countP (ce_nv v) + (ce_ls a_formula i).countP (fun c => bt c v) * (ce_ls a_formula z).countP (fun c => bt c (v + 8)) ∧ ∀ d, d ∈ ce_ls s.2 s.1 ↔ ce_Rp (ce_ls a_formula z) v (ce_ls a_formula i) d) z
    (by
      rintro i ⟨k, R⟩ hi ⟨g1, g2⟩
      dsimp only at g1 g2
      have ei : (nI i).toNatClampNeg = i := nI_clamp (by omega)
      have vi : vp_in (nI i) 16 := vp_in_nI (by omega) (by omega)
      have l1 := ce_cnt_le (ce_nv v) a_formula (show i + 1 ≤ z from hi)
      have l2 := Nat.mul_le_mul_right ((ce_ls a_formula z).countP (fun c => bt c (v + 8))) (ce_cnt_le (fun c => bt c v) a_formula (show i + 1 ≤ z from hi))
      by_cases p : bt (a_formula i) v = true
      · have ec : (ce_ls a_formula (i + 1)).countP (fun c => bt c v) = (ce_ls a_formula i).countP (fun c => bt c v) + 1 := ce_cnt_t p
        have l3 := ce_cnt_le (ce_nv v) a_formula (show i ≤ i + 1 by omega)
        rw [ec, Nat.add_mul, Nat.one_mul] at l2
        obtain ⟨w', W', f1, f2, f3⟩ := yw_el107 (f_m := f_m) (f_acceptedSize := f_acceptedSize) (f_stepCount := f_stepCount) (f_leastSize := f_leastSize) (a_formula := a_formula) (a_accepted := a_accepted) (a_state := a_state) (a_stepLit := a_stepLit) (a_stepBlocks := a_stepBlocks) (a_past := a_past) (a_pastSize := a_pastSize) (a_raw := R) (a_least := a_least) (n := n) (rz := k) hn hv hz hi hL (fun _ => by omega)
        rw [if_pos p] at f1
        refine ⟨(w', W'), ⟨?_, fun d => ?_⟩, fun q m h => ?_⟩
        · dsimp only
          rw [ec, Nat.add_mul, Nat.one_mul]
          omega
        · dsimp only
          rw [f2, g2, ← ce_Rp_pos p]
          exact ⟨fun w => w.elim Or.inl (fun w => Or.inr w.2), fun w => w.elim Or.inl (fun w => Or.inr ⟨p, w⟩)⟩
        · dsimp only at h ⊢
          refine br_f (nI_ge hi (by omega)) ⟨vi, ?_⟩
          rw [ei]
          exact yw_mentions hv (ce_br (fun y => (y ((ce_boN hv _).mpr (Or.inl p))).elim) (fun _ => f3 q _ h))
      · have ec : (ce_ls a_formula (i + 1)).countP (fun c => bt c v) = (ce_ls a_formula i).countP (fun c => bt c v) := ce_cnt_f (ce_nt p)
        by_cases q : bt (a_formula i) (v + 8) = true
        · have ec2 : (ce_ls a_formula (i + 1)).countP (ce_nv v) = (ce_ls a_formula i).countP (ce_nv v) := ce_cnt_f (by unfold ce_nv; rw [q]; simp)
          obtain ⟨w', W', f1, f2, f3⟩ := yw_el107 (f_m := f_m) (f_acceptedSize := f_acceptedSize) (f_stepCount := f_stepCount) (f_leastSize := f_leastSize) (a_formula := a_formula) (a_accepted := a_accepted) (a_state := a_state) (a_stepLit := a_stepLit) (a_stepBlocks := a_stepBlocks) (a_past := a_past) (a_pastSize := a_pastSize) (a_raw := R) (a_least := a_least) (n := n) (rz := k) hn hv hz hi hL (fun w => (p w).elim)
          rw [if_neg p] at f1
          refine ⟨(w', W'), ⟨by dsimp only; rw [ec, ec2]; omega, fun d => ?_⟩, fun q' m h => ?_⟩
          · dsimp only
            rw [f2, g2, ← ce_Rp_neg (ce_nt p) q]
            exact ⟨fun w => w.elim id (fun w => (p w.1).elim), Or.inl⟩
          · dsimp only at h ⊢
            refine br_f (nI_ge hi (by omega)) ⟨vi, ?_⟩
            rw [ei]
            exact yw_mentions hv (ce_br (fun y => (y ((ce_boN hv _).mpr (Or.inr q))).elim) (fun _ => f3 q' _ h))
        · have ec2 : (ce_ls a_formula (i + 1)).countP (ce_nv v) = (ce_ls a_formula i).countP (ce_nv v) + 1 := ce_cnt_t (ce_nv_t (ce_nt p) (ce_nt q))
          rw [ec] at l2
          obtain ⟨w', W', f1, f2, f3⟩ := yw_el107 (f_m := f_m) (f_acceptedSize := f_acceptedSize) (f_stepCount := f_stepCount) (f_leastSize := f_leastSize) (a_formula := a_formula) (a_accepted := a_accepted) (a_state := a_state) (a_stepLit := a_stepLit) (a_stepBlocks := a_stepBlocks) (a_past := a_past) (a_pastSize := a_pastSize) (a_raw := upd R k (a_formula i)) (a_least := a_least) (n := n) (rz := k + 1) hn hv hz hi hL (fun w => (p w).elim)
          rw [if_neg p] at f1
          refine ⟨(w', W'), ⟨by dsimp only; rw [ec, ec2]; omega, fun d => ?_⟩, fun q' m h => ?_⟩
          · dsimp only
            rw [f2, ce_ls_push, List.mem_append, List.mem_singleton, g2, ← ce_Rp_nov (ce_nt p) (ce_nt q)]
            exact ⟨fun w => w.elim id (fun w => (p w.1).elim), Or.inl⟩
          · dsimp only at h ⊢
            refine br_f (nI_ge hi (by omega)) ⟨vi, ?_⟩
            rw [ei]
            refine yw_mentions hv (ce_br (fun _ => ⟨vi, yw_put (by omega) (f3 q' _ h)⟩) (fun y => ?_))
            rcases (ce_boN hv _).mp y with w | w
            · exact (p w).elim
            · exact (q w).elim)
    0 (Nat.zero_le _) (0, a_raw) ⟨Nat.zero_le _, fun d => ⟨fun h => (List.not_mem_nil h).elim, fun h => by
      rcases h with ⟨h, _⟩ | ⟨x, y, h, _⟩
      · exact (List.not_mem_nil h).elim
      · exact (List.not_mem_nil h).elim⟩⟩
  obtain ⟨k, R⟩ := s
  exact ⟨k, R, Nat.le_trans hI.1 hb, hI.2, fun post h => hq post h⟩
theorem yw_el_bad {post : Int32 → SY → Prop} {n : Nat} {x : Int32} (hx : x < 1 ∨ nI n < x) (h : post (-1) (nI n, f_m, f_size, f_acceptedSize, f_stepCount, f_rawSize, f_leastSize, a_formula, a_accepted, a_state, a_stepLit, a_stepBlocks, a_past, a_pastSize, a_raw, a_least)) : wpY_eliminate post (nI n, f_m, f_size, f_acceptedSize, f_stepCount, f_rawSize, f_leastSize, a_formula, a_accepted, a_state, a_stepLit, a_stepBlocks, a_past, a_pastSize, a_raw, a_least) x := by
  refine br_c (fun _ => h) (fun y => br_f (fun w => ?_) h)
  rcases hx with hx | hx
  · exact y hx
  · exact Int32.not_le.mpr hx w
theorem yw_el_ref {post : Int32 → SY → Prop} {n z v st : Nat} (hn : n ≤ 8) (hv : v < n) (hz : z ≤ 16) (hs : st ≤ 16) (h3 : a_state (v + 1) = 3 → post (-6) (nI n, f_m, nI z, f_acceptedSize, nI st, f_rawSize, f_leastSize, a_formula, a_accepted, a_state, a_stepLit, a_stepBlocks, a_past, a_pastSize, a_raw, a_least)) (h1 : ¬ a_state (v + 1) = 3 → a_state (v + 1) = 1 → post (-5) (nI n, f_m, nI z, f_acceptedSize, nI st, f_rawSize, f_leastSize, a_formula, a_accepted, a_state, a_stepLit, a_stepBlocks, a_past, a_pastSize, a_raw, a_least))
    (hf : ¬ a_state (v + 1) = 3 → ¬ a_state (v + 1) = 1 → 16 ≤ st → post (-4) (nI n, f_m, nI z, f_acceptedSize, nI st, f_rawSize, f_leastSize, a_formula, a_accepted, a_state, a_stepLit, a_stepBlocks, a_past, a_pastSize, a_raw, a_least))
    (h8 : ¬ a_state (v + 1) = 3 → ¬ a_state (v + 1) = 1 → st < 16 → 8 < (ce_ls a_formula z).countP (fun c => ce_d (¬ c &&& ce_bo (nI (v + 1)) = 0)) → post (-7) (nI n, f_m, nI z, f_acceptedSize, nI st, f_rawSize, f_leastSize, a_formula, a_accepted, a_state, a_stepLit, a_stepBlocks, a_past, a_pastSize, a_raw, a_least))
    (h0 : ¬ a_state (v + 1) = 3 → ¬ a_state (v + 1) = 1 → st < 16 → (ce_ls a_formula z).countP (fun c => ce_d (¬ c &&& ce_bo (nI (v + 1)) = 0)) ≤ 8 → ∃ k, wY_eliminate_73 post (nI (v + 1)) k 0 (nI n) f_m (nI z) f_acceptedSize (nI st) 0 f_leastSize a_formula a_accepted a_state a_stepLit a_stepBlocks a_past a_pastSize a_raw a_least) : wpY_eliminate post (nI n, f_m, nI z, f_acceptedSize, nI st, f_rawSize, f_leastSize, a_formula, a_accepted, a_state, a_stepLit, a_stepBlocks, a_past, a_pastSize, a_raw, a_least) (nI (v + 1)) := by
  have hk := ce_cnt_k (fun c => ce_d (¬ c &&& ce_bo (nI (v + 1)) = 0)) a_formula z
  refine br_f (nI_nlt (b := 1) (by omega) (by omega)) (br_t (nI_le (by omega) (by omega)) ⟨vp_in_nI (by omega) (by omega), ?_⟩)
  rw [nI_clamp (show v + 1 < 2 ^ 31 by omega)]
  refine br_c h3 (fun a => ⟨vp_in_nI (by omega) (by omega), br_c (h1 a) (fun c => pk_lt st 16 (fun d => ?_) (hf a c))⟩)
  exact yw_occurrences (by omega) hz (pk_le _ 8 (h0 a c d) (h8 a c d))
theorem yw_eliminate {n z v st : Nat} (hn : n ≤ 8) (hv : v < n) (hz : z ≤ 16) (hst : st < 16) (h3 : ¬ a_state (v + 1) = 3) (h1 : ¬ a_state (v + 1) = 1) (hL : ∀ c, c ∈ ce_ls a_formula z → ce_C n c)
    (ho : (ce_ls a_formula z).countP (fun c => ce_d (¬ c &&& ce_bo (nI (v + 1)) = 0)) ≤ 8) : ∃ (rz lz : Nat) (R L : Nat → Int32), (ce_ls L lz).Nodup ∧ (∀ c, c ∈ ce_ls L lz ↔ ce_Mi (ce_Re (ce_ls a_formula z) v) c) ∧
    (z < lz → ∀ post : Int32 → SY → Prop, post (-7) (nI n, f_m, nI z, f_acceptedSize, nI st, nI rz, nI lz, a_formula, a_accepted, a_state, a_stepLit, a_stepBlocks, a_past, a_pastSize, R, L) → wpY_eliminate post (nI n, f_m, nI z, f_acceptedSize, nI st, f_rawSize, f_leastSize, a_formula, a_accepted, a_state, a_stepLit, a_stepBlocks, a_past, a_pastSize, a_raw, a_least) (nI (v + 1))) ∧
    (lz ≤ z → ∃ (P F : Nat → Int32), ce_sg P (16 * st) z = ce_ls a_formula z ∧ (∀ j, j < 16 * st → P j = a_past j) ∧ ce_ls F lz = ce_ls L lz ∧
      ∀ post : Int32 → SY → Prop, post 1 (nI n, f_m, nI lz, f_acceptedSize, nI (st + 1), nI rz, nI lz, F, a_accepted, upd a_state (v + 1) 3, upd a_stepLit st (nI (v + 1)), upd a_stepBlocks st 0, P, upd a_pastSize st (nI z), R, L) → wpY_eliminate post (nI n, f_m, nI z, f_acceptedSize, nI st, f_rawSize, f_leastSize, a_formula, a_accepted, a_state, a_stepLit, a_stepBlocks, a_past, a_pastSize, a_raw, a_least) (nI (v + 1))) := by
  have hv8 : v < 8 := by omega
  have hsum := ce_occ hv8 (ce_ls a_formula z) (fun c hc => (hL c hc).2)
  have hb : (ce_ls a_formula z).countP (ce_nv v) + (ce_ls a_formula z).countP (fun c => bt c v) * (ce_ls a_formula z).countP (fun c => bt c (v + 8)) ≤ 32 := by
    have a1 := ce_cnt_k (ce_nv v) a_formula z
    have a2 := ce_pq ((ce_ls a_formula z).countP (fun c => bt c v)) (by omega) ((ce_ls a_formula z).countP (fun c => bt c (v + 8))) (by omega) (by omega)
    omega
  obtain ⟨rz, R, g1, g2, g3⟩ := yw_el73 (f_m := f_m) (f_acceptedSize := f_acceptedSize) (f_stepCount := nI st) (f_leastSize := f_leastSize) (a_formula := a_formula) (a_accepted := a_accepted) (a_state := a_state) (a_stepLit := a_stepLit) (a_stepBlocks := a_stepBlocks) (a_past := a_past) (a_pastSize := a_pastSize) (a_raw := a_raw) (a_least := a_least) (n := n) hn hv8 hz hL hb
  have hok : ∀ c, c ∈ ce_ls R rz → ce_OK n c := fun c hc => (ce_Re_C hv8 hL ((g2 c).mp hc)).1
  obtain ⟨lz, L, d1, d2, d3, d4⟩ := yw_minimise (f_m := f_m) (f_size := nI z) (f_acceptedSize := f_acceptedSize) (f_stepCount := nI st) (f_leastSize := f_leastSize) (a_formula := a_formula) (a_accepted := a_accepted) (a_state := a_state) (a_stepLit := a_stepLit) (a_stepBlocks := a_stepBlocks) (a_past := a_past) (a_pastSize := a_pastSize) (a_raw := R) (a_least := a_least) (n := n) (rz := rz) hn (by omega) hok
  have pre : ∀ post : Int32 → SY → Prop, (∀ k, wY_eliminate_73 post (nI (v + 1)) (k + 1) (nI z) (nI n) f_m (nI z) f_acceptedSize (nI st) (nI rz) f_leastSize a_formula a_accepted a_state a_stepLit a_stepBlocks a_past a_pastSize R a_least) → wpY_eliminate post (nI n, f_m, nI z, f_acceptedSize, nI st, f_rawSize, f_leastSize, a_formula, a_accepted, a_state, a_stepLit, a_stepBlocks, a_past, a_pastSize, a_raw, a_least) (nI (v + 1)) :=
    fun post h => yw_el_ref hn hv hz (by omega) (fun a => (h3 a).elim) (fun _ a => (h1 a).elim) (fun _ _ a => absurd a (by omega)) (fun _ _ _ a => absurd a (by omega)) (fun _ _ _ _ => g3 post h)
  refine ⟨rz, lz, R, L, d2, fun c => ?_, fun hw post h => pre post (fun k => ?_), fun hw => ?_⟩
  · rw [d3, show (fun d => d ∈ ce_ls R rz) = ce_Re (ce_ls a_formula z) v from funext (fun d => propext (g2 d))]
  · exact br_t (nI_le (Nat.le_refl _) (by omega)) (d4 _ (br_f (nI_ge hw (by omega)) h))
  · obtain ⟨P, p1, p2, p3⟩ := yw_addStep (f_n := nI n) (f_m := f_m) (f_acceptedSize := f_acceptedSize) (f_rawSize := nI rz) (f_leastSize := nI lz) (a_formula := a_formula) (a_accepted := a_accepted) (a_state := a_state) (a_stepLit := a_stepLit) (a_stepBlocks := a_stepBlocks) (a_past := a_past) (a_pastSize := a_pastSize) (a_raw := R) (a_least := L) hz hst (nI (v + 1)) 0
    obtain ⟨F, f1, f2⟩ := yw_install (f_n := nI n) (f_m := f_m) (f_size := nI z) (f_acceptedSize := f_acceptedSize) (f_stepCount := nI (st + 1)) (f_rawSize := nI rz) (a_formula := a_formula) (a_accepted := a_accepted) (a_state := a_state) (a_stepLit := upd a_stepLit st (nI (v + 1))) (a_stepBlocks := upd a_stepBlocks st 0) (a_past := P) (a_pastSize := upd a_pastSize st (nI z)) (a_raw := R) (a_least := L) (lz := lz) (by omega)
    refine ⟨P, F, p1, p2, f1, fun post h => pre post (fun k => ?_)⟩
    refine br_t (nI_le (Nat.le_refl _) (by omega)) (d4 _ (br_t (nI_le hw (by omega)) (p3 _ (f2 _ ⟨vp_in_nI (by omega) (by omega), ?_⟩))))
    rw [nI_clamp (show v + 1 < 2 ^ 31 by omega)]
    exact nm_e h
end
end
section
/-! Y: clause -/
section
variable {f_n f_m f_size f_acceptedSize f_stepCount f_rawSize f_leastSize : Int32} {a_formula a_accepted a_state a_stepLit a_stepBlocks a_past a_pastSize a_raw a_least : Nat → Int32}
theorem yw_cl_pre {post : Int32 → SY → Prop} {n : Nat} {a b c d : Int32} (hn : n ≤ 8) (h1 : ¬ ce_ok4 n a b c d → post (-1) (nI n, f_m, f_size, f_acceptedSize, f_stepCount, f_rawSize, f_leastSize, a_formula, a_accepted, a_state, a_stepLit, a_stepBlocks, a_past, a_pastSize, a_raw, a_least)) (h2 : ce_ok4 n a b c d → wY_clause_73 post a b c d (nI n) f_m f_size f_acceptedSize f_stepCount f_rawSize f_leastSize a_formula a_accepted a_state a_stepLit a_stepBlocks a_past a_pastSize a_raw a_least) : wpY_clause post (nI n, f_m, f_size, f_acceptedSize, f_stepCount, f_rawSize, f_leastSize, a_formula, a_accepted, a_state, a_stepLit, a_stepBlocks, a_past, a_pastSize, a_raw, a_least) a b c d := by
  have r0 := ce_rg0 n (by omega)
  have s4 : ce_rg n a → ce_rg n b → ce_rg n c → ce_rg n d → wY_clause_54 post a b c d (nI n) f_m f_size f_acceptedSize f_stepCount f_rawSize f_leastSize a_formula a_accepted a_state a_stepLit a_stepBlocks a_past a_pastSize a_raw a_least := by
    intro ra rb rc rd
    unfold wY_clause_54
    refine br_c (fun ea => br_c (fun eb => br_c (fun ec => br_c (fun ed => h1 (fun k => k.1 ⟨ea, eb, ec, ed⟩)) (fun ed => ?_)) (fun ec => ?_)) (fun eb => ?_)) (fun ea => ?_)
    · exact h2 ⟨fun w => ed w.2.2.2, ra, rb, rc, rd⟩
    · exact h2 ⟨fun w => ec w.2.2.1, ra, rb, rc, rd⟩
    · exact h2 ⟨fun w => eb w.2.1, ra, rb, rc, rd⟩
    · exact h2 ⟨fun w => ea w.1, ra, rb, rc, rd⟩
  have s3 : ce_rg n a → ce_rg n b → ce_rg n c → wY_clause_38 post a b c d (nI n) f_m f_size f_acceptedSize f_stepCount f_rawSize f_leastSize a_formula a_accepted a_state a_stepLit a_stepBlocks a_past a_pastSize a_raw a_least := by
    intro ra rb rc
    unfold wY_clause_38
    refine br_c (fun e => s4 ra rb rc (by rw [e]; exact r0)) (fun e => yw_isLiteral (ce_br (fun y => h1 (fun k => y ⟨e, k.2.2.2.2⟩)) (fun y => s4 ra rb rc y.2)))
  have s2 : ce_rg n a → ce_rg n b → wY_clause_26 post a b c d (nI n) f_m f_size f_acceptedSize f_stepCount f_rawSize f_leastSize a_formula a_accepted a_state a_stepLit a_stepBlocks a_past a_pastSize a_raw a_least := by
    intro ra rb
    unfold wY_clause_26
    refine br_c (fun e => s3 ra rb (by rw [e]; exact r0)) (fun e => yw_isLiteral (ce_br (fun y => h1 (fun k => y ⟨e, k.2.2.2.1⟩)) (fun y => s3 ra rb y.2)))
  have s1 : ce_rg n a → wY_clause_12 post a b c d (nI n) f_m f_size f_acceptedSize f_stepCount f_rawSize f_leastSize a_formula a_accepted a_state a_stepLit a_stepBlocks a_past a_pastSize a_raw a_least := by
    intro ra
    unfold wY_clause_12
    refine br_c (fun e => s2 ra (by rw [e]; exact r0)) (fun e => yw_isLiteral (ce_br (fun y => h1 (fun k => y ⟨e, k.2.2.1⟩)) (fun y => s2 ra y.2)))
  exact br_c (fun e => s1 (by rw [e]; exact r0)) (fun e => yw_isLiteral (ce_br (fun y => h1 (fun k => y ⟨e, k.2.1⟩)) (fun y => s1 y.2)))
theorem yw_cl {post : Int32 → SY → Prop} {n ac : Nat} {a b c d : Int32} (hn : n ≤ 8) (hac : ac ≤ 32) (hb : ce_ok4 n a b c d) (ht : ¬ ce_NT (ce_cd a b c d) → post (-2) (nI n, f_m, f_size, nI ac, f_stepCount, f_rawSize, f_leastSize, a_formula, a_accepted, a_state, a_stepLit, a_stepBlocks, a_past, a_pastSize, a_raw, a_least)) (hto : ce_NT (ce_cd a b c d) → ce_tch n a_state (ce_cd a b c d) → post (-3) (nI n, f_m, f_size, nI ac, f_stepCount, f_rawSize, f_leastSize, a_formula, a_accepted, a_state, a_stepLit, a_stepBlocks, a_past, a_pastSize, a_raw, a_least))
    (hf : ce_NT (ce_cd a b c d) → ¬ ce_tch n a_state (ce_cd a b c d) → 32 ≤ ac → post (-4) (nI n, f_m, f_size, nI ac, f_stepCount, f_rawSize, f_leastSize, a_formula, a_accepted, a_state, a_stepLit, a_stepBlocks, a_past, a_pastSize, a_raw, a_least))
    (hj : ce_NT (ce_cd a b c d) → ¬ ce_tch n a_state (ce_cd a b c d) → ac < 32 → ∃ k, wY_clause_188 post (ce_cd a b c d) k 0 0 (nI n) f_m f_size (nI ac) f_stepCount 0 f_leastSize a_formula a_accepted a_state a_stepLit a_stepBlocks a_past a_pastSize a_raw a_least) : wY_clause_73 post a b c d (nI n) f_m f_size (nI ac) f_stepCount f_rawSize f_leastSize a_formula a_accepted a_state a_stepLit a_stepBlocks a_past a_pastSize a_raw a_least := by
  unfold wY_clause_73
  refine yw_bit (yw_bit (yw_bit (yw_bit (nm_e ?_))))
  refine yw_clashes hn (ce_cd_OK hn hb) (ce_br (fun y => ?_) (fun y => ht y))
  have y' : ce_NT (ce_cd a b c d) := Classical.byContradiction y
  refine loop_0 (fun k i (_ : Unit) => wY_clause_114 post (ce_cd a b c d) (nI n) f_m f_size (nI ac) f_stepCount f_rawSize f_leastSize a_formula a_accepted a_state a_stepLit a_stepBlocks a_past a_pastSize a_raw a_least k (nI (i + 1))) (fun i _ => ∀ v, v < i → ¬ (¬ ce_cd a b c d &&& ce_bo (nI (v + 1)) = 0 ∧ (a_state (v + 1) = 2 ∨ a_state (v + 1) = 3))) n () lt_0 ?_ ?_
  · intro k s hI
    have nt : ¬ ce_tch n a_state (ce_cd a b c d) := by
      rintro ⟨v, hv, e⟩
      exact hI v hv e
    exact br_t (nI_lt (by omega) (by omega)) (pk_lt ac 32 (hj y' nt) (hf y' nt))
  · intro k i s hi hI ih
    refine br_f (nI_nlt (by omega) (by omega)) (yw_mentions (by omega) ?_)
    have hc : (nI (i + 1)).toNatClampNeg = i + 1 := nI_clamp (by omega)
    rw [hc]
    refine ce_br (fun z => nm_r (nI_1 (i + 1)) (ih () (lt_s hI (fun w => z w.1)))) (fun z => ⟨vp_in_nI (by omega) (by omega), ?_⟩)
    refine br_c (fun t => hto y' ⟨i, hi, z, Or.inl t⟩) (fun t => ⟨vp_in_nI (by omega) (by omega), ?_⟩)
    exact br_c (fun x => hto y' ⟨i, hi, z, Or.inr x⟩) (fun x => nm_r (nI_1 (i + 1)) (ih () (lt_s hI (fun w => w.2.elim t x))))
theorem yw_join {n z m ac : Nat} (hn : n ≤ 8) (hz : z ≤ 16) (hm : m ≤ 16) (hac : ac < 32) {c : Int32} (hc : ce_OK n c) (hL : ∀ c, c ∈ ce_ls a_formula z → ce_C n c) : ∃ (lz : Nat) (R L : Nat → Int32), lz ≤ z + 1 ∧ (ce_ls L lz).Nodup ∧ (∀ d, d ∈ ce_ls L lz ↔ ce_Mi (fun d => d ∈ ce_ls a_formula z ∨ d = c) d) ∧
    ((∃ x, x ∈ ce_ls a_formula z ∧ ce_Sub x c) → ∀ post : Int32 → SY → Prop, post 2 (nI n, nI m, nI z, nI (ac + 1), f_stepCount, nI (z + 1), nI lz, a_formula, upd a_accepted ac c, a_state, a_stepLit, a_stepBlocks, a_past, a_pastSize, R, L) → ∃ k, wY_clause_188 post c k 0 0 (nI n) (nI m) (nI z) (nI ac) f_stepCount 0 f_leastSize a_formula a_accepted a_state a_stepLit a_stepBlocks a_past a_pastSize a_raw a_least) ∧
    ((¬ ∃ x, x ∈ ce_ls a_formula z ∧ ce_Sub x c) → m < lz → ∀ post : Int32 → SY → Prop, post (-4) (nI n, nI m, nI z, nI ac, f_stepCount, nI (z + 1), nI lz, a_formula, a_accepted, a_state, a_stepLit, a_stepBlocks, a_past, a_pastSize, R, L) → ∃ k, wY_clause_188 post c k 0 0 (nI n) (nI m) (nI z) (nI ac) f_stepCount 0 f_leastSize a_formula a_accepted a_state a_stepLit a_stepBlocks a_past a_pastSize a_raw a_least) ∧
    ((¬ ∃ x, x ∈ ce_ls a_formula z ∧ ce_Sub x c) → lz ≤ m → ∃ F : Nat → Int32, ce_ls F lz = ce_ls L lz ∧ ∀ post : Int32 → SY → Prop, post 1 (nI n, nI m, nI lz, nI (ac + 1), f_stepCount, nI (z + 1), nI lz, F, upd a_accepted ac c, a_state, a_stepLit, a_stepBlocks, a_past, a_pastSize, R, L) → ∃ k, wY_clause_188 post c k 0 0 (nI n) (nI m) (nI z) (nI ac) f_stepCount 0 f_leastSize a_formula a_accepted a_state a_stepLit a_stepBlocks a_past a_pastSize a_raw a_least) := by
  obtain ⟨V, hI, hq⟩ := ce_lpX (σ := Nat → Int32) (Q := Int32 → SY → Prop)
    (fun q k i s => wY_clause_188 q c k (ce_b (False ∨ ∃ j, j < i ∧ ce_Sub (a_formula j) c)) (nI i) (nI n) (nI m) (nI z) (nI ac) f_stepCount (nI i) f_leastSize a_formula a_accepted a_state a_stepLit a_stepBlocks a_past a_pastSize s a_least)
    (fun i s => ce_ls s i = ce_ls a_formula i) z
    (by
      intro i V hi hI
      refine ⟨upd V i (a_formula i), by rw [ce_ls_push, hI, ce_ls_s], fun q k h => ?_⟩
      have ei : (nI i).toNatClampNeg = i := nI_clamp (by omega)
      refine br_f (nI_ge hi (by omega)) ⟨vp_in_nI (by omega) (by omega), ?_⟩
      rw [ei]
      refine yw_within hn (hL _ (ce_ls_at hi)).1 (ce_br (fun y => ?_) (fun y => ?_))
      · rw [ce_ex_f y] at h
        refine ⟨vp_in_nI (by omega) (by omega), ?_⟩
        rw [ei]
        exact yw_put (by omega) (nm_r (nI_1 i) h)
      · rw [ce_ex_t y] at h
        refine ⟨vp_in_nI (by omega) (by omega), ?_⟩
        rw [ei]
        exact yw_put (by omega) (nm_r (nI_1 i) h))
    0 (Nat.zero_le _) a_raw rfl
  have e0 : ce_b (False ∨ ∃ j, j < 0 ∧ ce_Sub (a_formula j) c) = 0 := ce_bf (fun w => w.elim id (fun ⟨j, hj, _⟩ => absurd hj (Nat.not_lt_zero j)))
  rw [e0] at hq
  have es : (False ∨ ∃ j, j < z ∧ ce_Sub (a_formula j) c) ↔ ∃ x, x ∈ ce_ls a_formula z ∧ ce_Sub x c := by
    constructor
    · rintro (w | ⟨j, hj, s⟩)
      · exact w.elim
      · exact ⟨_, ce_ls_at hj, s⟩
    · rintro ⟨x, hx, s⟩
      obtain ⟨j, hj, rfl⟩ := ce_ls_mem.mp hx
      exact Or.inr ⟨j, hj, s⟩
  rw [ce_bc es] at hq
  have hR : ce_ls (upd V z c) (z + 1) = ce_ls a_formula z ++ [c] := by rw [ce_ls_push, hI]
  have hmR : ∀ d, d ∈ ce_ls (upd V z c) (z + 1) ↔ (d ∈ ce_ls a_formula z ∨ d = c) := by
    intro d
    rw [hR, List.mem_append, List.mem_singleton]
  have hok : ∀ d, d ∈ ce_ls (upd V z c) (z + 1) → ce_OK n d := by
    intro d hd
    rcases (hmR d).mp hd with w | w
    · exact (hL d w).1
    · rw [w]; exact hc
  obtain ⟨lz, L, d1, d2, d3, d4⟩ := yw_minimise (f_m := nI m) (f_size := nI z) (f_acceptedSize := nI ac) (f_stepCount := f_stepCount) (f_leastSize := f_leastSize) (a_formula := a_formula) (a_accepted := a_accepted) (a_state := a_state) (a_stepLit := a_stepLit) (a_stepBlocks := a_stepBlocks) (a_past := a_past) (a_pastSize := a_pastSize) (a_raw := upd V z c) (a_least := a_least) (n := n) (rz := z + 1) hn (by omega) hok
  have hca : (nI ac).toNatClampNeg = ac := nI_clamp (by omega)
  have fin : ∀ post : Int32 → SY → Prop, (((ce_b (∃ x, x ∈ ce_ls a_formula z ∧ ce_Sub x c) = 0 → ((nI lz ≤ nI m → wY_clause_262 post c (ce_b (∃ x, x ∈ ce_ls a_formula z ∧ ce_Sub x c)) (nI n) (nI m) (nI z) (nI ac) f_stepCount (nI (z + 1)) (nI lz) a_formula a_accepted a_state a_stepLit a_stepBlocks a_past a_pastSize (upd V z c) L) ∧ (¬ nI lz ≤ nI m → post (-4) (nI n, nI m, nI z, nI ac, f_stepCount, nI (z + 1), nI lz, a_formula, a_accepted, a_state, a_stepLit, a_stepBlocks, a_past, a_pastSize, upd V z c, L)))) ∧ (¬ ce_b (∃ x, x ∈ ce_ls a_formula z ∧ ce_Sub x c) = 0 → wY_clause_262 post c (ce_b (∃ x, x ∈ ce_ls a_formula z ∧ ce_Sub x c)) (nI n) (nI m) (nI z) (nI ac) f_stepCount (nI (z + 1)) (nI lz) a_formula a_accepted a_state a_stepLit a_stepBlocks a_past a_pastSize (upd V z c) L))) → ∃ k, wY_clause_188 post c k 0 0 (nI n) (nI m) (nI z) (nI ac) f_stepCount 0 f_leastSize a_formula a_accepted a_state a_stepLit a_stepBlocks a_past a_pastSize a_raw a_least := by
    intro post h
    refine hq post (fun k => ?_)
    exact br_t (nI_le (Nat.le_refl _) (by omega)) (yw_put (by omega) (d4 _ h))
  refine ⟨lz, upd V z c, L, d1, d2, fun d => ?_, fun hs post h => fin post ?_, fun hs hw post h => fin post ?_, fun hs hw => ?_⟩
  · rw [d3, show (fun d => d ∈ ce_ls (upd V z c) (z + 1)) = (fun d => d ∈ ce_ls a_formula z ∨ d = c) from funext (fun d => propext (hmR d))]
  · refine ce_br (fun y => (y hs).elim) (fun _ => ⟨vp_in_nI (by omega) (by omega), ?_⟩)
    rw [hca]
    exact nm_e (nm_r (nI_1 ac) (br_f (by rw [ce_bt hs]; decide) h))
  · exact ce_br (fun _ => br_f (nI_ge hw (by omega)) h) (fun y => (hs y).elim)
  · obtain ⟨F, f1, f2⟩ := yw_install (f_n := nI n) (f_m := nI m) (f_size := nI z) (f_acceptedSize := nI (ac + 1)) (f_stepCount := f_stepCount) (f_rawSize := nI (z + 1)) (a_formula := a_formula) (a_accepted := upd a_accepted ac c) (a_state := a_state) (a_stepLit := a_stepLit) (a_stepBlocks := a_stepBlocks) (a_past := a_past) (a_pastSize := a_pastSize) (a_raw := upd V z c) (a_least := L) (lz := lz) (by omega)
    refine ⟨F, f1, fun post h => fin post (ce_br (fun _ => br_t (nI_le hw (by omega)) ⟨vp_in_nI (by omega) (by omega), ?_⟩) (fun y => (hs y).elim))⟩
    rw [hca]
    exact nm_e (nm_r (nI_1 ac) (br_t (ce_bf hs) (f2 _ h)))
end
end
section
/-! the relation -/
def ce_nx (st s : Nat) (L : List Int32) (P PZ : Nat → Int32) : List Int32 := if s + 1 < st then ce_sg P (16 * (s + 1)) (PZ (s + 1)).toNatClampNeg else L
def ce_stp (n te s : Nat) (NN : List Int32) (SL SE SS T SB P PZ : Nat → Int32) : Prop :=
  ∃ (t0 t1 pz : Nat) (b : Bool) (v : Nat) (e : Bool), SS s = nI t0 ∧ SS (s + 1) = nI t1 ∧ t0 ≤ t1 ∧ t1 ≤ te ∧ PZ s = nI pz ∧ pz ≤ 16 ∧ v < n ∧ SL s = ce_li b v ∧ (e = true → b = true) ∧
    SE s = (if e = true then 1 else 0) ∧ SB s = (if e = true then 0 else 1) ∧ ce_HI n b v e (ce_sg T t0 (t1 - t0)) (ce_sg P (16 * s) pz) NN
def ce_Ht (n st te : Nat) (L : List Int32) (SL SE SS T SB P PZ : Nat → Int32) : Prop :=
  SS 0 = nI 0 ∧ SS st = nI te ∧ te ≤ 16 * st ∧ ∀ s, s < st → ce_stp n te s (ce_nx st s L P PZ) SL SE SS T SB P PZ
theorem ce_Ht_mono {n st te : Nat} {L L' : List Int32} {SL SE SS T SB P PZ : Nat → Int32} (h : ∀ a, ce_Md n L' a → ce_Md n L a) (H : ce_Ht n st te L SL SE SS T SB P PZ) : ce_Ht n st te L' SL SE SS T SB P PZ := by
  refine ⟨H.1, H.2.1, H.2.2.1, fun s hs => ?_⟩
  obtain ⟨t0, t1, pz, b, v, e, g1, g2, g3, g4, g5, g6, g7, g8, g9, g10, g11, g12⟩ := H.2.2.2 s hs
  refine ⟨t0, t1, pz, b, v, e, g1, g2, g3, g4, g5, g6, g7, g8, g9, g10, g11, ?_⟩
  unfold ce_nx at g12 ⊢
  by_cases k : s + 1 < st
  · rw [if_pos k] at g12 ⊢; exact g12
  · rw [if_neg k] at g12 ⊢; exact ce_HI_mono h g12
theorem ce_Ht_push {n st te z k v : Nat} {b e : Bool} {L L' : List Int32} {SL SE SS T SB P PZ T' P' : Nat → Int32} {x y : Int32} (H : ce_Ht n st te L SL SE SS T SB P PZ) (hst : st < 16) (hz : z ≤ 16) (hk : k ≤ 16) (hv : v < n) (heb : e = true → b = true)
    (hx : x = (if e = true then 1 else 0)) (hy : y = (if e = true then 0 else 1)) (hT : ∀ j, j < te → T' j = T j) (hP : ∀ j, j < 16 * st → P' j = P j) (hPL : ∀ a, ce_Md n (ce_sg P' (16 * st) z) a → ce_Md n L a)
    (hHI : ce_HI n b v e (ce_sg T' te k) (ce_sg P' (16 * st) z) L') :
    ce_Ht n (st + 1) (te + k) L' (upd SL st (ce_li b v)) (upd SE st x) (upd SS (st + 1) (nI (te + k))) T' (upd SB st y) P' (upd PZ st (nI z)) := by
  obtain ⟨h0, h1, h2, h3⟩ := H
  refine ⟨by rw [pk_un (by omega)]; exact h0, pk_us, by omega, fun s hs => ?_⟩
  by_cases e1 : s = st
  · subst e1
    refine ⟨te, te + k, z, b, v, e, by rw [pk_un (by omega)]; exact h1, pk_us, by omega, by omega, pk_us, hz, hv, pk_us, heb, by rw [pk_us, hx], by rw [pk_us, hy], ?_⟩
    unfold ce_nx
    rw [if_neg (by omega), Nat.add_sub_cancel_left]
    exact hHI
  · obtain ⟨t0, t1, pz, b', v', e', g1, g2, g3, g4, g5, g6, g7, g8, g9, g10, g11, g12⟩ := h3 s (by omega)
    refine ⟨t0, t1, pz, b', v', e', by rw [pk_un (by omega)]; exact g1, by rw [pk_un (by omega)]; exact g2, g3, by omega, by rw [pk_un e1]; exact g5, g6, g7, by rw [pk_un e1]; exact g8, g9, by rw [pk_un e1]; exact g10, by rw [pk_un e1]; exact g11, ?_⟩
    have c1 : ce_sg T' t0 (t1 - t0) = ce_sg T t0 (t1 - t0) := ce_sg_congr (fun j hj => hT _ (by omega))
    have c2 : ce_sg P' (16 * s) pz = ce_sg P (16 * s) pz := ce_sg_congr (fun j hj => hP _ (by omega))
    rw [c1, c2]
    unfold ce_nx at g12 ⊢
    rw [if_pos (show s + 1 < st + 1 by omega)]
    by_cases e2 : s + 1 < st
    · rw [if_pos e2] at g12
      rw [pk_un (show s + 1 ≠ st by omega)]
      obtain ⟨_, _, pz', _, _, _, _, _, _, _, q5, q6, _⟩ := h3 (s + 1) e2
      rw [q5, nI_clamp (show pz' < 2 ^ 31 by omega)] at g12 ⊢
      rw [ce_sg_congr (b := P) (fun j hj => hP _ (by omega))]
      exact g12
    · rw [if_neg e2] at g12
      have e3 : s + 1 = st := by omega
      rw [e3, pk_us, nI_clamp (show z < 2 ^ 31 by omega)]
      exact ce_HI_mono hPL g12
def ce_Rel (n m z ac st te : Nat) (FX SL SE SS T FY SB P PZ : Nat → Int32) : Prop :=
  (2 ≤ n ∧ n ≤ 8) ∧ (4 ≤ m ∧ m ≤ 16) ∧ z ≤ m ∧ ac ≤ 32 ∧ st ≤ 16 ∧ ce_F n (ce_ls FX z) ∧ (ce_ls FX z).Perm (ce_ls FY z) ∧ ce_Ht n st te (ce_ls FX z) SL SE SS T SB P PZ
def ce_U (n : Nat) (u : SX) (v : SY) : Prop :=
  ∃ (m z ac st te : Nat) (wc rz lz : Int32) (S FX W A SL SE SS T FY SB P PZ R LE : Nat → Int32),
    u = (nI n, nI m, ce_mk n, nI z, wc, nI ac, nI st, S, FX, W, A, SL, SE, SS, T) ∧
    v = (nI n, nI m, nI z, nI ac, nI st, rz, lz, FY, A, S, SL, SB, P, PZ, R, LE) ∧
    ce_Rel n m z ac st te FX SL SE SS T FY SB P PZ
def i_Rel (_ : Nat) (u : SX) (v : SY) : Prop := ∃ n, ce_U n u v
theorem i_up {k : Nat} {u : SX} {v : SY} (h : i_Rel k u v) : i_Rel (k + 5) u v := h
theorem ce_el {Q : SX → SY → Prop} {n : Nat} {u : SX} {v : SY} (h : ∀ (m z ac st te : Nat) (wc rz lz : Int32) (S FX W A SL SE SS T FY SB P PZ R LE : Nat → Int32), ce_Rel n m z ac st te FX SL SE SS T FY SB P PZ →
    Q (nI n, nI m, ce_mk n, nI z, wc, nI ac, nI st, S, FX, W, A, SL, SE, SS, T)
      (nI n, nI m, nI z, nI ac, nI st, rz, lz, FY, A, S, SL, SB, P, PZ, R, LE)) (I : ce_U n u v) : Q u v := by
  obtain ⟨m, z, ac, st, te, wc, rz, lz, S, FX, W, A, SL, SE, SS, T, FY, SB, P, PZ, R, LE, e1, e2, r⟩ := I
  rw [e1, e2]
  exact h m z ac st te wc rz lz S FX W A SL SE SS T FY SB P PZ R LE r
theorem ce_mkU {n m z ac st te : Nat} {wc rz lz : Int32} {S FX W A SL SE SS T FY SB P PZ R LE : Nat → Int32} (r : ce_Rel n m z ac st te FX SL SE SS T FY SB P PZ) :
    ce_U n (nI n, nI m, ce_mk n, nI z, wc, nI ac, nI st, S, FX, W, A, SL, SE, SS, T)
      (nI n, nI m, nI z, nI ac, nI st, rz, lz, FY, A, S, SL, SB, P, PZ, R, LE) :=
  ⟨m, z, ac, st, te, wc, rz, lz, S, FX, W, A, SL, SE, SS, T, FY, SB, P, PZ, R, LE, rfl, rfl, r⟩
theorem ce_RelL {n m z ac st te : Nat} {FX SL SE SS T FY SB P PZ : Nat → Int32} (r : ce_Rel n m z ac st te FX SL SE SS T FY SB P PZ) : ∀ c, c ∈ ce_ls FY z → ce_C n c :=
  fun c hc => r.2.2.2.2.2.1.2.1 c (r.2.2.2.2.2.2.1.mem_iff.mpr hc)
theorem ce_ls_perm_len {a b : Nat → Int32} {i j : Nat} (h : (ce_ls a i).Perm (ce_ls b j)) : i = j := by
  have := h.length_eq
  rw [ce_ls_len, ce_ls_len] at this
  exact this
end
section
/-! one outcome for both sides: strengthen, block, eliminate -/
def ce_Out (n : Nat) (q : Int32 → Prop) (mx : (Int32 → SX → Prop) → Prop) (my : (Int32 → SY → Prop) → Prop) : Prop :=
  ∃ (r : Int32) (u' : SX) (v' : SY), q r ∧ ce_U n u' v' ∧ (∀ post : Int32 → SX → Prop, post r u' → mx post) ∧ (∀ post : Int32 → SY → Prop, post r v' → my post)
theorem ce_var {n : Nat} (hn : n ≤ 8) (x : Int32) : (x < 1 ∨ nI n < x) ∨ ∃ v, v < n ∧ x = nI (v + 1) := by
  by_cases h1 : x < 1
  · exact Or.inl (Or.inl h1)
  · by_cases h2 : nI n < x
    · exact Or.inl (Or.inr h2)
    · have h3 : ¬ x < 0 := by
        rw [Int32.lt_iff_toInt_lt, show (1 : Int32).toInt = 1 from by decide] at h1
        rw [Int32.lt_iff_toInt_lt, show (0 : Int32).toInt = 0 from by decide]
        omega
      obtain ⟨j, hj, rfl⟩ := nI_of h3
      rw [nI_ltI (by omega) hj] at h2
      rw [Int32.lt_iff_toInt_lt, show (1 : Int32).toInt = 1 from by decide, nI_toInt hj] at h1
      exact Or.inr ⟨j - 1, by omega, congrArg nI (by omega)⟩
section
variable {n m z ac st te : Nat} {wc rz lz : Int32} {S FX W A SL SE SS T FY SB P PZ R LE : Nat → Int32}
theorem ce_lstr {v : Nat} (r : ce_Rel n m z ac st te FX SL SE SS T FY SB P PZ) (hv : v < n) (hs : ¬ S (v + 1) = 3) : ce_Out n (fun x => ∃ s, s ≤ 16 ∧ x = nI s)
    (fun post => wpX_strengthen post (nI n, nI m, ce_mk n, nI z, wc, nI ac, nI st, S, FX, W, A, SL, SE, SS, T) (nI (v + 1)))
    (fun post => wpY_strengthen post (nI n, nI m, nI z, nI ac, nI st, rz, lz, FY, A, S, SL, SB, P, PZ, R, LE) (nI (v + 1))) := by
  have hLY := ce_RelL r
  obtain ⟨⟨hn2, hn⟩, ⟨hm4, hm⟩, hz, hac, hst, hF, hp, hH⟩ := r
  have hv8 : v < 8 := by omega
  have hz16 : z ≤ 16 := by omega
  obtain ⟨w, z', W', F', g1, g2, g3, g4⟩ := xw_strengthen (f_m := nI m) (f_mask := ce_mk n) (f_workCount := wc) (f_acceptedCount := nI ac) (f_stepCount := nI st) (a_state := S) (a_formula := FX) (a_work := W) (a_accepted := A) (a_stepLiteral := SL) (a_stepEliminates := SE) (a_stepStart := SS) (a_trail := T) hn hv hz16 hF hs
  obtain ⟨lz', R', L', FY', d1, d2, d3, d4⟩ := yw_strengthen (f_m := nI m) (f_acceptedSize := nI ac) (f_stepCount := nI st) (f_rawSize := rz) (f_leastSize := lz) (a_formula := FY) (a_accepted := A) (a_state := S) (a_stepLit := SL) (a_stepBlocks := SB) (a_past := P) (a_pastSize := PZ) (a_raw := R) (a_least := LE) hn hv hz16 hLY hs
  have hperm : (ce_ls F' z').Perm (ce_ls FY' lz') := ce_WK_perm g3 (ce_SS_perm hp v) d2 d3
  have e := ce_ls_perm_len hperm
  subst e
  rw [← ce_shc_perm hp v] at d4
  refine ⟨nI (ce_shc (ce_ls FX z) v (ce_ls FX z)), _, _, ⟨_, Nat.le_trans (ce_cnt_k _ _ _) hz16, rfl⟩, ce_mkU (te := te) ?_, fun post h => g4 post h, fun post h => d4 post h⟩
  refine ⟨⟨hn2, hn⟩, ⟨hm4, hm⟩, by omega, hac, hst, ce_F_of g3 g2 (List.Perm.refl _) ?_, hperm, ce_Ht_mono (fun a ha c hc => ?_) hH⟩
  · rintro c ⟨d, hd, rfl⟩
    exact ce_C_sub (ce_St_sub hv8 d) (hF.2.1 d hd)
  · exact ce_Tr_sub hn (ce_St_sub hv8 c) (ce_Md_WK hn g3 ha _ ⟨c, hc, rfl⟩)
theorem ce_lstr_all (r : ce_Rel n m z ac st te FX SL SE SS T FY SB P PZ) (x : Int32) : ce_Out n (fun _ => True)
    (fun post => wpX_strengthen post (nI n, nI m, ce_mk n, nI z, wc, nI ac, nI st, S, FX, W, A, SL, SE, SS, T) x)
    (fun post => wpY_strengthen post (nI n, nI m, nI z, nI ac, nI st, rz, lz, FY, A, S, SL, SB, P, PZ, R, LE) x) := by
  have hn := r.1.2
  rcases ce_var hn x with hx | ⟨v, hv, rfl⟩
  · exact ⟨-1, _, _, trivial, ce_mkU r, fun post h => xw_str_bad hx h, fun post h => yw_str_bad hx h⟩
  · by_cases hs : S (v + 1) = 3
    · exact ⟨-6, _, _, trivial, ce_mkU r, fun post h => xw_str_gone hn hv hs h, fun post h => yw_str_gone hn hv hs h⟩
    · obtain ⟨r', u', v', _, h⟩ := ce_lstr (wc := wc) (rz := rz) (lz := lz) (W := W) (A := A) (R := R) (LE := LE) r hv hs
      exact ⟨r', u', v', trivial, h⟩
theorem ce_lblk (r : ce_Rel n m z ac st te FX SL SE SS T FY SB P PZ) (x : Int32) : ce_Out n (fun x => x ≤ 0 ∨ ∃ s, s ≤ 16 ∧ x = nI s)
    (fun post => wpX_block post (nI n, nI m, ce_mk n, nI z, wc, nI ac, nI st, S, FX, W, A, SL, SE, SS, T) x)
    (fun post => wpY_block post (nI n, nI m, nI z, nI ac, nI st, rz, lz, FY, A, S, SL, SB, P, PZ, R, LE) x) := by
  have hLY := ce_RelL r
  have hr := r
  obtain ⟨⟨hn2, hn⟩, ⟨hm4, hm⟩, hz, hac, hst, hF, hp, hH⟩ := r
  have hz16 : z ≤ 16 := by omega
  by_cases hb : x = 0 ∨ x < -nI n ∨ nI n < x
  · exact ⟨-1, _, _, Or.inl (by decide), ce_mkU hr, fun post h => xw_blk_bad hb h, fun post h => yw_blk_bad hb h⟩
  · obtain ⟨b, v, hv, rfl⟩ := ce_lit hn (fun e => hb (Or.inl e)) (fun e => hb (Or.inr (Or.inl e))) (fun e => hb (Or.inr (Or.inr e)))
    have hv8 : v < 8 := by omega
    by_cases h3 : S (v + 1) = 3
    · exact ⟨-6, _, _, Or.inl (by decide), ce_mkU hr, fun post h => xw_blk_ref hn hv hst (fun _ => h) (fun a => (a h3).elim) (fun a => (a h3).elim) (fun a => a.1 h3), fun post h => yw_blk_ref hn hv hst (fun _ => h) (fun a => (a h3).elim) (fun a => (a h3).elim) (fun a => (a h3).elim)⟩
    · by_cases h1 : S (v + 1) = 1
      · exact ⟨-5, _, _, Or.inl (by decide), ce_mkU hr, fun post h => xw_blk_ref hn hv hst (fun a => (h3 a).elim) (fun _ _ => h) (fun _ a => (a h1).elim) (fun a => a.2.1 h1), fun post h => yw_blk_ref hn hv hst (fun a => (h3 a).elim) (fun _ _ => h) (fun _ a => (a h1).elim) (fun _ a => (a h1).elim)⟩
      · by_cases hs : st < 16
        · obtain ⟨w, W', k, T', g1, g2, g3, g4, g5, g6⟩ := xw_block (f_m := nI m) (f_mask := ce_mk n) (f_workCount := wc) (f_acceptedCount := nI ac) (a_state := S) (a_formula := FX) (a_work := W) (a_accepted := A) (a_stepLiteral := SL) (a_stepEliminates := SE) (a_stepStart := SS) (a_trail := T) (b := b) hn hv hz16 hs h3 h1 hH.2.1 hH.2.2.1 hF
          obtain ⟨rz', R', d1, d2, d3, d4⟩ := yw_block (f_m := nI m) (f_acceptedSize := nI ac) (f_rawSize := rz) (f_leastSize := lz) (a_formula := FY) (a_accepted := A) (a_state := S) (a_stepLit := SL) (a_stepBlocks := SB) (a_past := P) (a_pastSize := PZ) (a_raw := R) (a_least := LE) (b := b) hn hv hz16 hs h3 h1 hLY
          have hBlk : ∀ c, ce_Blk (ce_ls FX z) b v c ↔ ce_Blk (ce_ls FY z) b v c := fun c =>
            ⟨fun q => ⟨q.1, fun o ho => q.2 o (hp.mem_iff.mpr ho)⟩, fun q => ⟨q.1, fun o ho => q.2 o (hp.mem_iff.mp ho)⟩⟩
          have hWR : (ce_ls W' w).Perm (ce_ls R' rz') := by
            rw [g2, d2]
            have e : (fun c => ce_d (¬ ce_Blk (ce_ls FX z) b v c)) = (fun c => ce_d (¬ ce_Blk (ce_ls FY z) b v c)) := funext (fun c => ce_dc (not_congr (hBlk c)))
            rw [e]
            exact hp.filter _
          have e1 := ce_ls_perm_len hWR
          subst e1
          have ek : z - w = k := by omega
          rw [ek] at d3 d4
          by_cases hk : k = 0
          · refine ⟨0, _, _, Or.inl (by decide), ce_mkU (te := te) ?_, fun post h => g5 hk post h, fun post h => d3 hk post h⟩
            refine ⟨⟨hn2, hn⟩, ⟨hm4, hm⟩, hz, hac, hst, hF, hp, ?_⟩
            obtain ⟨q1, q2, q3, q4⟩ := hH
            refine ⟨q1, q2, q3, fun s hs' => ?_⟩
            obtain ⟨t0, t1, pz, b', v', e', a1, a2, a3, a4, a5, a6, a7, a8, a9, a10, a11, a12⟩ := q4 s hs'
            refine ⟨t0, t1, pz, b', v', e', a1, a2, a3, a4, a5, a6, a7, a8, a9, a10, a11, ?_⟩
            rw [ce_sg_congr (b := T) (fun j hj => g4 _ (by omega))]
            exact a12
          · obtain ⟨F', f1, f2, f3⟩ := g6 hk
            obtain ⟨P', lz', L', FY', p1, p2, p3, p4, p5, p6⟩ := d4 hk
            have hmW : ∀ c, c ∈ ce_ls W' w ↔ c ∈ ce_ls FX z ∧ ¬ ce_Blk (ce_ls FX z) b v c := by
              intro c
              rw [g2, List.mem_filter, ce_di]
            have hmT : ∀ c, c ∈ ce_sg T' te k ↔ c ∈ ce_ls FX z ∧ ce_Blk (ce_ls FX z) b v c := by
              intro c
              rw [g3, List.mem_filter, ce_di]
            have hwk : ce_WK (fun d => d ∈ ce_ls W' w) (ce_ls F' w) := by
              refine ce_WK_pm (ce_WK_self ?_ ?_) f2
              · rw [g2]
                exact (ce_srt_nodup hF.1).sublist List.filter_sublist
              · intro c hc d hd s
                exact hF.2.2 c ((hmW c).mp hc).1 d ((hmW d).mp hd).1 s
            have hperm : (ce_ls F' w).Perm (ce_ls FY' lz') := ce_WK_perm hwk (fun c => hWR.mem_iff) p4 p5
            have e2 := ce_ls_perm_len hperm
            subst e2
            refine ⟨nI k, _, _, Or.inr ⟨k, by omega, rfl⟩, ce_mkU (te := te + k) ?_, fun post h => f3 post h, fun post h => p6 post h⟩
            refine ⟨⟨hn2, hn⟩, ⟨hm4, hm⟩, by omega, hac, by omega, ⟨f1, ?_, ?_⟩, hperm, ?_⟩
            · intro c hc
              exact hF.2.1 c ((hmW c).mp (f2.mem_iff.mp hc)).1
            · exact hwk.2.2.2
            · refine ce_Ht_push (b := b) (e := false) hH hs hz16 (by omega) hv (fun w => absurd w (by decide)) rfl rfl g4 p2 ?_ ?_
              · intro a ha
                rw [p1] at ha
                exact (ce_Md_perm hp).mpr ha
              · refine ce_HI_blk hn hv hF.2.1 hmT ?_ ?_
                · intro c
                  rw [p1]
                  exact hp.symm.mem_iff
                · intro c
                  exact f2.mem_iff.trans (hmW c)
        · have hs16 : 16 ≤ st := by omega
          exact ⟨-4, _, _, Or.inl (by decide), ce_mkU hr, fun post h => xw_blk_ref hn hv hst (fun a => (h3 a).elim) (fun _ a => (h1 a).elim) (fun _ _ _ => h) (fun a => hs a.2.2), fun post h => yw_blk_ref hn hv hst (fun a => (h3 a).elim) (fun _ a => (h1 a).elim) (fun _ _ _ => h) (fun _ _ a => (hs a).elim)⟩
theorem ce_Re_perm {L L' : List Int32} (p : L.Perm L') (v : Nat) (d : Int32) : ce_Re L v d ↔ ce_Re L' v d := by
  constructor
  · rintro (⟨h, k⟩ | ⟨x, y, hx, hy, k⟩)
    · exact Or.inl ⟨p.mem_iff.mp h, k⟩
    · exact Or.inr ⟨x, y, p.mem_iff.mp hx, p.mem_iff.mp hy, k⟩
  · rintro (⟨h, k⟩ | ⟨x, y, hx, hy, k⟩)
    · exact Or.inl ⟨p.mem_iff.mpr h, k⟩
    · exact Or.inr ⟨x, y, p.mem_iff.mpr hx, p.mem_iff.mpr hy, k⟩
theorem ce_lel (r : ce_Rel n m z ac st te FX SL SE SS T FY SB P PZ) (x : Int32) : ce_Out n (fun x => x ≤ 0 ∨ x = 1)
    (fun post => wpX_eliminate post (nI n, nI m, ce_mk n, nI z, wc, nI ac, nI st, S, FX, W, A, SL, SE, SS, T) x)
    (fun post => wpY_eliminate post (nI n, nI m, nI z, nI ac, nI st, rz, lz, FY, A, S, SL, SB, P, PZ, R, LE) x) := by
  have hLY := ce_RelL r
  have hr := r
  obtain ⟨⟨hn2, hn⟩, ⟨hm4, hm⟩, hz, hac, hst, hF, hp, hH⟩ := r
  have hz16 : z ≤ 16 := by omega
  rcases ce_var hn x with hx | ⟨v, hv, rfl⟩
  · exact ⟨-1, _, _, Or.inl (by decide), ce_mkU hr, fun post h => xw_el_bad hx h, fun post h => yw_el_bad hx h⟩
  · have hv8 : v < 8 := by omega
    have ecnt : (ce_ls FY z).countP (fun c => ce_d (¬ c &&& ce_bo (nI (v + 1)) = 0)) = (ce_ls FX z).countP (fun c => ce_d (¬ c &&& ce_bo (nI (v + 1)) = 0)) := (hp.countP_eq _).symm
    by_cases h3 : S (v + 1) = 3
    · exact ⟨-6, _, _, Or.inl (by decide), ce_mkU hr, fun post h => xw_el_ref hn hv hst (fun _ => h) (fun a => (a h3).elim) (fun a => (a h3).elim) (fun a => a.1 h3), fun post h => yw_el_ref hn hv hz16 hst (fun _ => h) (fun a => (a h3).elim) (fun a => (a h3).elim) (fun a => (a h3).elim) (fun a => (a h3).elim)⟩
    · by_cases h1 : S (v + 1) = 1
      · exact ⟨-5, _, _, Or.inl (by decide), ce_mkU hr, fun post h => xw_el_ref hn hv hst (fun a => (h3 a).elim) (fun _ _ => h) (fun _ a => (a h1).elim) (fun a => a.2.1 h1), fun post h => yw_el_ref hn hv hz16 hst (fun a => (h3 a).elim) (fun _ _ => h) (fun _ a => (a h1).elim) (fun _ a => (a h1).elim) (fun _ a => (a h1).elim)⟩
      · by_cases hs : st < 16
        · by_cases ho : (ce_ls FX z).countP (fun c => ce_d (¬ c &&& ce_bo (nI (v + 1)) = 0)) ≤ 8
          · obtain ⟨w, W', g1, g2, g3⟩ := xw_eliminate (f_m := nI m) (f_mask := ce_mk n) (f_workCount := wc) (f_acceptedCount := nI ac) (a_state := S) (a_formula := FX) (a_work := W) (a_accepted := A) (a_stepLiteral := SL) (a_stepEliminates := SE) (a_stepStart := SS) (a_trail := T) hn hv hz16 hs h3 h1 hH.2.1 hH.2.2.1 hF.2.1 ho
            obtain ⟨rz', lz', R', L', d1, d2, d3, d4⟩ := yw_eliminate (f_m := nI m) (f_acceptedSize := nI ac) (f_rawSize := rz) (f_leastSize := lz) (a_formula := FY) (a_accepted := A) (a_state := S) (a_stepLit := SL) (a_stepBlocks := SB) (a_past := P) (a_pastSize := PZ) (a_raw := R) (a_least := LE) hn hv hz16 hs h3 h1 hLY (by rw [ecnt]; exact ho)
            have hWL : (ce_ls W' w).Perm (ce_ls L' lz') := ce_WK_perm g1 (ce_Re_perm hp v) d1 d2
            have e1 := ce_ls_perm_len hWL
            subst e1
            by_cases hw : w ≤ z
            · obtain ⟨k, T', F', f1, f2, f3, f4, f5, f6⟩ := g3 hw
              obtain ⟨P', FY', p1, p2, p3, p4⟩ := d4 hw
              have hwk : ce_WK (ce_Re (ce_ls FX z) v) (ce_ls F' w) := ce_WK_pm g1 f5
              refine ⟨1, _, _, Or.inr rfl, ce_mkU (te := te + k) ?_, fun post h => f6 post h, fun post h => p4 post h⟩
              refine ⟨⟨hn2, hn⟩, ⟨hm4, hm⟩, by omega, hac, by omega, ce_F_of hwk f4 (List.Perm.refl _) (fun c hc => ce_Re_C hv8 hF.2.1 hc), ?_, ?_⟩
              · rw [p3]
                exact f5.trans hWL
              · refine ce_Ht_push (b := true) (e := true) hH hs hz16 (by omega) hv (fun w => w) rfl rfl f3 p2 ?_ ?_
                · intro a ha
                  rw [p1] at ha
                  exact (ce_Md_perm hp).mpr ha
                · refine ce_HI_res hn hv hF.2.1 ?_ ?_ (fun a ha c hc => ce_Md_WK hn hwk ha c hc)
                  · intro c
                    rw [f2, List.mem_filter]
                  · intro c
                    rw [p1]
                    exact hp.symm.mem_iff
            · exact ⟨-7, _, _, Or.inl (by decide), ce_mkU hr, fun post h => g2 (by omega) post h, fun post h => d3 (by omega) post h⟩
          · exact ⟨-7, _, _, Or.inl (by decide), ce_mkU hr, fun post h => xw_el_many hn hv hz16 hs h3 h1 (by omega) h, fun post h => yw_el_ref hn hv hz16 hst (fun a => (h3 a).elim) (fun _ a => (h1 a).elim) (fun _ _ a => absurd a (by omega)) (fun _ _ _ _ => h) (fun _ _ _ a => absurd a (by rw [ecnt]; exact ho))⟩
        · have hs16 : 16 ≤ st := by omega
          exact ⟨-4, _, _, Or.inl (by decide), ce_mkU hr, fun post h => xw_el_ref hn hv hst (fun a => (h3 a).elim) (fun _ a => (h1 a).elim) (fun _ _ _ => h) (fun a => hs a.2.2), fun post h => yw_el_ref hn hv hz16 hst (fun a => (h3 a).elim) (fun _ a => (h1 a).elim) (fun _ _ _ => h) (fun _ _ a => (hs a).elim) (fun _ _ a => (hs a).elim)⟩
end
end
section
/-! the owed rows: constructors, strengthen, block, eliminate, freeze, count, steps, stateOf, holds, check -/
theorem ce_clp (lo hi : Nat) (x : Int32) (h1 : lo ≤ hi) (h2 : hi < 100) : ∃ n, lo ≤ n ∧ n ≤ hi ∧ ∀ G : Int32 → Prop, G (nI n) → ((nI lo ≤ x → ((x ≤ nI hi → G x) ∧ (¬ x ≤ nI hi → G (nI hi)))) ∧ (¬ nI lo ≤ x → G (nI lo))) := by
  by_cases a : nI lo ≤ x
  · by_cases b : x ≤ nI hi
    · have c : ¬ x < 0 := by
        rw [Int32.le_iff_toInt_le, nI_toInt (by omega)] at a
        rw [Int32.lt_iff_toInt_lt, show (0 : Int32).toInt = 0 from by decide]
        omega
      obtain ⟨j, hj, rfl⟩ := nI_of c
      rw [nI_leI (by omega) (by omega)] at a b
      exact ⟨j, a, b, fun G h => br_t (nI_le a (by omega)) (br_t (nI_le b (by omega)) h)⟩
    · exact ⟨hi, h1, Nat.le_refl _, fun G h => br_t a (br_f b h)⟩
  · exact ⟨lo, Nat.le_refl _, h1, fun G h => br_f a h⟩
theorem ce_in0 {n m : Nat} (hn : 2 ≤ n ∧ n ≤ 8) (hm : 4 ≤ m ∧ m ≤ 16) : ce_U n (nI n, nI m, ce_mk n, 0, 0, 0, 0, fun _ => 0, fun _ => 0, fun _ => 0, fun _ => 0, fun _ => 0, fun _ => 0, fun _ => 0, fun _ => 0)
    (nI n, nI m, 0, 0, 0, 0, 0, fun _ => 0, fun _ => 0, fun _ => 0, fun _ => 0, fun _ => 0, fun _ => 0, fun _ => 0, fun _ => 0, fun _ => 0) := by
  refine ce_mkU (z := 0) (ac := 0) (st := 0) (te := 0) ⟨hn, hm, by omega, by omega, by omega, ⟨List.Pairwise.nil, fun c h => (List.not_mem_nil h).elim, fun c h => (List.not_mem_nil h).elim⟩, List.Perm.refl _, rfl, rfl, by omega, fun s hs => absurd hs (Nat.not_lt_zero s)⟩
theorem i_vc0 (k0 : Int32) (k1 : Int32) : wpX_init (fun u => wpY_init (fun v => i_Rel 2 u v) k0 k1) k0 k1 := by
  obtain ⟨n, hn1, hn2, hN⟩ := ce_clp 2 8 k0 (by omega) (by omega)
  obtain ⟨m, hm1, hm2, hM⟩ := ce_clp 4 16 k1 (by omega) (by omega)
  have hy : wpY_init (fun v => i_Rel 2 (nI n, nI m, ce_mk n, 0, 0, 0, 0, fun _ => 0, fun _ => 0, fun _ => 0, fun _ => 0, fun _ => 0, fun _ => 0, fun _ => 0, fun _ => 0) v) k0 k1 := by
    refine hN (fun y => wY_init_99 _ k1 y 0 0 0 0 0 0 0 (fun _ => 0) (fun _ => 0) (fun _ => 0) (fun _ => 0) (fun _ => 0) (fun _ => 0) (fun _ => 0) (fun _ => 0) (fun _ => 0)) ?_
    exact hM (fun y => i_Rel 2 _ (nI n, y, 0, 0, 0, 0, 0, fun _ => 0, fun _ => 0, fun _ => 0, fun _ => 0, fun _ => 0, fun _ => 0, fun _ => 0, fun _ => 0, fun _ => 0)) ⟨n, ce_in0 ⟨hn1, hn2⟩ ⟨hm1, hm2⟩⟩
  refine hN (fun y => wX_init_91 _ k1 y 0 0 0 0 0 0 0 (fun _ => 0) (fun _ => 0) (fun _ => 0) (fun _ => 0) (fun _ => 0) (fun _ => 0) (fun _ => 0) (fun _ => 0)) ?_
  refine hM (fun y => wX_init_116 _ y (nI n) 0 0 0 0 0 0 (fun _ => 0) (fun _ => 0) (fun _ => 0) (fun _ => 0) (fun _ => 0) (fun _ => 0) (fun _ => 0) (fun _ => 0)) ?_
  exact nm_e hy
theorem ce_vc {k n : Nat} {q : Int32 → Prop} {mx : (Int32 → SX → Prop) → Prop} {my : (Int32 → SY → Prop) → Prop} (o : ce_Out n q mx my) : mx (fun r u' => my (fun r' v' => r' = r ∧ i_Rel (k + 5) u' v')) := by
  obtain ⟨r, u', v', _, hU, hX, hY⟩ := o
  exact hX _ (hY _ ⟨rfl, n, hU⟩)
theorem i_vc_strengthen {k : Nat} {u : SX} {v : SY} (I : i_Rel k u v) (hk : k + 5 ≤ 2562) (v1 : Int32) : wpX_strengthen (fun r u' => wpY_strengthen (fun r' v' => r' = r ∧ i_Rel (k + 5) u' v') v v1) u v1 := by
  obtain ⟨n, hU⟩ := I
  refine ce_el (Q := fun u v => wpX_strengthen (fun r u' => wpY_strengthen (fun r' v' => r' = r ∧ i_Rel (k + 5) u' v') v v1) u v1) ?_ hU
  intro m z ac st te wc rz lz S FX W A SL SE SS T FY SB P PZ R LE r
  exact ce_vc (ce_lstr_all r v1)
theorem i_vc_block {k : Nat} {u : SX} {v : SY} (I : i_Rel k u v) (hk : k + 5 ≤ 2562) (v1 : Int32) : wpX_block (fun r u' => wpY_block (fun r' v' => r' = r ∧ i_Rel (k + 5) u' v') v v1) u v1 := by
  obtain ⟨n, hU⟩ := I
  refine ce_el (Q := fun u v => wpX_block (fun r u' => wpY_block (fun r' v' => r' = r ∧ i_Rel (k + 5) u' v') v v1) u v1) ?_ hU
  intro m z ac st te wc rz lz S FX W A SL SE SS T FY SB P PZ R LE r
  exact ce_vc (ce_lblk r v1)
theorem i_vc_eliminate {k : Nat} {u : SX} {v : SY} (I : i_Rel k u v) (hk : k + 5 ≤ 2562) (v1 : Int32) : wpX_eliminate (fun r u' => wpY_eliminate (fun r' v' => r' = r ∧ i_Rel (k + 5) u' v') v v1) u v1 := by
  obtain ⟨n, hU⟩ := I
  refine ce_el (Q := fun u v => wpX_eliminate (fun r u' => wpY_eliminate (fun r' v' => r' = r ∧ i_Rel (k + 5) u' v') v v1) u v1) ?_ hU
  intro m z ac st te wc rz lz S FX W A SL SE SS T FY SB P PZ R LE r
  exact ce_vc (ce_lel r v1)
theorem i_vc_count {k : Nat} {u : SX} {v : SY} (I : i_Rel k u v) (hk : k + 5 ≤ 2562) : wpX_count (fun r => wpY_count (fun r' => r' = r ∧ i_Rel (k + 5) u v) v) u := by
  obtain ⟨n, hU⟩ := I
  refine ce_el (Q := fun u v => wpX_count (fun r => wpY_count (fun r' => r' = r ∧ i_Rel (k + 5) u v) v) u) ?_ hU
  intro m z ac st te wc rz lz S FX W A SL SE SS T FY SB P PZ R LE r
  exact ⟨rfl, n, ce_mkU r⟩
theorem i_vc_steps {k : Nat} {u : SX} {v : SY} (I : i_Rel k u v) (hk : k + 5 ≤ 2562) : wpX_steps (fun r => wpY_steps (fun r' => r' = r ∧ i_Rel (k + 5) u v) v) u := by
  obtain ⟨n, hU⟩ := I
  refine ce_el (Q := fun u v => wpX_steps (fun r => wpY_steps (fun r' => r' = r ∧ i_Rel (k + 5) u v) v) u) ?_ hU
  intro m z ac st te wc rz lz S FX W A SL SE SS T FY SB P PZ R LE r
  exact ⟨rfl, n, ce_mkU r⟩
theorem i_vc_holds {k : Nat} {u : SX} {v : SY} (I : i_Rel k u v) (hk : k + 5 ≤ 2562) (v1 : Int32) : wpX_holds (fun r => wpY_holds (fun r' => r' = r ∧ i_Rel (k + 5) u v) v v1) u v1 := by
  obtain ⟨n, hU⟩ := I
  refine ce_el (Q := fun u v => wpX_holds (fun r => wpY_holds (fun r' => r' = r ∧ i_Rel (k + 5) u v) v v1) u v1) ?_ hU
  intro m z ac st te wc rz lz S FX W A SL SE SS T FY SB P PZ R LE r
  refine xw_holds r.1.2 (Nat.le_trans r.2.2.1 r.2.1.2) (yw_holds r.1.2 (Nat.le_trans r.2.2.1 r.2.1.2) ⟨ce_bc (ce_Md_perm r.2.2.2.2.2.2.1.symm), n, ce_mkU r⟩)
theorem i_vc_check {k : Nat} {u : SX} {v : SY} (I : i_Rel k u v) (hk : k + 5 ≤ 2562) (v1 : Int32) : wpX_check (fun r => wpY_check (fun r' => r' = r ∧ i_Rel (k + 5) u v) v v1) u v1 := by
  obtain ⟨n, hU⟩ := I
  refine ce_el (Q := fun u v => wpX_check (fun r => wpY_check (fun r' => r' = r ∧ i_Rel (k + 5) u v) v v1) u v1) ?_ hU
  intro m z ac st te wc rz lz S FX W A SL SE SS T FY SB P PZ R LE r
  exact xw_check r.1.2 r.2.2.2.1 (yw_check r.1.2 r.2.2.2.1 ⟨rfl, n, ce_mkU r⟩)
theorem i_vc_stateOf {k : Nat} {u : SX} {v : SY} (I : i_Rel k u v) (hk : k + 5 ≤ 2562) (v1 : Int32) : wpX_stateOf (fun r => wpY_stateOf (fun r' => r' = r ∧ i_Rel (k + 5) u v) v v1) u v1 := by
  obtain ⟨n, hU⟩ := I
  refine ce_el (Q := fun u v => wpX_stateOf (fun r => wpY_stateOf (fun r' => r' = r ∧ i_Rel (k + 5) u v) v v1) u v1) ?_ hU
  intro m z ac st te wc rz lz S FX W A SL SE SS T FY SB P PZ R LE r
  have hn := r.1.2
  unfold wpX_stateOf
  dsimp only
  rcases ce_var hn v1 with hx | ⟨w, hw, rfl⟩
  · refine xw_isVariable (ce_br (fun _ => ?_) (fun y => (hx.elim y.1 y.2).elim))
    refine br_c (fun _ => ⟨rfl, n, ce_mkU r⟩) (fun y => br_f (fun t => ?_) ⟨rfl, n, ce_mkU r⟩)
    rcases hx with hx | hx
    · exact y hx
    · exact Int32.not_le.mpr hx t
  · refine xw_isVariable (ce_br (fun y => ?_) (fun _ => ⟨vp_in_nI (by omega) (by omega), ?_⟩))
    · exact (y ⟨nI_nlt (b := 1) (by omega) (by omega), nI_nlt (by omega) (by omega)⟩).elim
    · exact br_f (nI_nlt (b := 1) (by omega) (by omega)) (br_t (nI_le (by omega) (by omega)) ⟨vp_in_nI (by omega) (by omega), rfl, n, ce_mkU r⟩)
section
variable {f_n f_m f_mask f_size f_workCount f_acceptedCount f_stepCount : Int32} {a_state a_formula a_work a_accepted a_stepLiteral a_stepEliminates a_stepStart a_trail : Nat → Int32}
theorem xw_frz {post : Int32 → SX → Prop} {n w : Nat} (hn : n ≤ 8) (hw : w < n) (h2 : a_state (w + 1) = 2 → post (-3) (nI n, f_m, f_mask, f_size, f_workCount, f_acceptedCount, f_stepCount, a_state, a_formula, a_work, a_accepted, a_stepLiteral, a_stepEliminates, a_stepStart, a_trail)) (h3 : ¬ a_state (w + 1) = 2 → a_state (w + 1) = 3 → post (-3) (nI n, f_m, f_mask, f_size, f_workCount, f_acceptedCount, f_stepCount, a_state, a_formula, a_work, a_accepted, a_stepLiteral, a_stepEliminates, a_stepStart, a_trail))
    (h0 : ¬ a_state (w + 1) = 2 → ¬ a_state (w + 1) = 3 → a_state (w + 1) = 0 → post (upd a_state (w + 1) 1 (w + 1)) (nI n, f_m, f_mask, f_size, f_workCount, f_acceptedCount, f_stepCount, upd a_state (w + 1) 1, a_formula, a_work, a_accepted, a_stepLiteral, a_stepEliminates, a_stepStart, a_trail))
    (h1 : ¬ a_state (w + 1) = 2 → ¬ a_state (w + 1) = 3 → ¬ a_state (w + 1) = 0 → post (upd a_state (w + 1) 0 (w + 1)) (nI n, f_m, f_mask, f_size, f_workCount, f_acceptedCount, f_stepCount, upd a_state (w + 1) 0, a_formula, a_work, a_accepted, a_stepLiteral, a_stepEliminates, a_stepStart, a_trail)) : wpX_freeze post (nI n, f_m, f_mask, f_size, f_workCount, f_acceptedCount, f_stepCount, a_state, a_formula, a_work, a_accepted, a_stepLiteral, a_stepEliminates, a_stepStart, a_trail) (nI (w + 1)) := by
  have vi : vp_in (nI (w + 1)) 9 := vp_in_nI (by omega) (by omega)
  have ec : (nI (w + 1)).toNatClampNeg = w + 1 := nI_clamp (by omega)
  unfold wpX_freeze
  dsimp only
  refine xw_isVariable (ce_br (fun y => ?_) (fun _ => ⟨vi, ?_⟩))
  · exact (y ⟨nI_nlt (b := 1) (by omega) (by omega), nI_nlt (by omega) (by omega)⟩).elim
  · rw [ec]
    exact br_c h2 (fun a => ⟨vi, br_c (h3 a) (fun b => ⟨vi, br_c (fun c => ⟨vi, nm_e ⟨vi, h0 a b c⟩⟩) (fun c => ⟨vi, nm_e ⟨vi, h1 a b c⟩⟩)⟩)⟩)
end
section
variable {f_n f_m f_size f_acceptedSize f_stepCount f_rawSize f_leastSize : Int32} {a_formula a_accepted a_state a_stepLit a_stepBlocks a_past a_pastSize a_raw a_least : Nat → Int32}
theorem yw_frz {post : Int32 → SY → Prop} {n w : Nat} (hn : n ≤ 8) (hw : w < n) (h2 : a_state (w + 1) = 2 → post (-3) (nI n, f_m, f_size, f_acceptedSize, f_stepCount, f_rawSize, f_leastSize, a_formula, a_accepted, a_state, a_stepLit, a_stepBlocks, a_past, a_pastSize, a_raw, a_least)) (h3 : ¬ a_state (w + 1) = 2 → a_state (w + 1) = 3 → post (-3) (nI n, f_m, f_size, f_acceptedSize, f_stepCount, f_rawSize, f_leastSize, a_formula, a_accepted, a_state, a_stepLit, a_stepBlocks, a_past, a_pastSize, a_raw, a_least))
    (h0 : ¬ a_state (w + 1) = 2 → ¬ a_state (w + 1) = 3 → a_state (w + 1) = 0 → post (upd a_state (w + 1) 1 (w + 1)) (nI n, f_m, f_size, f_acceptedSize, f_stepCount, f_rawSize, f_leastSize, a_formula, a_accepted, upd a_state (w + 1) 1, a_stepLit, a_stepBlocks, a_past, a_pastSize, a_raw, a_least))
    (h1 : ¬ a_state (w + 1) = 2 → ¬ a_state (w + 1) = 3 → ¬ a_state (w + 1) = 0 → post (upd a_state (w + 1) 0 (w + 1)) (nI n, f_m, f_size, f_acceptedSize, f_stepCount, f_rawSize, f_leastSize, a_formula, a_accepted, upd a_state (w + 1) 0, a_stepLit, a_stepBlocks, a_past, a_pastSize, a_raw, a_least)) : wpY_freeze post (nI n, f_m, f_size, f_acceptedSize, f_stepCount, f_rawSize, f_leastSize, a_formula, a_accepted, a_state, a_stepLit, a_stepBlocks, a_past, a_pastSize, a_raw, a_least) (nI (w + 1)) := by
  have vi : vp_in (nI (w + 1)) 9 := vp_in_nI (by omega) (by omega)
  have ec : (nI (w + 1)).toNatClampNeg = w + 1 := nI_clamp (by omega)
  refine br_f (nI_nlt (b := 1) (by omega) (by omega)) (br_t (nI_le (by omega) (by omega)) ⟨vi, ?_⟩)
  rw [ec]
  exact br_c h2 (fun a => ⟨vi, br_c (h3 a) (fun b => ⟨vi, br_c (fun c => ⟨vi, nm_e ⟨vi, h0 a b c⟩⟩) (fun c => ⟨vi, nm_e ⟨vi, h1 a b c⟩⟩)⟩)⟩)
end
section
variable {n m z ac st te : Nat} {wc rz lz : Int32} {S FX W A SL SE SS T FY SB P PZ R LE : Nat → Int32}
theorem ce_lfr (r : ce_Rel n m z ac st te FX SL SE SS T FY SB P PZ) (x : Int32) : ce_Out n (fun _ => True) (fun post => wpX_freeze post (nI n, nI m, ce_mk n, nI z, wc, nI ac, nI st, S, FX, W, A, SL, SE, SS, T) x) (fun post => wpY_freeze post (nI n, nI m, nI z, nI ac, nI st, rz, lz, FY, A, S, SL, SB, P, PZ, R, LE) x) := by
  have hn := r.1.2
  rcases ce_var hn x with hx | ⟨w, hw, rfl⟩
  · refine ⟨-1, (nI n, nI m, ce_mk n, nI z, wc, nI ac, nI st, S, FX, W, A, SL, SE, SS, T), (nI n, nI m, nI z, nI ac, nI st, rz, lz, FY, A, S, SL, SB, P, PZ, R, LE), trivial, ce_mkU r, fun post h => ?_, fun post h => ?_⟩
    · unfold wpX_freeze
      dsimp only
      exact xw_isVariable (ce_br (fun _ => h) (fun y => (hx.elim y.1 y.2).elim))
    · refine br_c (fun _ => h) (fun y => br_f (fun t => ?_) h)
      rcases hx with hx | hx
      · exact y hx
      · exact Int32.not_le.mpr hx t
  · by_cases h2 : S (w + 1) = 2
    · exact ⟨-3, (nI n, nI m, ce_mk n, nI z, wc, nI ac, nI st, S, FX, W, A, SL, SE, SS, T), (nI n, nI m, nI z, nI ac, nI st, rz, lz, FY, A, S, SL, SB, P, PZ, R, LE), trivial, ce_mkU r, fun post h => xw_frz hn hw (fun _ => h) (fun a => (a h2).elim) (fun a => (a h2).elim) (fun a => (a h2).elim), fun post h => yw_frz hn hw (fun _ => h) (fun a => (a h2).elim) (fun a => (a h2).elim) (fun a => (a h2).elim)⟩
    · by_cases h3 : S (w + 1) = 3
      · exact ⟨-3, (nI n, nI m, ce_mk n, nI z, wc, nI ac, nI st, S, FX, W, A, SL, SE, SS, T), (nI n, nI m, nI z, nI ac, nI st, rz, lz, FY, A, S, SL, SB, P, PZ, R, LE), trivial, ce_mkU r, fun post h => xw_frz hn hw (fun a => (h2 a).elim) (fun _ _ => h) (fun _ a => (a h3).elim) (fun _ a => (a h3).elim), fun post h => yw_frz hn hw (fun a => (h2 a).elim) (fun _ _ => h) (fun _ a => (a h3).elim) (fun _ a => (a h3).elim)⟩
      · by_cases h0 : S (w + 1) = 0
        · exact ⟨(upd S (w + 1) 1) (w + 1), _, _, trivial, ce_mkU (S := upd S (w + 1) 1) (wc := wc) (rz := rz) (lz := lz) (W := W) (A := A) (R := R) (LE := LE) r, fun post h => xw_frz hn hw (fun a => (h2 a).elim) (fun _ a => (h3 a).elim) (fun _ _ _ => h) (fun _ _ a => (a h0).elim), fun post h => yw_frz hn hw (fun a => (h2 a).elim) (fun _ a => (h3 a).elim) (fun _ _ _ => h) (fun _ _ a => (a h0).elim)⟩
        · exact ⟨(upd S (w + 1) 0) (w + 1), _, _, trivial, ce_mkU (S := upd S (w + 1) 0) (wc := wc) (rz := rz) (lz := lz) (W := W) (A := A) (R := R) (LE := LE) r, fun post h => xw_frz hn hw (fun a => (h2 a).elim) (fun _ a => (h3 a).elim) (fun _ _ a => (h0 a).elim) (fun _ _ _ => h), fun post h => yw_frz hn hw (fun a => (h2 a).elim) (fun _ a => (h3 a).elim) (fun _ _ a => (h0 a).elim) (fun _ _ _ => h)⟩
end
theorem i_vc_freeze {k : Nat} {u : SX} {v : SY} (I : i_Rel k u v) (hk : k + 5 ≤ 2562) (v1 : Int32) : wpX_freeze (fun r u' => wpY_freeze (fun r' v' => r' = r ∧ i_Rel (k + 5) u' v') v v1) u v1 := by
  obtain ⟨n, hU⟩ := I
  refine ce_el (Q := fun u v => wpX_freeze (fun r u' => wpY_freeze (fun r' v' => r' = r ∧ i_Rel (k + 5) u' v') v v1) u v1) ?_ hU
  intro m z ac st te wc rz lz S FX W A SL SE SS T FY SB P PZ R LE r
  exact ce_vc (ce_lfr r v1)
end
section
/-! the owed rows: clause, restart, clauseAt -/
section
variable {n m z ac st te : Nat} {wc rz lz : Int32} {S FX W A SL SE SS T FY SB P PZ R LE : Nat → Int32}
theorem ce_lcl (r : ce_Rel n m z ac st te FX SL SE SS T FY SB P PZ) (a b c d : Int32) : ce_Out n (fun _ => True) (fun post => wpX_clause post (nI n, nI m, ce_mk n, nI z, wc, nI ac, nI st, S, FX, W, A, SL, SE, SS, T) a b c d) (fun post => wpY_clause post (nI n, nI m, nI z, nI ac, nI st, rz, lz, FY, A, S, SL, SB, P, PZ, R, LE) a b c d) := by
  have hLY := ce_RelL r
  have hr := r
  obtain ⟨⟨hn2, hn⟩, ⟨hm4, hm⟩, hz, hac, hst, hF, hp, hH⟩ := r
  have hz16 : z ≤ 16 := by omega
  by_cases hb : ce_ok4 n a b c d
  · have hok := ce_cd_OK hn hb
    by_cases hnt : ce_NT (ce_cd a b c d)
    · by_cases htc : ce_tch n S (ce_cd a b c d)
      · exact ⟨-3, (nI n, nI m, ce_mk n, nI z, wc, nI ac, nI st, S, FX, W, A, SL, SE, SS, T), (nI n, nI m, nI z, nI ac, nI st, rz, lz, FY, A, S, SL, SB, P, PZ, R, LE), trivial, ce_mkU hr, fun post h => xw_cl hn hac hb (fun y => (y hnt).elim) (fun _ _ => h) (fun _ y => (y htc).elim) (fun _ y => (y htc).elim), fun post h => yw_cl_pre hn (fun y => (y hb).elim) (fun _ => yw_cl hn hac hb (fun y => (y hnt).elim) (fun _ _ => h) (fun _ y => (y htc).elim) (fun _ y => (y htc).elim))⟩
      · by_cases ha : ac < 32
        · have preX : ∀ post : Int32 → SX → Prop, (∀ q : Int32 → SX → Prop, (∀ r u, post r u → q r u) → wpX_join q (nI n, nI m, ce_mk n, nI z, wc, nI ac, nI st, S, FX, W, A, SL, SE, SS, T) (ce_cd a b c d)) → wpX_clause post (nI n, nI m, ce_mk n, nI z, wc, nI ac, nI st, S, FX, W, A, SL, SE, SS, T) a b c d :=
            fun post h => xw_cl hn hac hb (fun y => (y hnt).elim) (fun _ y => (htc y).elim) (fun _ _ y => absurd y (by omega)) (fun _ _ _ => h)
          have preY : ∀ post : Int32 → SY → Prop, (∃ k, wY_clause_188 post (ce_cd a b c d) k 0 0 (nI n) (nI m) (nI z) (nI ac) (nI st) 0 lz FY A S SL SB P PZ R LE) → wpY_clause post (nI n, nI m, nI z, nI ac, nI st, rz, lz, FY, A, S, SL, SB, P, PZ, R, LE) a b c d :=
            fun post h => yw_cl_pre hn (fun y => (y hb).elim) (fun _ => yw_cl hn hac hb (fun y => (y hnt).elim) (fun _ y => (htc y).elim) (fun _ _ y => absurd y (by omega)) (fun _ _ _ => h))
          obtain ⟨w, W', g1, g2, g3, g4, g5⟩ := xw_join (f_n := nI n) (f_mask := ce_mk n) (f_workCount := wc) (f_stepCount := nI st) (a_state := S) (a_formula := FX) (a_work := W) (a_accepted := A) (a_stepLiteral := SL) (a_stepEliminates := SE) (a_stepStart := SS) (a_trail := T) hz16 hm ha (ce_cd a b c d) hF
          obtain ⟨lz', R', L', d1, d2, d3, d4, d5, d6⟩ := yw_join (f_stepCount := nI st) (f_leastSize := lz) (a_formula := FY) (a_accepted := A) (a_state := S) (a_stepLit := SL) (a_stepBlocks := SB) (a_past := P) (a_pastSize := PZ) (a_raw := R) (a_least := LE) hn hz16 hm ha hok hLY
          have hWL : (ce_ls W' w).Perm (ce_ls L' lz') := ce_WK_perm g2 (fun c => or_congr hp.mem_iff Iff.rfl) d2 d3
          have e1 := ce_ls_perm_len hWL
          subst e1
          have hsub : (∃ x, x ∈ ce_ls FX z ∧ ce_Sub x (ce_cd a b c d)) ↔ ∃ x, x ∈ ce_ls FY z ∧ ce_Sub x (ce_cd a b c d) :=
            ⟨fun ⟨x, hx, s⟩ => ⟨x, hp.mem_iff.mp hx, s⟩, fun ⟨x, hx, s⟩ => ⟨x, hp.mem_iff.mpr hx, s⟩⟩
          by_cases hs : ∃ x, x ∈ ce_ls FX z ∧ ce_Sub x (ce_cd a b c d)
          · refine ⟨2, _, _, trivial, ce_mkU (ac := ac + 1) (te := te) ?_, fun post h => preX post (fun q hq => g3 hs q (hq _ _ h)), fun post h => preY post (d4 (hsub.mp hs) post h)⟩
            exact ⟨⟨hn2, hn⟩, ⟨hm4, hm⟩, hz, by omega, hst, hF, hp, hH⟩
          · have hs' := fun k => hs (hsub.mpr k)
            by_cases hw : w ≤ m
            · obtain ⟨F', f1, f2, f3⟩ := g5 hs hw
              obtain ⟨FY', p1, p2⟩ := d6 hs' hw
              have hwk : ce_WK (fun d' => d' ∈ ce_ls FX z ∨ d' = ce_cd a b c d) (ce_ls F' w) := ce_WK_pm g2 f2
              refine ⟨1, _, _, trivial, ce_mkU (ac := ac + 1) (z := w) (te := te) ?_, fun post h => preX post (fun q hq => f3 q (hq _ _ h)), fun post h => preY post (p2 post h)⟩
              refine ⟨⟨hn2, hn⟩, ⟨hm4, hm⟩, hw, by omega, hst, ce_F_of hwk f1 (List.Perm.refl _) ?_, ?_, ce_Ht_mono (fun a' ha' c' hc' => ce_Md_WK hn hwk ha' c' (Or.inl hc')) hH⟩
              · intro c' hc'
                rcases hc' with k | k
                · exact hF.2.1 c' k
                · rw [k]; exact ⟨hok, hnt⟩
              · rw [p1]
                exact f2.trans hWL
            · exact ⟨-4, _, _, trivial, ce_mkU hr, fun post h => preX post (fun q hq => g4 hs (by omega) q (hq _ _ h)), fun post h => preY post (d5 hs' (by omega) post h)⟩
        · have h32 : 32 ≤ ac := by omega
          exact ⟨-4, (nI n, nI m, ce_mk n, nI z, wc, nI ac, nI st, S, FX, W, A, SL, SE, SS, T), (nI n, nI m, nI z, nI ac, nI st, rz, lz, FY, A, S, SL, SB, P, PZ, R, LE), trivial, ce_mkU hr, fun post h => xw_cl hn hac hb (fun y => (y hnt).elim) (fun _ y => (htc y).elim) (fun _ _ _ => h) (fun _ _ y => (ha y).elim), fun post h => yw_cl_pre hn (fun y => (y hb).elim) (fun _ => yw_cl hn hac hb (fun y => (y hnt).elim) (fun _ y => (htc y).elim) (fun _ _ _ => h) (fun _ _ y => (ha y).elim))⟩
    · exact ⟨-2, (nI n, nI m, ce_mk n, nI z, wc, nI ac, nI st, S, FX, W, A, SL, SE, SS, T), (nI n, nI m, nI z, nI ac, nI st, rz, lz, FY, A, S, SL, SB, P, PZ, R, LE), trivial, ce_mkU hr, fun post h => xw_cl hn hac hb (fun _ => h) (fun y => (hnt y).elim) (fun y => (hnt y).elim) (fun y => (hnt y).elim), fun post h => yw_cl_pre hn (fun y => (y hb).elim) (fun _ => yw_cl hn hac hb (fun _ => h) (fun y => (hnt y).elim) (fun y => (hnt y).elim) (fun y => (hnt y).elim))⟩
  · exact ⟨-1, (nI n, nI m, ce_mk n, nI z, wc, nI ac, nI st, S, FX, W, A, SL, SE, SS, T), (nI n, nI m, nI z, nI ac, nI st, rz, lz, FY, A, S, SL, SB, P, PZ, R, LE), trivial, ce_mkU hr, fun post h => xw_cl_bad hb h, fun post h => yw_cl_pre hn (fun _ => h) (fun y => (hb y).elim)⟩
end
theorem i_vc_clause {k : Nat} {u : SX} {v : SY} (I : i_Rel k u v) (hk : k + 5 ≤ 2562) (v1 : Int32) (v2 : Int32) (v3 : Int32) (v4 : Int32) : wpX_clause (fun r u' => wpY_clause (fun r' v' => r' = r ∧ i_Rel (k + 5) u' v') v v1 v2 v3 v4) u v1 v2 v3 v4 := by
  obtain ⟨n, hU⟩ := I
  refine ce_el (Q := fun u v => wpX_clause (fun r u' => wpY_clause (fun r' v' => r' = r ∧ i_Rel (k + 5) u' v') v v1 v2 v3 v4) u v1 v2 v3 v4) ?_ hU
  intro m z ac st te wc rz lz S FX W A SL SE SS T FY SB P PZ R LE r
  exact ce_vc (ce_lcl r v1 v2 v3 v4)
/-! ### restart -/
def ce_clr (S : Nat → Int32) : Nat → Nat → Int32
  | 0 => S
  | i + 1 => upd (ce_clr S i) (i + 1) 0
theorem ce_clr_s (S : Nat → Int32) (i : Nat) : ce_clr S (i + 1) = upd (ce_clr S i) (i + 1) 0 := rfl
section
variable {f_n f_m f_mask f_size f_workCount f_acceptedCount f_stepCount : Int32} {a_state a_formula a_work a_accepted a_stepLiteral a_stepEliminates a_stepStart a_trail : Nat → Int32}
theorem xw_rs36 {post : Int32 → SX → Prop} {n : Nat} (hn : n ≤ 8) (h : post 1 (nI n, f_m, f_mask, f_size, f_workCount, f_acceptedCount, f_stepCount, ce_clr a_state n, a_formula, a_work, a_accepted, a_stepLiteral, a_stepEliminates, a_stepStart, a_trail)) : ∃ k, wX_restart_36 post (nI n) f_m f_mask f_size f_workCount f_acceptedCount f_stepCount k 1 a_state a_formula a_work a_accepted a_stepLiteral a_stepEliminates a_stepStart a_trail := by
  refine loop_0 (fun k i (s : Nat → Int32) => wX_restart_36 post (nI n) f_m f_mask f_size f_workCount f_acceptedCount f_stepCount k (nI (i + 1)) s a_formula a_work a_accepted a_stepLiteral a_stepEliminates a_stepStart a_trail) (fun i s => s = ce_clr a_state i) n a_state rfl ?_ ?_
  · intro k s hI
    subst hI
    exact br_t (nI_lt (by omega) (by omega)) h
  · intro k i s hi hI ih
    subst hI
    refine br_f (nI_nlt (by omega) (by omega)) ⟨vp_in_nI (by omega) (by omega), ?_⟩
    rw [nI_clamp (show i + 1 < 2 ^ 31 by omega)]
    exact nm_e (nm_r (nI_1 (i + 1)) (ih _ (ce_clr_s _ _)))
end
section
variable {f_n f_m f_size f_acceptedSize f_stepCount f_rawSize f_leastSize : Int32} {a_formula a_accepted a_state a_stepLit a_stepBlocks a_past a_pastSize a_raw a_least : Nat → Int32}
theorem yw_rs60 {post : Int32 → SY → Prop} {n : Nat} (hn : n ≤ 8) (h : post 1 (nI n, f_m, f_size, f_acceptedSize, f_stepCount, f_rawSize, f_leastSize, a_formula, a_accepted, ce_clr a_state n, a_stepLit, a_stepBlocks, a_past, a_pastSize, a_raw, a_least)) : ∃ k, wY_restart_60 post (nI n) f_m f_size f_acceptedSize f_stepCount f_rawSize f_leastSize k 1 a_formula a_accepted a_state a_stepLit a_stepBlocks a_past a_pastSize a_raw a_least := by
  refine loop_0 (fun k i (s : Nat → Int32) => wY_restart_60 post (nI n) f_m f_size f_acceptedSize f_stepCount f_rawSize f_leastSize k (nI (i + 1)) a_formula a_accepted s a_stepLit a_stepBlocks a_past a_pastSize a_raw a_least) (fun i s => s = ce_clr a_state i) n a_state rfl ?_ ?_
  · intro k s hI
    subst hI
    exact br_t (nI_lt (by omega) (by omega)) h
  · intro k i s hi hI ih
    subst hI
    refine br_f (nI_nlt (by omega) (by omega)) ⟨vp_in_nI (by omega) (by omega), ?_⟩
    rw [nI_clamp (show i + 1 < 2 ^ 31 by omega)]
    exact nm_e (nm_r (nI_1 (i + 1)) (ih _ (ce_clr_s _ _)))
theorem yw_rs4 {post : Int32 → SY → Prop} {z : Nat} (hz : z ≤ 16) (h0 : (z = 0 ∨ (0 : Int32) ∈ ce_ls a_formula z) → wY_restart_43 post f_n f_m (nI z) f_acceptedSize f_stepCount f_rawSize f_leastSize a_formula a_accepted a_state a_stepLit a_stepBlocks a_past a_pastSize a_raw a_least) (h1 : ¬ (z = 0 ∨ (0 : Int32) ∈ ce_ls a_formula z) → post (-8) (f_n, f_m, nI z, f_acceptedSize, f_stepCount, f_rawSize, f_leastSize, a_formula, a_accepted, a_state, a_stepLit, a_stepBlocks, a_past, a_pastSize, a_raw, a_least)) : wpY_restart post (f_n, f_m, nI z, f_acceptedSize, f_stepCount, f_rawSize, f_leastSize, a_formula, a_accepted, a_state, a_stepLit, a_stepBlocks, a_past, a_pastSize, a_raw, a_least) := by
  have e0 : (0 : Int32) = ce_b (False ∨ ∃ j, j < 0 ∧ a_formula j = 0) := (ce_bf (fun w => w.elim id (fun ⟨j, hj, _⟩ => absurd hj (Nat.not_lt_zero j)))).symm
  refine loop_0 (fun k i (s : Int32) => wY_restart_4 post f_n f_m (nI z) f_acceptedSize f_stepCount f_rawSize f_leastSize a_formula a_accepted a_state a_stepLit a_stepBlocks a_past a_pastSize a_raw a_least k s (nI i)) (fun i s => s = ce_b (False ∨ ∃ j, j < i ∧ a_formula j = 0)) z 0 e0 ?_ ?_
  · intro k s hI
    subst hI
    refine br_t (nI_le (Nat.le_refl _) (by omega)) (pk_le z 0 (fun w => h0 (Or.inl (by omega))) (fun w => ce_br (fun y => h1 ?_) (fun y => h0 (Or.inr ?_))))
    · rintro (t | t)
      · omega
      · exact y (Or.inr (ce_ls_mem.mp t))
    · rcases y with y | y
      · exact y.elim
      · exact ce_ls_mem.mpr y
  · intro k i s hi hI ih
    subst hI
    refine br_f (nI_ge hi (by omega)) ⟨vp_in_nI (by omega) (by omega), ?_⟩
    rw [nI_clamp (show i < 2 ^ 31 by omega)]
    exact br_c (fun y => nm_r (nI_1 i) (ih _ (ce_ex_t (P := fun j => a_formula j = 0) y).symm)) (fun y => nm_r (nI_1 i) (ih _ (ce_ex_f (P := fun j => a_formula j = 0) y).symm))
end
section
variable {n m z ac st te : Nat} {wc rz lz : Int32} {S FX W A SL SE SS T FY SB P PZ R LE : Nat → Int32}
theorem ce_lrs (r : ce_Rel n m z ac st te FX SL SE SS T FY SB P PZ) : ce_Out n (fun _ => True) (fun post => wpX_restart post (nI n, nI m, ce_mk n, nI z, wc, nI ac, nI st, S, FX, W, A, SL, SE, SS, T)) (fun post => wpY_restart post (nI n, nI m, nI z, nI ac, nI st, rz, lz, FY, A, S, SL, SB, P, PZ, R, LE)) := by
  have hr := r
  obtain ⟨⟨hn2, hn⟩, ⟨hm4, hm⟩, hz, hac, hst, hF, hp, hH⟩ := r
  have hz16 : z ≤ 16 := by omega
  have h0L : 0 < z → ((0 : Int32) ∈ ce_ls FY z ↔ FX 0 = 0) := by
    intro hz0
    constructor
    · intro h
      have h1 := hF.2.2 0 (hp.mem_iff.mpr h) (FX 0) (ce_ls_at hz0) (fun i hi e => by rw [b_0] at e; exact absurd e (by decide))
      exact h1.symm
    · intro h
      rw [← h]
      exact hp.mem_iff.mp (ce_ls_at hz0)
  by_cases hc : z = 0 ∨ (0 : Int32) ∈ ce_ls FY z
  · refine ⟨1, (nI n, nI m, ce_mk n, 0, wc, 0, 0, ce_clr S n, FX, W, A, SL, SE, SS, T), (nI n, nI m, 0, 0, 0, rz, lz, FY, A, ce_clr S n, SL, SB, P, PZ, R, LE), trivial, ?_, fun post h => ?_, fun post h => ?_⟩
    · refine ce_mkU (z := 0) (ac := 0) (st := 0) (te := 0) ⟨⟨hn2, hn⟩, ⟨hm4, hm⟩, by omega, by omega, by omega, ⟨List.Pairwise.nil, fun c h => (List.not_mem_nil h).elim, fun c h => (List.not_mem_nil h).elim⟩, List.Perm.refl _, hH.1, hH.1, by omega, fun s hs => absurd hs (Nat.not_lt_zero s)⟩
    · refine pk_le z 0 (fun w => xw_rs36 hn h) (fun w => br_t ?_ (xw_rs36 hn h))
      rcases hc with hc | hc
      · omega
      · exact (h0L w).mp hc
    · exact yw_rs4 hz16 (fun _ => yw_rs60 hn h) (fun w => (w hc).elim)
  · refine ⟨-8, (nI n, nI m, ce_mk n, nI z, wc, nI ac, nI st, S, FX, W, A, SL, SE, SS, T), (nI n, nI m, nI z, nI ac, nI st, rz, lz, FY, A, S, SL, SB, P, PZ, R, LE), trivial, ce_mkU hr, fun post h => ?_, fun post h => yw_rs4 hz16 (fun w => (hc w).elim) (fun _ => h)⟩
    have hz0 : 0 < z := by
      rcases Nat.eq_zero_or_pos z with e | e
      · exact (hc (Or.inl e)).elim
      · exact e
    exact br_f (nI_nle hz0 (by omega)) (br_f (fun w => hc (Or.inr ((h0L hz0).mpr w))) h)
end
theorem i_vc_restart {k : Nat} {u : SX} {v : SY} (I : i_Rel k u v) (hk : k + 5 ≤ 2562) : wpX_restart (fun r u' => wpY_restart (fun r' v' => r' = r ∧ i_Rel (k + 5) u' v') v) u := by
  obtain ⟨n, hU⟩ := I
  refine ce_el (Q := fun u v => wpX_restart (fun r u' => wpY_restart (fun r' v' => r' = r ∧ i_Rel (k + 5) u' v') v) u) ?_ hU
  intro m z ac st te wc rz lz S FX W A SL SE SS T FY SB P PZ R LE r
  exact ce_vc (ce_lrs r)
/-! ### clauseAt -/
section
variable {f_n f_m f_size f_acceptedSize f_stepCount f_rawSize f_leastSize : Int32} {a_formula a_accepted a_state a_stepLit a_stepBlocks a_past a_pastSize a_raw a_least : Nat → Int32}
theorem yw_ca15 {post : Int32 → Prop} {J : Int32 → Prop} {z i : Nat} {x : Int32} (hz : z ≤ 16) (hi : i < z) (h1 : nI ((ce_ls a_formula z).countP (fun c => decide (c < a_formula i))) = x → post (a_formula i)) (h0 : ¬ nI ((ce_ls a_formula z).countP (fun c => decide (c < a_formula i))) = x → J (nI (i + 1))) : ∃ k, wY_clauseAt_15 post J x (nI i) f_n f_m (nI z) f_acceptedSize f_stepCount f_rawSize f_leastSize a_formula a_accepted a_state a_stepLit a_stepBlocks a_past a_pastSize a_raw a_least k 0 0 := by
  have ei : (nI i).toNatClampNeg = i := nI_clamp (by omega)
  refine loop_0 (fun k j (s : Int32) => wY_clauseAt_15 post J x (nI i) f_n f_m (nI z) f_acceptedSize f_stepCount f_rawSize f_leastSize a_formula a_accepted a_state a_stepLit a_stepBlocks a_past a_pastSize a_raw a_least k s (nI j)) (fun j s => s = nI ((ce_ls a_formula j).countP (fun c => decide (c < a_formula i)))) z 0 rfl ?_ ?_
  · intro k s hI
    subst hI
    refine br_t (nI_le (Nat.le_refl _) (by omega)) (br_c (fun y => ⟨vp_in_nI (by omega) (by omega), ?_⟩) (fun y => nm_r (nI_1 i) (h0 y)))
    rw [ei]
    exact h1 y
  · intro k j s hj hI ih
    subst hI
    refine br_f (nI_ge hj (by omega)) ⟨vp_in_nI (by omega) (by omega), vp_in_nI (by omega) (by omega), ?_⟩
    rw [ei, nI_clamp (show j < 2 ^ 31 by omega)]
    refine br_c (fun y => nm_r (nI_1 j) (ih _ ?_)) (fun y => nm_r (nI_1 _) (nm_r (nI_1 j) (ih _ ?_)))
    · rw [ce_cnt_f (p := fun c => decide (c < a_formula i)) (decide_eq_false (fun w => Int32.not_le.mpr w y))]
    · rw [ce_cnt_t (p := fun c => decide (c < a_formula i)) (decide_eq_true (Int32.not_le.mp y))]
theorem yw_clauseAt {post : Int32 → Prop} {z : Nat} {x : Int32} (hz : z ≤ 16) (h1 : ∀ i, i < z → nI ((ce_ls a_formula z).countP (fun c => decide (c < a_formula i))) = x → post (a_formula i)) (h0 : (∀ i, i < z → ¬ nI ((ce_ls a_formula z).countP (fun c => decide (c < a_formula i))) = x) → post (-1)) : wpY_clauseAt post (f_n, f_m, nI z, f_acceptedSize, f_stepCount, f_rawSize, f_leastSize, a_formula, a_accepted, a_state, a_stepLit, a_stepBlocks, a_past, a_pastSize, a_raw, a_least) x := by
  refine loop_0 (fun k i (_ : Unit) => wY_clauseAt_2 post x f_n f_m (nI z) f_acceptedSize f_stepCount f_rawSize f_leastSize a_formula a_accepted a_state a_stepLit a_stepBlocks a_past a_pastSize a_raw a_least k (nI i)) (fun i _ => ∀ j, j < i → ¬ nI ((ce_ls a_formula z).countP (fun c => decide (c < a_formula j))) = x) z () lt_0 ?_ ?_
  · intro k s hI
    exact br_t (nI_le (Nat.le_refl _) (by omega)) (h0 hI)
  · intro k i s hi hI ih
    exact br_f (nI_ge hi (by omega)) (yw_ca15 hz hi (h1 i hi) (fun y => ih () (lt_s hI y)))
end
theorem i_vc_clauseAt {k : Nat} {u : SX} {v : SY} (I : i_Rel k u v) (hk : k + 5 ≤ 2562) (v1 : Int32) : wpX_clauseAt (fun r => wpY_clauseAt (fun r' => r' = r ∧ i_Rel (k + 5) u v) v v1) u v1 := by
  obtain ⟨n, hU⟩ := I
  refine ce_el (Q := fun u v => wpX_clauseAt (fun r => wpY_clauseAt (fun r' => r' = r ∧ i_Rel (k + 5) u v) v v1) u v1) ?_ hU
  intro m z ac st te wc rz lz S FX W A SL SE SS T FY SB P PZ R LE r
  have hrel : i_Rel (k + 5) (nI n, nI m, ce_mk n, nI z, wc, nI ac, nI st, S, FX, W, A, SL, SE, SS, T) (nI n, nI m, nI z, nI ac, nI st, rz, lz, FY, A, S, SL, SB, P, PZ, R, LE) := ⟨n, ce_mkU r⟩
  obtain ⟨⟨hn2, hn⟩, ⟨hm4, hm⟩, hz, hac, hst, hF, hp, hH⟩ := r
  have hz16 : z ≤ 16 := by omega
  have hsrt := ce_rank hF.1
  have hcnt : ∀ i, i < z → ∃ j, j < z ∧ FX j = FY i ∧ (ce_ls FY z).countP (fun c => decide (c < FY i)) = j := by
    intro i hi
    obtain ⟨j, hj, e⟩ := ce_ls_mem.mp (hp.mem_iff.mpr (ce_ls_at (a := FY) hi))
    refine ⟨j, hj, e, ?_⟩
    rw [← hp.countP_eq, ← e, ce_rank_c hsrt hj z (Nat.le_refl _), if_neg (by omega)]
  have none : (∀ j, j < z → ¬ nI j = v1) → wpY_clauseAt (fun r' => r' = -1 ∧ i_Rel (k + 5) (nI n, nI m, ce_mk n, nI z, wc, nI ac, nI st, S, FX, W, A, SL, SE, SS, T) (nI n, nI m, nI z, nI ac, nI st, rz, lz, FY, A, S, SL, SB, P, PZ, R, LE)) (nI n, nI m, nI z, nI ac, nI st, rz, lz, FY, A, S, SL, SB, P, PZ, R, LE) v1 := by
    intro hno
    refine yw_clauseAt hz16 (fun i hi e => ?_) (fun _ => ⟨rfl, hrel⟩)
    obtain ⟨j, hj, _, e2⟩ := hcnt i hi
    rw [e2] at e
    exact (hno j hj e).elim
  refine br_c (fun h => none (fun j hj e => ?_)) (fun h => br_c (fun h2 => ?_) (fun h2 => none (fun j hj e => ?_)))
  · rw [← e] at h
    exact nI_pos (by omega) h
  · obtain ⟨j, hj, rfl⟩ := nI_of h
    rw [nI_ltI hj (by omega)] at h2
    refine ⟨vp_in_nI (by omega) (by omega), ?_⟩
    rw [nI_clamp hj]
    refine yw_clauseAt hz16 (fun i hi e => ⟨?_, hrel⟩) (fun hno => ?_)
    · obtain ⟨j', hj', e1, e2⟩ := hcnt i hi
      rw [e2, nI_eq (by omega) (by omega)] at e
      rw [← e1, e]
    · obtain ⟨i, hi, e⟩ := ce_ls_mem.mp (hp.mem_iff.mp (ce_ls_at (a := FX) h2))
      obtain ⟨j', hj', e1, e2⟩ := hcnt i hi
      refine (hno i hi ?_).elim
      rw [e2]
      have : j' = j := by
        rw [e] at e1
        rcases Nat.lt_trichotomy j' j with t | t | t
        · have := hsrt j' j t h2; rw [e1] at this; exact (Int32.lt_irrefl this).elim
        · exact t
        · have := hsrt j j' t hj'; rw [e1] at this; exact (Int32.lt_irrefl this).elim
      rw [this]
  · rw [← e] at h2
    exact h2 (nI_lt hj (by omega))
end
section
/-! reduce, in lockstep -/
abbrev ce_KX : Type := Int32 → Int32 → Int32 → Int32 → Int32 → Int32 → Int32 → ce_A8
abbrev ce_KY : Type := Int32 → Int32 → Int32 → Int32 → Int32 → Int32 → Int32 → ce_A9
def ce_apX (K : ce_KX) (u : SX) : Prop := match u with
  | (f_n, f_m, f_mask, f_size, f_workCount, f_acceptedCount, f_stepCount, a_state, a_formula, a_work, a_accepted, a_stepLiteral, a_stepEliminates, a_stepStart, a_trail) => K f_n f_m f_mask f_size f_workCount f_acceptedCount f_stepCount a_state a_formula a_work a_accepted a_stepLiteral a_stepEliminates a_stepStart a_trail
def ce_apY (K : ce_KY) (v : SY) : Prop := match v with
  | (f_n, f_m, f_size, f_acceptedSize, f_stepCount, f_rawSize, f_leastSize, a_formula, a_accepted, a_state, a_stepLit, a_stepBlocks, a_past, a_pastSize, a_raw, a_least) => K f_n f_m f_size f_acceptedSize f_stepCount f_rawSize f_leastSize a_formula a_accepted a_state a_stepLit a_stepBlocks a_past a_pastSize a_raw a_least
theorem ce_lblkU {n : Nat} {u : SX} {v : SY} (hU : ce_U n u v) (x : Int32) : ce_Out n (fun x => x ≤ 0 ∨ ∃ s, s ≤ 16 ∧ x = nI s) (fun post => wpX_block post u x) (fun post => wpY_block post v x) := by
  refine ce_el (Q := fun u v => ce_Out n (fun x => x ≤ 0 ∨ ∃ s, s ≤ 16 ∧ x = nI s) (fun post => wpX_block post u x) (fun post => wpY_block post v x)) ?_ hU
  intro m z ac st te wc rz lz S FX W A SL SE SS T FY SB P PZ R LE r
  exact ce_lblk r x
theorem ce_add2 (x : Int32) (a b : Nat) : x + nI a + nI b = x + nI (a + b) := by rw [← nI_add, Int32.add_assoc]
theorem ce_s4 {n v : Nat} (hv : v < n) {u : SX} {w : SY} (hU : ce_U n u w) : ∃ (g : Nat) (u' : SX) (w' : SY), g ≤ 1 ∧ ce_U n u' w' ∧
    (∀ (post : Int32 → SX → Prop) (x2 : Int32), post (x2 + nI g) u' → ce_apX (wX_simplify_35 post (nI (v + 1)) x2) u) ∧
    (∀ (post : Int32 → SY → Prop) (J4 J14 : Int32 → Int32 → ce_KY) (x1 x2 x3 : Int32), ce_apY (J14 (x1 + nI g) (nI (v + 1 + 1))) w' → ce_apY (wY_reduce_89 post J4 J14 x1 x2 x3 (nI (v + 1))) w) := by
  refine ce_el (Q := fun u w => ∃ (g : Nat) (u' : SX) (w' : SY), g ≤ 1 ∧ ce_U n u' w' ∧
    (∀ (post : Int32 → SX → Prop) (x2 : Int32), post (x2 + nI g) u' → ce_apX (wX_simplify_35 post (nI (v + 1)) x2) u) ∧
    (∀ (post : Int32 → SY → Prop) (J4 J14 : Int32 → Int32 → ce_KY) (x1 x2 x3 : Int32), ce_apY (J14 (x1 + nI g) (nI (v + 1 + 1))) w' → ce_apY (wY_reduce_89 post J4 J14 x1 x2 x3 (nI (v + 1))) w)) ?_ hU
  intro m z ac st te wc rz lz S FX W A SL SE SS T FY SB P PZ R LE r
  have hn := r.1.2
  have hv8 : v < 8 := by omega
  have hz16 : z ≤ 16 := Nat.le_trans r.2.2.1 r.2.1.2
  have hp := r.2.2.2.2.2.2.1
  have ecnt : (ce_ls FY z).countP (fun c => ce_d (¬ c &&& ce_bo (nI (v + 1)) = 0)) = (ce_ls FX z).countP (fun c => ce_d (¬ c &&& ce_bo (nI (v + 1)) = 0)) := (hp.countP_eq _).symm
  have hk := ce_cnt_k (fun c => ce_d (¬ c &&& ce_bo (nI (v + 1)) = 0)) FX z
  have preX : ∀ (post : Int32 → SX → Prop) (x2 : Int32), ((nI ((ce_ls FX z).countP (fun c => ce_d (¬ c &&& ce_bo (nI (v + 1)) = 0))) ≤ 0 → post x2 (nI n, nI m, ce_mk n, nI z, wc, nI ac, nI st, S, FX, W, A, SL, SE, SS, T)) ∧ (¬ nI ((ce_ls FX z).countP (fun c => ce_d (¬ c &&& ce_bo (nI (v + 1)) = 0))) ≤ 0 → wpX_eliminate (fun r u => (r ≤ 0 → post x2 u) ∧ (¬ r ≤ 0 → ∀ y : Int32, y = x2 + r → post y u)) (nI n, nI m, ce_mk n, nI z, wc, nI ac, nI st, S, FX, W, A, SL, SE, SS, T) (nI (v + 1)))) → ce_apX (wX_simplify_35 post (nI (v + 1)) x2) (nI n, nI m, ce_mk n, nI z, wc, nI ac, nI st, S, FX, W, A, SL, SE, SS, T) := by
    intro post x2 h
    unfold ce_apX wX_simplify_35
    dsimp only
    exact xw_occurrencesOf hz16 h
  have preY : ∀ (post : Int32 → SY → Prop) (J4 J14 : Int32 → Int32 → ce_KY) (x1 x2 x3 : Int32), ((nI ((ce_ls FX z).countP (fun c => ce_d (¬ c &&& ce_bo (nI (v + 1)) = 0))) ≤ 0 → ce_apY (J14 x1 (nI (v + 1 + 1))) (nI n, nI m, nI z, nI ac, nI st, rz, lz, FY, A, S, SL, SB, P, PZ, R, LE)) ∧ (¬ nI ((ce_ls FX z).countP (fun c => ce_d (¬ c &&& ce_bo (nI (v + 1)) = 0))) ≤ 0 → wpY_eliminate (fun r u => (r ≤ 0 → ce_apY (J14 x1 (nI (v + 1 + 1))) u) ∧ (¬ r ≤ 0 → ce_apY (J14 (x1 + r) (nI (v + 1 + 1))) u)) (nI n, nI m, nI z, nI ac, nI st, rz, lz, FY, A, S, SL, SB, P, PZ, R, LE) (nI (v + 1)))) → ce_apY (wY_reduce_89 post J4 J14 x1 x2 x3 (nI (v + 1))) (nI n, nI m, nI z, nI ac, nI st, rz, lz, FY, A, S, SL, SB, P, PZ, R, LE) := by
    intro post J4 J14 x1 x2 x3 h
    rw [← nI_1 (v + 1), ← ecnt] at h
    unfold ce_apY wY_reduce_89
    dsimp only
    refine yw_occurrences hv8 hz16 (br_c (fun a => ?_) (fun a => ?_))
    · unfold wY_reduce_109
      exact br_t (Int32.le_refl 0) (nm_e (h.1 a))
    · have key : ∀ (q q' : Int32 → SY → Prop), (∀ r u, q r u = q' r u) → wpY_eliminate q (nI n, nI m, nI z, nI ac, nI st, rz, lz, FY, A, S, SL, SB, P, PZ, R, LE) (nI (v + 1)) → wpY_eliminate q' (nI n, nI m, nI z, nI ac, nI st, rz, lz, FY, A, S, SL, SB, P, PZ, R, LE) (nI (v + 1)) := by
        intro q q' e h
        have : q = q' := funext (fun r => funext (fun u => e r u))
        rw [← this]; exact h
      refine key _ _ ?_ (h.2 a)
      rintro r ⟨b1, b2, b3, b4, b5, b6, b7, b8, b9, b10, b11, b12, b13, b14, b15, b16⟩
      unfold wY_reduce_109 ce_apY
      dsimp only
      apply propext
      constructor
      · exact fun h => ⟨fun a => nm_e (h.1 a), fun a => nm_e (nm_e (h.2 a))⟩
      · exact fun h => ⟨fun a => h.1 a _ rfl, fun a => h.2 a _ rfl _ rfl⟩
  by_cases c0 : (ce_ls FX z).countP (fun c => ce_d (¬ c &&& ce_bo (nI (v + 1)) = 0)) = 0
  · have hle : nI ((ce_ls FX z).countP (fun c => ce_d (¬ c &&& ce_bo (nI (v + 1)) = 0))) ≤ 0 := by rw [c0]; exact ce_00
    refine ⟨0, (nI n, nI m, ce_mk n, nI z, wc, nI ac, nI st, S, FX, W, A, SL, SE, SS, T), (nI n, nI m, nI z, nI ac, nI st, rz, lz, FY, A, S, SL, SB, P, PZ, R, LE), by omega, ce_mkU r, fun post x2 h => preX post x2 (br_t hle ?_), fun post J4 J14 x1 x2 x3 h => preY post J4 J14 x1 x2 x3 (br_t hle ?_)⟩
    · rw [nI_0, Int32.add_zero] at h; exact h
    · rw [nI_0, Int32.add_zero] at h; exact h
  · have hle : ¬ nI ((ce_ls FX z).countP (fun c => ce_d (¬ c &&& ce_bo (nI (v + 1)) = 0))) ≤ 0 := nI_nle (by omega) (by omega)
    obtain ⟨re, u1, w1, hq, hU1, hX, hY⟩ := ce_lel (wc := wc) (rz := rz) (lz := lz) (S := S) (W := W) (A := A) (R := R) (LE := LE) r (nI (v + 1))
    by_cases h0 : re ≤ 0
    · refine ⟨0, u1, w1, by omega, hU1, fun post x2 h => preX post x2 (br_f hle (hX _ (br_t h0 ?_))), fun post J4 J14 x1 x2 x3 h => preY post J4 J14 x1 x2 x3 (br_f hle (hY _ (br_t h0 ?_)))⟩
      · rw [nI_0, Int32.add_zero] at h; exact h
      · rw [nI_0, Int32.add_zero] at h; exact h
    · have e1 : re = 1 := hq.elim (fun a => (h0 a).elim) id
      subst e1
      exact ⟨1, u1, w1, by omega, hU1, fun post x2 h => preX post x2 (br_f hle (hX _ (br_f h0 (nm_e h)))), fun post J4 J14 x1 x2 x3 h => preY post J4 J14 x1 x2 x3 (br_f hle (hY _ (br_f h0 h)))⟩
theorem ce_s3 {n v : Nat} (hv : v < n) {u : SX} {w : SY} (hU : ce_U n u w) : ∃ (g : Nat) (u' : SX) (w' : SY), g ≤ 17 ∧ ce_U n u' w' ∧
    (∀ (post : Int32 → SX → Prop) (x2 : Int32), post (x2 + nI g) u' → ce_apX (wX_simplify_20 post (nI (v + 1)) x2) u) ∧
    (∀ (post : Int32 → SY → Prop) (J4 J14 : Int32 → Int32 → ce_KY) (x1 x2 x3 : Int32), ce_apY (J14 (x1 + nI g) (nI (v + 1 + 1))) w' → ce_apY (wY_reduce_70 post J4 J14 x1 x2 x3 (nI (v + 1))) w) := by
  obtain ⟨rb, u1, w1, hq, hU1, hX, hY⟩ := ce_lblkU hU (-nI (v + 1))
  obtain ⟨g, u', w', hg, hU', hX4, hY4⟩ := ce_s4 hv hU1
  obtain ⟨p1, p2, p3, p4, p5, p6, p7, p8, p9, p10, p11, p12, p13, p14, p15⟩ := u
  obtain ⟨b1, b2, b3, b4, b5, b6, b7, b8, b9, b10, b11, b12, b13, b14, b15, b16⟩ := w
  obtain ⟨c1, c2, c3, c4, c5, c6, c7, c8, c9, c10, c11, c12, c13, c14, c15⟩ := u1
  obtain ⟨d1, d2, d3, d4, d5, d6, d7, d8, d9, d10, d11, d12, d13, d14, d15, d16⟩ := w1
  by_cases h0 : rb ≤ 0
  · refine ⟨g, u', w', by omega, hU', fun post x2 h => ?_, fun post J4 J14 x1 x2 x3 h => ?_⟩
    · unfold ce_apX wX_simplify_20
      dsimp only
      exact hX _ (br_t h0 (hX4 post x2 h))
    · unfold ce_apY wY_reduce_70
      dsimp only
      exact hY _ (br_t h0 (hY4 post J4 J14 x1 x2 x3 h))
  · obtain ⟨s, hs, rfl⟩ : ∃ s, s ≤ 16 ∧ rb = nI s := hq.elim (fun a => (h0 a).elim) id
    refine ⟨s + g, u', w', by omega, hU', fun post x2 h => ?_, fun post J4 J14 x1 x2 x3 h => ?_⟩
    · unfold ce_apX wX_simplify_20
      dsimp only
      rw [← ce_add2] at h
      exact hX _ (br_f h0 (nm_e (hX4 post _ h)))
    · unfold ce_apY wY_reduce_70
      dsimp only
      rw [← ce_add2] at h
      exact hY _ (br_f h0 (nm_e (hY4 post J4 J14 _ x2 x3 h)))
theorem ce_s2 {n v : Nat} (hv : v < n) {u : SX} {w : SY} (hU : ce_U n u w) : ∃ (g : Nat) (u' : SX) (w' : SY), g ≤ 33 ∧ ce_U n u' w' ∧
    (∀ (post : Int32 → SX → Prop) (x2 : Int32) (q : Int32 → SX → Prop), (∀ r a, ((r ≤ 0 → ce_apX (wX_simplify_20 post (nI (v + 1)) x2) a) ∧ (¬ r ≤ 0 → ∀ y : Int32, y = x2 + r → ce_apX (wX_simplify_20 post (nI (v + 1)) y) a)) → q r a) → post (x2 + nI g) u' → wpX_block q u (nI (v + 1))) ∧
    (∀ (post : Int32 → SY → Prop) (J4 J14 : Int32 → Int32 → ce_KY) (x1 x2 x3 : Int32), ce_apY (J14 (x1 + nI g) (nI (v + 1 + 1))) w' → ce_apY (wY_reduce_52 post J4 J14 x1 x2 x3 (nI (v + 1))) w) := by
  obtain ⟨rb, u1, w1, hq, hU1, hX, hY⟩ := ce_lblkU hU (nI (v + 1))
  obtain ⟨g, u', w', hg, hU', hX4, hY4⟩ := ce_s3 hv hU1
  obtain ⟨b1, b2, b3, b4, b5, b6, b7, b8, b9, b10, b11, b12, b13, b14, b15, b16⟩ := w
  obtain ⟨d1, d2, d3, d4, d5, d6, d7, d8, d9, d10, d11, d12, d13, d14, d15, d16⟩ := w1
  by_cases h0 : rb ≤ 0
  · refine ⟨g, u', w', by omega, hU', fun post x2 q hq h => hX _ (hq _ _ (br_t h0 (hX4 post x2 h))), fun post J4 J14 x1 x2 x3 h => ?_⟩
    unfold ce_apY wY_reduce_52
    dsimp only
    exact hY _ (br_t h0 (hY4 post J4 J14 x1 x2 x3 h))
  · obtain ⟨s, hs, rfl⟩ : ∃ s, s ≤ 16 ∧ rb = nI s := hq.elim (fun a => (h0 a).elim) id
    refine ⟨s + g, u', w', by omega, hU', fun post x2 q hq h => hX _ (hq _ _ (br_f h0 (nm_e (hX4 post _ ?_)))), fun post J4 J14 x1 x2 x3 h => ?_⟩
    · rw [← ce_add2] at h
      exact h
    · unfold ce_apY wY_reduce_52
      dsimp only
      rw [← ce_add2] at h
      exact hY _ (br_f h0 (nm_e (hY4 post J4 J14 _ x2 x3 h)))
end
section
/-! reduce: the passes -/
theorem ce_rin {n : Nat} (hn : n ≤ 8) : ∀ (d i : Nat), i + d = n → ∀ (u : SX) (w : SY), ce_U n u w → ∃ (g : Nat) (u' : SX) (w' : SY), g ≤ 50 * d ∧ ce_U n u' w' ∧
    (∀ (post : Int32 → SX → Prop) (J6 : Int32 → Int32 → Int32 → ce_KX) (x1 x3 x2 : Int32), ce_apX (J6 (x1 + (x2 + nI g)) (x2 + nI g) (x3 + 1)) u' → ce_apX (wX_reduce_20 post J6 x1 x3 (d + 1) x2 (nI (i + 1))) u) ∧
    (∀ (post : Int32 → SY → Prop) (J4 : Int32 → Int32 → ce_KY) (x2 x3 x1 : Int32), ((x1 + nI g = x3 → post (x1 + nI g) w') ∧ (¬ x1 + nI g = x3 → ce_apY (J4 (x1 + nI g) (x2 + 1)) w')) → ce_apY (wY_reduce_14 post J4 x2 x3 (d + 1) x1 (nI (i + 1))) w) := by
  intro d
  induction d with
  | zero =>
    intro i hi u w hU
    have e : i = n := by omega
    subst e
    refine ce_el (Q := fun u w => ∃ (g : Nat) (u' : SX) (w' : SY), g ≤ 50 * 0 ∧ ce_U i u' w' ∧
      (∀ (post : Int32 → SX → Prop) (J6 : Int32 → Int32 → Int32 → ce_KX) (x1 x3 x2 : Int32), ce_apX (J6 (x1 + (x2 + nI g)) (x2 + nI g) (x3 + 1)) u' → ce_apX (wX_reduce_20 post J6 x1 x3 (0 + 1) x2 (nI (i + 1))) u) ∧
      (∀ (post : Int32 → SY → Prop) (J4 : Int32 → Int32 → ce_KY) (x2 x3 x1 : Int32), ((x1 + nI g = x3 → post (x1 + nI g) w') ∧ (¬ x1 + nI g = x3 → ce_apY (J4 (x1 + nI g) (x2 + 1)) w')) → ce_apY (wY_reduce_14 post J4 x2 x3 (0 + 1) x1 (nI (i + 1))) w)) ?_ hU
    intro m z ac st te wc rz lz S FX W A SL SE SS T FY SB P PZ R LE r
    refine ⟨0, _, _, Nat.le_refl _, ce_mkU (S := S) (wc := wc) (rz := rz) (lz := lz) (W := W) (A := A) (R := R) (LE := LE) r, fun post J6 x1 x3 x2 h => ?_, fun post J4 x2 x3 x1 h => ?_⟩
    · rw [nI_0, Int32.add_zero] at h
      exact br_t (nI_lt (by omega) (by omega)) (nm_e (nm_e h))
    · rw [nI_0, Int32.add_zero] at h
      exact br_t (nI_lt (by omega) (by omega)) (br_c (fun a => h.1 a) (fun a => nm_e (h.2 a)))
  | succ d ih =>
    intro i hi u w hU
    refine ce_el (Q := fun u w => ∃ (g : Nat) (u' : SX) (w' : SY), g ≤ 50 * (d + 1) ∧ ce_U n u' w' ∧
      (∀ (post : Int32 → SX → Prop) (J6 : Int32 → Int32 → Int32 → ce_KX) (x1 x3 x2 : Int32), ce_apX (J6 (x1 + (x2 + nI g)) (x2 + nI g) (x3 + 1)) u' → ce_apX (wX_reduce_20 post J6 x1 x3 (d + 1 + 1) x2 (nI (i + 1))) u) ∧
      (∀ (post : Int32 → SY → Prop) (J4 : Int32 → Int32 → ce_KY) (x2 x3 x1 : Int32), ((x1 + nI g = x3 → post (x1 + nI g) w') ∧ (¬ x1 + nI g = x3 → ce_apY (J4 (x1 + nI g) (x2 + 1)) w')) → ce_apY (wY_reduce_14 post J4 x2 x3 (d + 1 + 1) x1 (nI (i + 1))) w)) ?_ hU
    intro m z ac st te wc rz lz S FX W A SL SE SS T FY SB P PZ R LE r
    have hv : i < n := by omega
    have ei : (nI (i + 1)).toNatClampNeg = i + 1 := nI_clamp (by omega)
    have vi : vp_in (nI (i + 1)) 9 := vp_in_nI (by omega) (by omega)
    have hnl : ¬ nI n < nI (i + 1) := nI_nlt (by omega) (by omega)
    by_cases hs : S (i + 1) = 3
    · obtain ⟨g, u', w', g1, g2, g3, g4⟩ := ih (i + 1) (by omega) _ _ (ce_mkU (S := S) (wc := wc) (rz := rz) (lz := lz) (W := W) (A := A) (R := R) (LE := LE) r)
      refine ⟨g, u', w', by omega, g2, fun post J6 x1 x3 x2 h => br_f hnl ⟨vi, ?_⟩, fun post J4 x2 x3 x1 h => br_f hnl ⟨vi, ?_⟩⟩
      · rw [ei]
        exact br_t hs (nm_r (nI_1 (i + 1)) (g3 post J6 x1 x3 x2 h))
      · rw [ei]
        exact br_t hs (nm_r (nI_1 (i + 1)) (g4 post J4 x2 x3 x1 h))
    · obtain ⟨rs, u1, w1, ⟨s, hs16, es⟩, hU1, hX1, hY1⟩ := ce_lstr (wc := wc) (rz := rz) (lz := lz) (W := W) (A := A) (R := R) (LE := LE) r hv hs
      subst es
      obtain ⟨g0, u2, w2, hg0, hU2, hX2, hY2⟩ := ce_s2 hv hU1
      obtain ⟨g, u', w', g1, g2, g3, g4⟩ := ih (i + 1) (by omega) u2 w2 hU2
      obtain ⟨d1, d2, d3, d4, d5, d6, d7, d8, d9, d10, d11, d12, d13, d14, d15, d16⟩ := w1
      obtain ⟨c1, c2, c3, c4, c5, c6, c7, c8, c9, c10, c11, c12, c13, c14, c15⟩ := u1
      obtain ⟨a1, a2, a3, a4, a5, a6, a7, a8, a9, a10, a11, a12, a13, a14, a15⟩ := u2
      obtain ⟨b1, b2, b3, b4, b5, b6, b7, b8, b9, b10, b11, b12, b13, b14, b15, b16⟩ := w2
      refine ⟨s + g0 + g, u', w', by omega, g2, fun post J6 x1 x3 x2 h => br_f hnl ⟨vi, ?_⟩, fun post J4 x2 x3 x1 h => br_f hnl ⟨vi, ?_⟩⟩
      · rw [ei]
        refine br_f hs ?_
        unfold wpX_simplify
        dsimp only
        refine hX1 _ ?_
        refine hX2 (fun r u => ∀ y : Int32, y = x2 + r → ∀ t : Int32, t = nI (i + 1) + 1 → ce_apX (wX_reduce_20 post J6 x1 x3 (d + 1) y t) u) (nI s) _ ?_ ?_
        · rintro r' ⟨e1, e2, e3, e4, e5, e6, e7, e8, e9, e10, e11, e12, e13, e14, e15⟩ hh
          exact hh
        · refine nm_e (nm_r (nI_1 (i + 1)) (g3 post J6 x1 x3 _ ?_))
          rw [nI_add s g0, ce_add2]
          exact h
      · rw [ei]
        refine br_f hs (hY1 _ ?_)
        rw [show s + g0 + g = s + (g0 + g) from Nat.add_assoc _ _ _, ← ce_add2, ← ce_add2] at h
        by_cases h0 : nI s ≤ 0
        · have hs0 : s = 0 := by
            rcases Nat.eq_zero_or_pos s with e | e
            · exact e
            · exact (nI_nle e (by omega) h0).elim
          subst hs0
          rw [nI_0, Int32.add_zero] at h
          refine br_t h0 (hY2 post J4 (wY_reduce_14 post J4 x2 x3 (d + 1)) x1 x2 x3 ?_)
          exact g4 post J4 x2 x3 _ h
        · refine br_f h0 (nm_e (hY2 post J4 (wY_reduce_14 post J4 x2 x3 (d + 1)) _ x2 x3 ?_))
          exact g4 post J4 x2 x3 _ h
theorem ce_rout {n : Nat} (hn : n ≤ 8) : ∀ (d p : Nat), p + d = 4 → ∀ (u : SX) (w : SY), ce_U n u w → ∃ (r : Int32) (u' : SX) (w' : SY), ce_U n u' w' ∧
    (∀ (post : Int32 → SX → Prop) (x1 x2 : Int32), ¬ x2 ≤ 0 → post (x1 + r) u' → ce_apX (wX_reduce_6 post (d + 1) x1 x2 (nI p)) u) ∧
    (∀ (post : Int32 → SY → Prop) (x1 : Int32), post (x1 + r) w' → ce_apY (wY_reduce_4 post (d + 1) x1 (nI p)) w) := by
  intro d
  induction d with
  | zero =>
    intro p hp u w hU
    have e : p = 4 := by omega
    subst e
    refine ⟨0, u, w, hU, fun post x1 x2 _ h => ?_, fun post x1 h => ?_⟩
    · obtain ⟨a1, a2, a3, a4, a5, a6, a7, a8, a9, a10, a11, a12, a13, a14, a15⟩ := u
      rw [Int32.add_zero] at h
      exact br_t (Int32.le_refl 4) h
    · obtain ⟨b1, b2, b3, b4, b5, b6, b7, b8, b9, b10, b11, b12, b13, b14, b15, b16⟩ := w
      rw [Int32.add_zero] at h
      exact br_t (Int32.le_refl 4) h
  | succ d ih =>
    intro p hp u w hU
    obtain ⟨g, u1, w1, g1, g2, g3, g4⟩ := ce_rin hn n 0 (by omega) u w hU
    have h4 : ¬ (4 : Int32) ≤ nI p := nI_ge (b := 4) (by omega) (by omega)
    by_cases hg : g = 0
    · subst hg
      refine ⟨0, u1, w1, g2, fun post x1 x2 hx h => ?_, fun post x1 h => ?_⟩
      · have k := g3 post (wX_reduce_6 post (d + 1)) x1 (nI p) 0
        obtain ⟨a1, a2, a3, a4, a5, a6, a7, a8, a9, a10, a11, a12, a13, a14, a15⟩ := u
        obtain ⟨c1, c2, c3, c4, c5, c6, c7, c8, c9, c10, c11, c12, c13, c14, c15⟩ := u1
        refine br_f h4 (br_f hx ⟨_, k ?_⟩)
        exact br_c (fun _ => h) (fun _ => br_t ce_00 h)
      · have k := g4 post (wY_reduce_4 post (d + 1)) (nI p) x1 x1
        obtain ⟨b1, b2, b3, b4, b5, b6, b7, b8, b9, b10, b11, b12, b13, b14, b15, b16⟩ := w
        refine br_f h4 ⟨_, k (br_t ?_ h)⟩
        rw [nI_0, Int32.add_zero]
    · obtain ⟨r1, u', w', q1, q2, q3⟩ := ih (p + 1) (by omega) u1 w1 g2
      refine ⟨nI g + r1, u', w', q1, fun post x1 x2 hx h => ?_, fun post x1 h => ?_⟩
      · have k := g3 post (wX_reduce_6 post (d + 1)) x1 (nI p) 0
        obtain ⟨a1, a2, a3, a4, a5, a6, a7, a8, a9, a10, a11, a12, a13, a14, a15⟩ := u
        refine br_f h4 (br_f hx ⟨_, k ?_⟩)
        rw [nI_1, Int32.zero_add]
        refine q2 post _ _ (nI_nle (by omega) (by omega)) ?_
        rw [Int32.add_assoc]
        exact h
      · have k := g4 post (wY_reduce_4 post (d + 1)) (nI p) x1 x1
        obtain ⟨b1, b2, b3, b4, b5, b6, b7, b8, b9, b10, b11, b12, b13, b14, b15, b16⟩ := w
        refine br_f h4 ⟨_, k (br_f (fun e => ?_) ?_)⟩
        · have e2 : nI g = 0 := by
            have e3 : x1 + nI g = x1 + 0 := by rw [Int32.add_zero]; exact e
            exact (Int32.add_right_inj x1).mp e3
          exact nI_ne0 (by omega) (by omega) e2
        · rw [nI_1]
          refine q3 post _ ?_
          rw [Int32.add_assoc]
          exact h
theorem ce_lred {n : Nat} (hn : n ≤ 8) {u : SX} {w : SY} (hU : ce_U n u w) : ce_Out n (fun _ => True) (fun post => wpX_reduce post u) (fun post => wpY_reduce post w) := by
  obtain ⟨r, u', w', h1, h2, h3⟩ := ce_rout hn 4 0 (by omega) u w hU
  refine ⟨0 + r, u', w', trivial, h1, fun post h => ?_, fun post h => ?_⟩
  · have k := h2 post 0 1 (by decide) h
    obtain ⟨a1, a2, a3, a4, a5, a6, a7, a8, a9, a10, a11, a12, a13, a14, a15⟩ := u
    exact ⟨_, k⟩
  · have k := h3 post 0 h
    obtain ⟨b1, b2, b3, b4, b5, b6, b7, b8, b9, b10, b11, b12, b13, b14, b15, b16⟩ := w
    exact ⟨_, k⟩
theorem ce_U_n {n : Nat} {u : SX} {w : SY} (hU : ce_U n u w) : n ≤ 8 := by
  refine ce_el (Q := fun _ _ => n ≤ 8) ?_ hU
  intro m z ac st te wc rz lz S FX W A SL SE SS T FY SB P PZ R LE r
  exact r.1.2
theorem i_vc_reduce {k : Nat} {u : SX} {v : SY} (I : i_Rel k u v) (hk : k + 5 ≤ 2562) : wpX_reduce (fun r u' => wpY_reduce (fun r' v' => r' = r ∧ i_Rel (k + 5) u' v') v) u := by
  obtain ⟨n, hU⟩ := I
  exact ce_vc (ce_lred (ce_U_n hU) hU)
end
section
/-! rebuild -/
theorem ce_m1s (s : Nat) : nI (s + 1) - 1 + (-1) = nI s - 1 := by rw [← nI_1]; grind
theorem ce_neg1 : nI 0 - 1 < 0 := by decide
theorem ce_li_le {v : Nat} (hv : v < 8) (b : Bool) : ce_li b v ≤ 0 ↔ b = false := by
  cases b
  · refine ⟨fun _ => rfl, fun _ => ?_⟩
    rw [ce_li_f, ← Int32.neg_zero, ← nI_0, sb_nle (by omega) (by omega)]; omega
  · refine ⟨fun h => ?_, fun h => absurd h (by decide)⟩
    rw [ce_li_t] at h
    exact (nI_nle (by omega) (by omega) h).elim
section
variable {f_n f_m f_mask f_size f_workCount f_acceptedCount f_stepCount : Int32} {a_state a_formula a_work a_accepted a_stepLiteral a_stepEliminates a_stepStart a_trail : Nat → Int32}
theorem xw_un60 {post : Int32 → Prop} {n s t0 t1 v : Nat} {b : Bool} {a : Int32} (hn : n ≤ 8) (hv : v < 8) (hs : s < 16) (hS1 : a_stepStart (s + 1) = nI t1) (ht : t0 ≤ t1) (ht2 : t1 ≤ 256)
    (h1 : ce_Md n (ce_sg a_trail t0 (t1 - t0)) a → post a) (h0 : ¬ ce_Md n (ce_sg a_trail t0 (t1 - t0)) a → post (ce_mad b v a)) : ∃ k, wX_undo_60 post (nI s) (ce_li b v) (ce_bi v) a (ce_tt n a) f_n f_m f_mask f_size f_workCount f_acceptedCount f_stepCount a_state a_formula a_work a_accepted a_stepLiteral a_stepEliminates a_stepStart a_trail k (nI t0) := by
  have e1 : (nI s + 1).toNatClampNeg = s + 1 := by rw [nI_1]; exact nI_clamp (by omega)
  have v1 : vp_in (nI s + 1) 17 := by rw [nI_1]; exact vp_in_nI (by omega) (by omega)
  refine loop_0 (fun k i (_ : Unit) => wX_undo_60 post (nI s) (ce_li b v) (ce_bi v) a (ce_tt n a) f_n f_m f_mask f_size f_workCount f_acceptedCount f_stepCount a_state a_formula a_work a_accepted a_stepLiteral a_stepEliminates a_stepStart a_trail k (nI (t0 + i))) (fun i _ => ∀ j, j < i → ce_Tr n (a_trail (t0 + j)) a) (t1 - t0) () lt_0 ?_ ?_
  · intro k u hI
    refine ⟨v1, ?_⟩
    rw [e1, hS1]
    refine br_t (nI_le (by omega) (by omega)) (h1 (fun c hc => ?_))
    obtain ⟨j, hj, rfl⟩ := ce_sg_mem.mp hc
    exact hI j hj
  · intro k i u hi hI ih
    refine ⟨v1, ?_⟩
    rw [e1, hS1, nI_clamp (show t0 + i < 2 ^ 31 by omega)]
    refine br_f (nI_ge (by omega) (by omega)) ⟨vp_in_nI (by omega) (by omega), br_c (fun y => ?_) (fun y => nm_r (nI_1 (t0 + i)) (ih () (lt_s hI ?_)))⟩
    · have hp := h0 (fun m => (ce_tr_iff hn _ _).mp y (m _ (ce_sg_mem.mpr ⟨i, hi, rfl⟩)))
      cases b
      · exact br_t ((ce_li_le hv false).mpr rfl) hp
      · exact br_f (fun w => absurd ((ce_li_le hv true).mp w) (by decide)) hp
    · exact Classical.byContradiction (fun w => y ((ce_tr_iff hn _ _).mpr w))
theorem xw_undo {post : Int32 → Prop} {n s t0 t1 v : Nat} {b e : Bool} {a : Int32} (hn : n ≤ 8) (hv : v < 8) (hs : s < 16) (hSL : a_stepLiteral s = ce_li b v) (hSE : a_stepEliminates s = (if e = true then 1 else 0)) (hS0 : a_stepStart s = nI t0) (hS1 : a_stepStart (s + 1) = nI t1) (ht : t0 ≤ t1) (ht2 : t1 ≤ 256)
    (h1 : ce_Md n (ce_sg a_trail t0 (t1 - t0)) (ce_a0 e v a) → post (ce_a0 e v a)) (h0 : ¬ ce_Md n (ce_sg a_trail t0 (t1 - t0)) (ce_a0 e v a) → post (ce_mad b v (ce_a0 e v a))) : wpX_undo post (f_n, f_m, ce_mk n, f_size, f_workCount, f_acceptedCount, f_stepCount, a_state, a_formula, a_work, a_accepted, a_stepLiteral, a_stepEliminates, a_stepStart, a_trail) (nI s) a := by
  have es : (nI s).toNatClampNeg = s := nI_clamp (by omega)
  have w42 : ∀ a', (ce_Md n (ce_sg a_trail t0 (t1 - t0)) a' → post a') → (¬ ce_Md n (ce_sg a_trail t0 (t1 - t0)) a' → post (ce_mad b v a')) → wX_undo_42 post (nI s) (ce_li b v) (ce_bi v) a' f_n f_m (ce_mk n) f_size f_workCount f_acceptedCount f_stepCount a_state a_formula a_work a_accepted a_stepLiteral a_stepEliminates a_stepStart a_trail := by
    intro a' k1 k0
    unfold wX_undo_42
    refine xw_truthsOf ⟨vp_in_nI (by omega) (by omega), ?_⟩
    rw [es]
    exact nm_r hS0 (xw_un60 hn hv hs hS1 ht ht2 k1 k0)
  have w18 : wX_undo_18 post (nI s) a (ce_li b v) (nI (v + 1)) 1 f_n f_m (ce_mk n) f_size f_workCount f_acceptedCount f_stepCount a_state a_formula a_work a_accepted a_stepLiteral a_stepEliminates a_stepStart a_trail := by
    unfold wX_undo_18
    rw [nI_pred, es, hSE]
    refine nm_e ⟨vp_in_nI (by omega) (by omega), ?_⟩
    cases e
    · exact br_t rfl (w42 a h1 h0)
    · exact br_f (by decide) (w42 (ce_mad false v a) h1 h0)
  refine ⟨vp_in_nI (by omega) (by omega), ?_⟩
  rw [es, hSL]
  refine nm_e ?_
  cases b
  · refine br_t ((ce_li_le hv false).mpr rfl) ?_
    rw [ce_li_f, Int32.neg_neg]
    exact w18
  · exact br_f (fun w => absurd ((ce_li_le hv true).mp w) (by decide)) w18
end
section
variable {f_n f_m f_size f_acceptedSize f_stepCount f_rawSize f_leastSize : Int32} {a_formula a_accepted a_state a_stepLit a_stepBlocks a_past a_pastSize a_raw a_least : Nat → Int32}
theorem yw_made {post : Int32 → Prop} {v : Nat} (hv : v < 8) (b : Bool) {a : Int32} (h : post (ce_mad b v a)) : wpY_made post (f_n, f_m, f_size, f_acceptedSize, f_stepCount, f_rawSize, f_leastSize, a_formula, a_accepted, a_state, a_stepLit, a_stepBlocks, a_past, a_pastSize, a_raw, a_least) a (ce_li b v) := by
  cases b
  · refine br_t ((ce_li_le hv false).mpr rfl) ?_
    rw [ce_li_f, Int32.neg_neg, nI_pred]
    exact h
  · refine br_f (fun w => absurd ((ce_li_le hv true).mp w) (by decide)) ?_
    rw [ce_li_t, nI_pred]
    exact h
theorem yw_rb54 {post : Int32 → Prop} {J : Int32 → Int32 → Prop} {n s z v : Nat} {b : Bool} {a : Int32} (hn : n ≤ 8) (hv : v < 8) (hs : s < 16) (hz : z ≤ 16) (hSL : a_stepLit s = ce_li b v) (hP : a_pastSize s = nI z)
    (h1 : ce_Md n (ce_sg a_past (16 * s) z) a → J a (nI s - 1)) (h0 : ¬ ce_Md n (ce_sg a_past (16 * s) z) a → J (ce_mad b v a) (nI s - 1)) : wY_rebuild_54 post J a (nI s) (nI n) f_m f_size f_acceptedSize f_stepCount f_rawSize f_leastSize a_formula a_accepted a_state a_stepLit a_stepBlocks a_past a_pastSize a_raw a_least := by
  have e : nI s + (-1) = nI s - 1 := by grind
  unfold wY_rebuild_54
  rw [nI_clamp (show s < 2 ^ 31 by omega), hSL]
  refine yw_pastHolds hn hs hz hP (ce_br (fun y => ⟨vp_in_nI (by omega) (by omega), yw_made hv b (nm_r e (h0 y))⟩) (fun y => nm_r e (h1 y)))
end
section
variable {n m z ac st te : Nat} {wc rz lz : Int32} {S FX W A SL SE SS T FY SB P PZ R LE : Nat → Int32}
theorem ce_lrb (r : ce_Rel n m z ac st te FX SL SE SS T FY SB P PZ) : ∀ s, s ≤ st → ∀ a, ce_Md n (if s < st then ce_sg P (16 * s) (PZ s).toNatClampNeg else ce_ls FX z) a → ∃ res : Int32,
    (∀ post : Int32 → Prop, post res → wX_rebuild_24 post (nI n) (nI m) (ce_mk n) (nI z) wc (nI ac) (nI st) S FX W A SL SE SS T (s + 1) a (nI s - 1)) ∧ (∀ post : Int32 → Prop, post res → wY_rebuild_28 post (nI n) (nI m) (nI z) (nI ac) (nI st) rz lz FY A S SL SB P PZ R LE (s + 1) a (nI s - 1)) := by
  obtain ⟨⟨hn2, hn⟩, ⟨hm4, hm⟩, hz, hac, hst, hF, hp, hH⟩ := r
  intro s
  induction s with
  | zero =>
    intro _ a _
    exact ⟨a, fun post h => br_t ce_neg1 h, fun post h => br_t ce_neg1 h⟩
  | succ s ih =>
    intro hs a ha
    obtain ⟨t0, t1, pz, b, v, e, g1, g2, g3, g4, g5, g6, g7, g8, g9, g10, g11, g12⟩ := hH.2.2.2 s (by omega)
    have hte := hH.2.2.1
    have hv8 : v < 8 := by omega
    have hs16 : s < 16 := by omega
    unfold ce_nx at g12
    obtain ⟨hsub, hHI⟩ := g12
    obtain ⟨k1, k0⟩ := hHI a ha
    have em1 : nI s + (-1) = nI s - 1 := by grind
    have hpos : ¬ nI s < 0 := nI_pos (by omega)
    have next : ∀ a', ce_Md n (ce_sg P (16 * s) pz) a' → ∃ res : Int32,
        (∀ post : Int32 → Prop, post res → wX_rebuild_24 post (nI n) (nI m) (ce_mk n) (nI z) wc (nI ac) (nI st) S FX W A SL SE SS T (s + 1) a' (nI s - 1)) ∧ (∀ post : Int32 → Prop, post res → wY_rebuild_28 post (nI n) (nI m) (nI z) (nI ac) (nI st) rz lz FY A S SL SB P PZ R LE (s + 1) a' (nI s - 1)) := by
      intro a' h
      refine ih (by omega) a' ?_
      rw [if_pos (by omega), g5, nI_clamp (show pz < 2 ^ 31 by omega)]
      exact h
    have stepX : ∀ (a' res : Int32), ((ce_Md n (ce_sg T t0 (t1 - t0)) (ce_a0 e v a) ∧ a' = ce_a0 e v a) ∨ (¬ ce_Md n (ce_sg T t0 (t1 - t0)) (ce_a0 e v a) ∧ a' = ce_mad b v (ce_a0 e v a))) →
        (∀ post : Int32 → Prop, post res → wX_rebuild_24 post (nI n) (nI m) (ce_mk n) (nI z) wc (nI ac) (nI st) S FX W A SL SE SS T (s + 1) a' (nI s - 1)) → ∀ post : Int32 → Prop, post res → wX_rebuild_24 post (nI n) (nI m) (ce_mk n) (nI z) wc (nI ac) (nI st) S FX W A SL SE SS T (s + 1 + 1) a (nI (s + 1) - 1) := by
      intro a' res hc hk post h
      rw [nI_pred]
      refine br_f hpos (xw_undo hn hv8 hs16 g8 g10 g1 g2 g3 (by omega) (fun y => nm_r em1 ?_) (fun y => nm_r em1 ?_))
      · rcases hc with ⟨_, rfl⟩ | ⟨c, _⟩
        · exact hk post h
        · exact (c y).elim
      · rcases hc with ⟨c, _⟩ | ⟨_, rfl⟩
        · exact (y c).elim
        · exact hk post h
    have stepY : ∀ (a' res : Int32), ((ce_Md n (ce_sg P (16 * s) pz) (ce_a0 e v a) ∧ a' = ce_a0 e v a) ∨ (¬ ce_Md n (ce_sg P (16 * s) pz) (ce_a0 e v a) ∧ a' = ce_mad b v (ce_a0 e v a))) →
        (∀ post : Int32 → Prop, post res → wY_rebuild_28 post (nI n) (nI m) (nI z) (nI ac) (nI st) rz lz FY A S SL SB P PZ R LE (s + 1) a' (nI s - 1)) → ∀ post : Int32 → Prop, post res → wY_rebuild_28 post (nI n) (nI m) (nI z) (nI ac) (nI st) rz lz FY A S SL SB P PZ R LE (s + 1 + 1) a (nI (s + 1) - 1) := by
      intro a' res hc hk post h
      have vs : vp_in (nI s) 16 := vp_in_nI (by omega) (by omega)
      have go : wY_rebuild_54 post (wY_rebuild_28 post (nI n) (nI m) (nI z) (nI ac) (nI st) rz lz FY A S SL SB P PZ R LE (s + 1)) (ce_a0 e v a) (nI s) (nI n) (nI m) (nI z) (nI ac) (nI st) rz lz FY A S SL SB P PZ R LE := by
        refine yw_rb54 hn hv8 hs16 g6 g8 g5 (fun y => ?_) (fun y => ?_)
        · rcases hc with ⟨_, rfl⟩ | ⟨c, _⟩
          · exact hk post h
          · exact (c y).elim
        · rcases hc with ⟨c, _⟩ | ⟨_, rfl⟩
          · exact (y c).elim
          · exact hk post h
      rw [nI_pred]
      refine br_f hpos ⟨vs, ?_⟩
      rw [nI_clamp (show s < 2 ^ 31 by omega), g11, g8]
      cases e
      · exact br_f (by decide) go
      · have hb : b = true := g9 rfl
        subst hb
        refine br_t rfl ⟨vs, ?_⟩
        rw [ce_li_neg v hv8 true]
        exact yw_made hv8 false go
    by_cases hall : ce_Md n (ce_sg T t0 (t1 - t0)) (ce_a0 e v a)
    · have hP := k1 hall
      obtain ⟨res, r1, r2⟩ := next _ hP
      exact ⟨res, stepX _ res (Or.inl ⟨hall, rfl⟩) r1, stepY _ res (Or.inl ⟨hP, rfl⟩) r2⟩
    · have hP := k0 hall
      have hnP : ¬ ce_Md n (ce_sg P (16 * s) pz) (ce_a0 e v a) := fun w => hall (fun c hc => w c (hsub c hc))
      obtain ⟨res, r1, r2⟩ := next _ hP
      exact ⟨res, stepX _ res (Or.inr ⟨hall, rfl⟩) r1, stepY _ res (Or.inr ⟨hnP, rfl⟩) r2⟩
end
theorem i_vc_rebuild {k : Nat} {u : SX} {v : SY} (I : i_Rel k u v) (hk : k + 5 ≤ 2562) (v1 : Int32) : wpX_rebuild (fun r => wpY_rebuild (fun r' => r' = r ∧ i_Rel (k + 5) u v) v v1) u v1 := by
  obtain ⟨n, hU⟩ := I
  refine ce_el (Q := fun u v => wpX_rebuild (fun r => wpY_rebuild (fun r' => r' = r ∧ i_Rel (k + 5) u v) v v1) u v1) ?_ hU
  intro m z ac st te wc rz lz S FX W A SL SE SS T FY SB P PZ R LE r
  have hrel : i_Rel (k + 5) (nI n, nI m, ce_mk n, nI z, wc, nI ac, nI st, S, FX, W, A, SL, SE, SS, T) (nI n, nI m, nI z, nI ac, nI st, rz, lz, FY, A, S, SL, SB, P, PZ, R, LE) := ⟨n, ce_mkU r⟩
  have hn := r.1.2
  have hz16 : z ≤ 16 := Nat.le_trans r.2.2.1 r.2.1.2
  have hp := r.2.2.2.2.2.2.1
  unfold wpX_rebuild
  dsimp only
  refine xw_holds hn hz16 (ce_br (fun y => ?_) (fun y => nm_e (nm_e ?_)))
  · unfold wpY_rebuild
    dsimp only
    exact yw_holds hn hz16 (ce_br (fun _ => ⟨rfl, hrel⟩) (fun t => (y ((ce_Md_perm hp).mpr t)).elim))
  · obtain ⟨res, r1, r2⟩ := ce_lrb (wc := wc) (rz := rz) (lz := lz) (S := S) (W := W) (A := A) (R := R) (LE := LE) r st (Nat.le_refl _) (v1 &&& ce_mk n) (by
      rw [if_neg (Nat.lt_irrefl _)]
      exact fun c hc => (ce_Tr_mask hn c v1).mpr (y c hc))
    refine ⟨_, r1 _ ?_⟩
    unfold wpY_rebuild
    dsimp only
    exact yw_holds hn hz16 (ce_br (fun t => (t ((ce_Md_perm hp).mp y)).elim) (fun _ => nm_e (nm_e ⟨_, r2 _ ⟨rfl, hrel⟩⟩)))
end
section
/-! model -/
theorem ce_btN (k : Nat) {i : Nat} (hi : i < 32) : bt (nI k) i = k.testBit i := by
  show (BitVec.ofNat 32 k).getLsbD i = _
  rw [BitVec.getLsbD_ofNat, decide_eq_true hi, Bool.true_and]
theorem ce_orN (a b : Nat) : nI a ||| nI b = nI (a ||| b) := by
  apply b_ext
  intro i hi
  rw [b_or, ce_btN a hi, ce_btN b hi, ce_btN (a ||| b) hi, Nat.testBit_or]
theorem ce_pw : ∀ n, n < 9 → (1 : Int32) <<< (nI n &&& 31) = nI (2 ^ n) := by decide +kernel
theorem ce_pwl : ∀ n, n < 9 → 2 ^ n ≤ 256 := by decide +kernel
theorem ce_low : ∀ k, k < 256 → k ≠ 0 → ((List.range 8).any (fun p => decide (nI k &&& -nI k = nI (2 ^ p)) && (k.testBit p && (List.range p).all (fun q => !k.testBit q)))) = true := by decide +kernel
theorem ce_low' {k : Nat} (hk : k < 256) (h0 : k ≠ 0) : ∃ p, p < 8 ∧ nI k &&& -nI k = nI (2 ^ p) ∧ k.testBit p = true ∧ ∀ q, q < p → k.testBit q = false := by
  obtain ⟨p, hp, e⟩ := List.any_eq_true.mp (ce_low k hk h0)
  rw [Bool.and_eq_true, Bool.and_eq_true, decide_eq_true_eq] at e
  refine ⟨p, List.mem_range.mp hp, e.1, e.2.1, fun q hq => ?_⟩
  have h := List.all_eq_true.mp e.2.2 q (List.mem_range.mpr hq)
  cases f : k.testBit q
  · rfl
  · rw [f] at h; exact absurd h (by decide)
theorem ce_adv {a p b : Nat} (h1 : a ≤ b) (h2 : b ≤ a ||| (2 ^ p - 1)) {q : Nat} (hq : p ≤ q) : b.testBit q = a.testBit q := by
  have e : (a ||| (2 ^ p - 1)) / 2 ^ p = a / 2 ^ p := by
    apply Nat.eq_of_testBit_eq
    intro i
    rw [Nat.testBit_div_two_pow, Nat.testBit_div_two_pow, Nat.testBit_or, Nat.testBit_two_pow_sub_one, decide_eq_false (show ¬ i + p < p by omega), Bool.or_false]
  have h3 : b / 2 ^ p = a / 2 ^ p := by
    have x1 := Nat.div_le_div_right (c := 2 ^ p) h1
    have x2 := Nat.div_le_div_right (c := 2 ^ p) h2
    omega
  have x1 := Nat.testBit_div_two_pow (n := p) b (q - p)
  have x2 := Nat.testBit_div_two_pow (n := p) a (q - p)
  rw [show q - p + p = q by omega] at x1 x2
  rw [← x1, ← x2, h3]
def ce_ft (n : Nat) (L : List Int32) (ca va a : Int32) : Prop := ce_Md n L a ∧ ∀ v, v < n → bt ca v = true → bt a v = bt va v
def ce_nf2 (n : Nat) (L : List Int32) (ca va a : Int32) (p : Nat) : Prop := ∀ b : Int32, (∀ q, p ≤ q → q < n → bt b q = bt a q) → ¬ ce_ft n L ca va b
def ce_ms (n : Nat) (L : List Int32) (ca va r : Int32) : Prop :=
  (∃ a, a < 2 ^ n ∧ r = nI a ∧ ce_ft n L ca va (nI a) ∧ ∀ b, b < a → ¬ ce_ft n L ca va (nI b)) ∨ (r = -1 ∧ ∀ b, b < 2 ^ n → ¬ ce_ft n L ca va (nI b))
theorem ce_ms_un {n : Nat} {L L' : List Int32} {ca va r r' : Int32} (p : L.Perm L') (h : ce_ms n L ca va r) (h' : ce_ms n L' ca va r') : r' = r := by
  have e : ∀ a, ce_ft n L ca va a ↔ ce_ft n L' ca va a := fun a => and_congr (ce_Md_perm p) Iff.rfl
  rcases h with ⟨a, ha, e1, f1, g1⟩ | ⟨e1, g1⟩
  · rcases h' with ⟨b, hb, e2, f2, g2⟩ | ⟨e2, g2⟩
    · rcases Nat.lt_trichotomy a b with t | t | t
      · exact (g2 a t ((e _).mp f1)).elim
      · rw [e1, e2, t]
      · exact (g1 b t ((e _).mpr f2)).elim
    · exact (g2 a ha ((e _).mp f1)).elim
  · rcases h' with ⟨b, hb, e2, f2, g2⟩ | ⟨e2, g2⟩
    · exact (g1 b hb ((e _).mpr f2)).elim
    · rw [e1, e2]
def ce_wr (n : Nat) (ca va a : Int32) : Int32 := ((a ^^^ va) &&& ca) &&& ce_mk n
theorem ce_wr_b {n : Nat} (hn : n ≤ 8) (ca va a : Int32) {i : Nat} (hi : i < n) : bt (ce_wr n ca va a) i = ((bt a i ^^ bt va i) && bt ca i) := by
  unfold ce_wr
  rw [b_and, b_and, b_xor, ce_mk_b n (by omega) i (by omega), decide_eq_true hi, Bool.and_true]
section
variable {f_n f_m f_mask f_size f_workCount f_acceptedCount f_stepCount : Int32} {a_state a_formula a_work a_accepted a_stepLiteral a_stepEliminates a_stepStart a_trail : Nat → Int32}
theorem xw_low {post : Int32 → Prop} {n : Nat} {c : Int32} (hn : n ≤ 8) (hc : ce_OK n c) (h : ∀ p, p ≤ n → (∀ q, q < p → bt c q = false ∧ bt c (q + 8) = false) → post (nI (2 ^ p))) : wpX_lowestVariable post (nI n, f_m, f_mask, f_size, f_workCount, f_acceptedCount, f_stepCount, a_state, a_formula, a_work, a_accepted, a_stepLiteral, a_stepEliminates, a_stepStart, a_trail) c := by
  obtain ⟨k, hk, e⟩ := pk_andE (c ||| (c >>> ((8 : Int32) &&& 31))) (m := 255) 8 (by decide)
  have hb : ∀ q, q < 8 → k.testBit q = (bt c q || bt c (q + 8)) := by
    intro q hq
    rw [← ce_btN k (show q < 32 by omega), ← e, b_and, b_255, decide_eq_true hq, Bool.and_true, b_or, b_sshr8 c (by omega), if_pos (show 8 + q < 32 by omega), Nat.add_comm 8 q]
  have hq0 : ∀ q, q < 8 → k.testBit q = false → bt c q = false ∧ bt c (q + 8) = false := by
    intro q hq hf
    rw [hb q hq] at hf
    cases e1 : bt c q
    · rw [e1, Bool.false_or] at hf
      exact ⟨rfl, hf⟩
    · rw [e1] at hf; simp at hf
  refine nm_r e ?_
  by_cases h0 : k = 0
  · subst h0
    refine br_t nI_0 ?_
    rw [ce_pw n (by omega)]
    exact h n (Nat.le_refl _) (fun q hq => hq0 q (by omega) (Nat.zero_testBit q))
  · obtain ⟨p, hp, e1, e2, e3⟩ := ce_low' (k := k) (by omega) h0
    have hpn : p ≤ n := by
      rw [hb p hp] at e2
      cases f : bt c p
      · rw [f, Bool.false_or] at e2
        have := hc (p + 8) (by omega) e2
        omega
      · have := hc p (by omega) f
        omega
    refine br_f (nI_ne0 (by omega) (by omega)) ?_
    rw [e1]
    exact h p hpn (fun q hq => hq0 q (by omega) (e3 q hq))
theorem ce_nf_c {n : Nat} {L : List Int32} {ca va a c : Int32} {p : Nat} (hcL : c ∈ L) (ht : ¬ ce_Tr n c a) (hl : ∀ q, q < p → bt c q = false ∧ bt c (q + 8) = false) : ce_nf2 n L ca va a p := by
  intro b hb hf
  obtain ⟨u, hu, e⟩ := hf.1 c hcL
  have hpu : p ≤ u := by
    rcases Nat.lt_or_ge u p with k | k
    · obtain ⟨l1, l2⟩ := hl u k
      rcases e with e | e
      · rw [l1] at e; exact absurd e.1 (by decide)
      · rw [l2] at e; exact absurd e.1 (by decide)
    · exact k
  rw [hb u hpu hu] at e
  exact ht ⟨u, hu, e⟩
theorem xw_cs44 {post : Int32 → Prop} {n z : Nat} {ca va a x : Int32} (hn : n ≤ 8) (hz : z ≤ 16) (hL : ∀ c, c ∈ ce_ls a_formula z → ce_C n c) (hx : (x = 0 ∧ ∀ v, v < n → bt ca v = true → bt a v = bt va v) ∨ ∃ p, p ≤ n ∧ x = nI (2 ^ p) ∧ ce_nf2 n (ce_ls a_formula z) ca va a p)
    (h0 : ce_ft n (ce_ls a_formula z) ca va a → post 0) (h1 : ∀ p, p ≤ n → ce_nf2 n (ce_ls a_formula z) ca va a p → post (nI (2 ^ p))) : ∃ k, wX_conflictStride_44 post (ce_tt n a) (nI n) f_m f_mask (nI z) f_workCount f_acceptedCount f_stepCount a_state a_formula a_work a_accepted a_stepLiteral a_stepEliminates a_stepStart a_trail k x 0 := by
  refine loop_0 (fun k j (s : Int32) => wX_conflictStride_44 post (ce_tt n a) (nI n) f_m f_mask (nI z) f_workCount f_acceptedCount f_stepCount a_state a_formula a_work a_accepted a_stepLiteral a_stepEliminates a_stepStart a_trail k s (nI j)) (fun j s => (s = 0 ∧ (∀ v, v < n → bt ca v = true → bt a v = bt va v) ∧ ∀ j', j' < j → ce_Tr n (a_formula j') a) ∨ ∃ p, p ≤ n ∧ s = nI (2 ^ p) ∧ ce_nf2 n (ce_ls a_formula z) ca va a p) z x (hx.imp (fun w => ⟨w.1, w.2, lt_0⟩) id) ?_ ?_
  · intro k s hI
    refine br_t (nI_le (Nat.le_refl _) (by omega)) ?_
    rcases hI with ⟨rfl, i1, i2⟩ | ⟨p, hp, rfl, i1⟩
    · refine h0 ⟨fun c hc => ?_, i1⟩
      obtain ⟨j, hj, rfl⟩ := ce_ls_mem.mp hc
      exact i2 j hj
    · exact h1 p hp i1
  · intro k j s hj hI ih
    refine br_f (nI_ge hj (by omega)) ⟨vp_in_nI (by omega) (by omega), ?_⟩
    rw [nI_clamp (show j < 2 ^ 31 by omega)]
    refine br_c (fun y => ⟨vp_in_nI (by omega) (by omega), ?_⟩) (fun y => nm_r (nI_1 j) (ih _ ?_))
    · have ht := (ce_tr_iff hn _ _).mp y
      refine xw_low hn (hL _ (ce_ls_at hj)).1 (fun p hp hl => ?_)
      have hnf : ce_nf2 n (ce_ls a_formula z) ca va a p := ce_nf_c (ce_ls_at hj) ht hl
      refine br_c (fun t => nm_r (nI_1 j) (ih _ ?_)) (fun t => nm_r (nI_1 j) (ih _ (Or.inr ⟨p, hp, rfl, hnf⟩)))
      rcases hI with ⟨rfl, i1, i2⟩ | w
      · have := ce_pwl p (by omega)
        exact (nI_nle (Nat.two_pow_pos p) (by omega) t).elim
      · exact Or.inr w
    · have ht : ce_Tr n (a_formula j) a := Classical.byContradiction (fun w => y ((ce_tr_iff hn _ _).mpr w))
      rcases hI with ⟨i0, i1, i2⟩ | w
      · exact Or.inl ⟨i0, i1, lt_s i2 ht⟩
      · exact Or.inr w
theorem xw_cs {post : Int32 → Prop} {n z : Nat} {ca va a : Int32} (hn : n ≤ 8) (hz : z ≤ 16) (hL : ∀ c, c ∈ ce_ls a_formula z → ce_C n c)
    (h0 : ce_ft n (ce_ls a_formula z) ca va a → post 0) (h1 : ∀ p, p ≤ n → ce_nf2 n (ce_ls a_formula z) ca va a p → post (nI (2 ^ p))) : wpX_conflictStride post (nI n, f_m, ce_mk n, nI z, f_workCount, f_acceptedCount, f_stepCount, a_state, a_formula, a_work, a_accepted, a_stepLiteral, a_stepEliminates, a_stepStart, a_trail) a (ce_wr n ca va a) := by
  refine loop_0 (fun k i (s : Int32) => wX_conflictStride_5 post a (ce_wr n ca va a) (nI n) f_m (ce_mk n) (nI z) f_workCount f_acceptedCount f_stepCount a_state a_formula a_work a_accepted a_stepLiteral a_stepEliminates a_stepStart a_trail k s (nI i)) (fun i s => (s = 0 ∧ ∀ v, v < i → bt (ce_wr n ca va a) v = false) ∨ ∃ p, p < i ∧ s = nI (2 ^ p) ∧ bt (ce_wr n ca va a) p = true) n 0 (Or.inl ⟨rfl, lt_0⟩) ?_ ?_
  · intro k s hI
    refine br_t (nI_le (Nat.le_refl _) (by omega)) (xw_truthsOf (xw_cs44 hn hz hL ?_ h0 h1))
    rcases hI with ⟨e, i1⟩ | ⟨p, hp, e, i1⟩
    · refine Or.inl ⟨e, fun v hv hca => ?_⟩
      have h2 := i1 v hv
      rw [ce_wr_b hn ca va a hv, hca, Bool.and_true] at h2
      cases f1 : bt a v <;> cases f2 : bt va v <;> rw [f1, f2] at h2 <;> first | rfl | exact absurd h2 (by decide)
    · refine Or.inr ⟨p, by omega, e, fun b hb hf => ?_⟩
      rw [ce_wr_b hn ca va a hp, Bool.and_eq_true] at i1
      have h2 := hf.2 p hp i1.2
      rw [hb p (Nat.le_refl _) hp] at h2
      rw [h2] at i1
      revert i1
      cases bt va p <;> simp
  · intro k i s hi hI ih
    refine br_f (nI_ge hi (by omega)) ?_
    have e1 := ce_one (p := i) (s := (1 : Int32) <<< (nI i &&& 31)) (by omega) (fun j hj => ce_bi_b i (by omega) j hj) (ce_wr n ca va a)
    refine br_c (fun y => nm_r (nI_1 i) (ih _ ?_)) (fun y => nm_r (ce_pw i (by omega)) (nm_r (nI_1 i) (ih _ (Or.inr ⟨i, by omega, rfl, ?_⟩))))
    · rcases hI with ⟨e, i1⟩ | ⟨p, hp, e, i1⟩
      · exact Or.inl ⟨e, lt_s i1 (e1.mp y)⟩
      · exact Or.inr ⟨p, by omega, e, i1⟩
    · exact ce_nf (fun w => y (e1.mpr w))
theorem xw_model {post : Int32 → Prop} {n z : Nat} {ca va : Int32} (hn : n ≤ 8) (hz : z ≤ 16) (hL : ∀ c, c ∈ ce_ls a_formula z → ce_C n c) (h : ∀ r, ce_ms n (ce_ls a_formula z) ca va r → post r) : wpX_model post (nI n, f_m, ce_mk n, nI z, f_workCount, f_acceptedCount, f_stepCount, a_state, a_formula, a_work, a_accepted, a_stepLiteral, a_stepEliminates, a_stepStart, a_trail) ca va := by
  have h256 := ce_pwl n (by omega)
  have key : ∀ d a rd, 2 ^ n ≤ a + d → rd ≤ a → a ≤ 2 ^ n → (∀ b, b < a → ¬ ce_ft n (ce_ls a_formula z) ca va (nI b)) → wX_model_13 post ca va (nI (2 ^ n)) (nI n) f_m (ce_mk n) (nI z) f_workCount f_acceptedCount f_stepCount a_state a_formula a_work a_accepted a_stepLiteral a_stepEliminates a_stepStart a_trail (d + 1) (nI a) (nI rd) := by
    intro d
    induction d with
    | zero =>
      intro a rd h1 h2 h3 h4
      have hno : post (-1) := h _ (Or.inr ⟨rfl, fun b hb => h4 b (by omega)⟩)
      exact br_c (fun _ => hno) (fun _ => br_t (nI_le (by omega) (by omega)) hno)
    | succ d ih =>
      intro a rd h1 h2 h3 h4
      refine pk_le (2 ^ n) rd (fun w => h _ (Or.inr ⟨rfl, fun b hb => h4 b (by omega)⟩)) (fun w => ?_) rfl rfl (by omega) (by omega)
      refine pk_le (2 ^ n) a (fun w => h _ (Or.inr ⟨rfl, fun b hb => h4 b (by omega)⟩)) (fun w => ?_) rfl rfl (by omega) (by omega)
      refine nm_e (xw_cs hn hz hL (fun hf => br_t rfl (h _ (Or.inl ⟨a, w, rfl, hf, h4⟩))) (fun p hp hnf => ?_))
      have hpp := ce_pwl p (by omega)
      have hp0 := Nat.two_pow_pos p
      have hlt : a ||| (2 ^ p - 1) < 2 ^ n := Nat.or_lt_two_pow w (by
        have := Nat.pow_le_pow_right (show 0 < 2 by omega) hp
        omega)
      have hge : a ≤ a ||| (2 ^ p - 1) := Nat.left_le_or
      have e : (nI a ||| (nI (2 ^ p) - 1)) + 1 = nI ((a ||| (2 ^ p - 1)) + 1) := by
        rw [show nI (2 ^ p) - 1 = nI (2 ^ p - 1) from pk_sub (b := 1) hp0, ce_orN, nI_1]
      refine br_f (nI_ne0 hp0 (by omega)) (nm_r e (nm_r (nI_1 rd) (ih _ _ (by omega) (by omega) (by omega) (fun b hb => ?_))))
      rcases Nat.lt_or_ge b a with t | t
      · exact h4 b t
      · refine hnf (nI b) (fun q hq hqn => ?_)
        rw [ce_btN b (by omega), ce_btN a (by omega)]
        exact ce_adv t (by omega) hq
  refine nm_r (ce_pw n (by omega)) ⟨2 ^ n + 1, ?_⟩
  exact key (2 ^ n) 0 0 (by omega) (by omega) (Nat.zero_le _) (fun b hb => absurd hb (Nat.not_lt_zero b))
end
section
variable {f_n f_m f_size f_acceptedSize f_stepCount f_rawSize f_leastSize : Int32} {a_formula a_accepted a_state a_stepLit a_stepBlocks a_past a_pastSize a_raw a_least : Nat → Int32}
theorem yw_md22 {post : Int32 → Prop} {J : Int32 → Prop} {n a : Nat} {ca va x : Int32} (L : List Int32) (hn : n ≤ 8) (hx : x = ce_b (ce_Md n L (nI a))) (h1 : ce_ft n L ca va (nI a) → post (nI a)) (h0 : ¬ ce_ft n L ca va (nI a) → J (nI (a + 1))) : ∃ k, wY_model_22 post J ca va (nI a) (nI n) f_m f_size f_acceptedSize f_stepCount f_rawSize f_leastSize a_formula a_accepted a_state a_stepLit a_stepBlocks a_past a_pastSize a_raw a_least k x 1 := by
  have e0 : ce_b (ce_Md n L (nI a)) = ce_b (ce_Md n L (nI a) ∧ ∀ v, v < 0 → bt ca v = true → bt (nI a) v = bt va v) := ce_bc ⟨fun w => ⟨w, lt_0⟩, fun w => w.1⟩
  refine loop_0 (fun k i (s : Int32) => wY_model_22 post J ca va (nI a) (nI n) f_m f_size f_acceptedSize f_stepCount f_rawSize f_leastSize a_formula a_accepted a_state a_stepLit a_stepBlocks a_past a_pastSize a_raw a_least k s (nI (i + 1))) (fun i s => s = ce_b (ce_Md n L (nI a) ∧ ∀ v, v < i → bt ca v = true → bt (nI a) v = bt va v)) n x (hx.trans e0) ?_ ?_
  · intro k s hI
    subst hI
    exact br_t (nI_lt (by omega) (by omega)) (ce_br (fun y => nm_r (nI_1 a) (h0 y)) (fun y => h1 y))
  · intro k i s hi hI ih
    subst hI
    refine br_f (nI_nlt (by omega) (by omega)) ?_
    rw [nI_pred, ce_sh1t ca (show i < 32 by omega), ce_sh1e (nI a) va (show i < 32 by omega)]
    have keep : (bt ca i = true → bt (nI a) i = bt va i) → ce_b (ce_Md n L (nI a) ∧ ∀ v, v < i → bt ca v = true → bt (nI a) v = bt va v) = ce_b (ce_Md n L (nI a) ∧ ∀ v, v < i + 1 → bt ca v = true → bt (nI a) v = bt va v) :=
      fun e => ce_bc ⟨fun w => ⟨w.1, lt_s w.2 e⟩, fun w => ⟨w.1, fun v hv => w.2 v (by omega)⟩⟩
    refine br_c (fun y => br_c (fun t => nm_r (nI_1 (i + 1)) (ih _ (keep (fun _ => t)))) (fun t => nm_r (nI_1 (i + 1)) (ih _ ?_))) (fun y => nm_r (nI_1 (i + 1)) (ih _ (keep (fun w => (y w).elim))))
    exact (ce_bf (fun w => t (w.2 i (by omega) y))).symm
theorem yw_model {post : Int32 → Prop} {n z : Nat} {ca va : Int32} (hn : n ≤ 8) (hz : z ≤ 16) (h : ∀ r, ce_ms n (ce_ls a_formula z) ca va r → post r) : wpY_model post (nI n, f_m, nI z, f_acceptedSize, f_stepCount, f_rawSize, f_leastSize, a_formula, a_accepted, a_state, a_stepLit, a_stepBlocks, a_past, a_pastSize, a_raw, a_least) ca va := by
  have h256 := ce_pwl n (by omega)
  refine loop_0 (fun k a (_ : Unit) => wY_model_2 post ca va (nI n) f_m (nI z) f_acceptedSize f_stepCount f_rawSize f_leastSize a_formula a_accepted a_state a_stepLit a_stepBlocks a_past a_pastSize a_raw a_least k (nI a)) (fun a _ => ∀ b, b < a → ¬ ce_ft n (ce_ls a_formula z) ca va (nI b)) (2 ^ n) () lt_0 ?_ ?_
  · intro k s hI
    refine br_t ?_ (h _ (Or.inr ⟨rfl, hI⟩))
    rw [ce_pw n (by omega)]
    exact nI_le (Nat.le_refl _) (by omega)
  · intro k a s ha hI ih
    refine br_f ?_ (yw_holds hn hz (yw_md22 (ce_ls a_formula z) hn rfl (fun w => h _ (Or.inl ⟨a, ha, rfl, w, hI⟩)) (fun w => ih () (lt_s hI w))))
    rw [ce_pw n (by omega)]
    exact nI_ge ha (by omega)
end
theorem i_vc_model {k : Nat} {u : SX} {v : SY} (I : i_Rel k u v) (hk : k + 5 ≤ 2562) (v1 : Int32) (v2 : Int32) : wpX_model (fun r => wpY_model (fun r' => r' = r ∧ i_Rel (k + 5) u v) v v1 v2) u v1 v2 := by
  obtain ⟨n, hU⟩ := I
  refine ce_el (Q := fun u v => wpX_model (fun r => wpY_model (fun r' => r' = r ∧ i_Rel (k + 5) u v) v v1 v2) u v1 v2) ?_ hU
  intro m z ac st te wc rz lz S FX W A SL SE SS T FY SB P PZ R LE r
  have hrel : i_Rel (k + 5) (nI n, nI m, ce_mk n, nI z, wc, nI ac, nI st, S, FX, W, A, SL, SE, SS, T) (nI n, nI m, nI z, nI ac, nI st, rz, lz, FY, A, S, SL, SB, P, PZ, R, LE) := ⟨n, ce_mkU r⟩
  have hn := r.1.2
  have hz16 : z ≤ 16 := Nat.le_trans r.2.2.1 r.2.1.2
  have hp := r.2.2.2.2.2.2.1
  exact xw_model hn hz16 r.2.2.2.2.2.1.2.1 (fun x hx => yw_model hn hz16 (fun y hy => ⟨ce_ms_un hp hx hy, hrel⟩))
end
