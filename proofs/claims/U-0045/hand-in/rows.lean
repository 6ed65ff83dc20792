section
/-! pure rows to paste: stores, nI and lN arithmetic, masks, shifts, narrowing, branches by naturals (pk_le, pk_lt, pk_eq), loops (lp1 .. lp16: the measure of the state; rp1 ..: recursion), negatives. Take what you need -/
theorem pk_us {f : Nat → Int32} {k : Nat} {x : Int32} : upd f k x k = x := if_pos rfl
theorem pk_un {f : Nat → Int32} {k j : Nat} {x : Int32} (h : j ≠ k) : upd f k x j = f j := if_neg h
theorem pk_uLs {f : Nat → Int64} {k : Nat} {x : Int64} : vp_updL f k x k = x := if_pos rfl
theorem pk_uLn {f : Nat → Int64} {k j : Nat} {x : Int64} (h : j ≠ k) : vp_updL f k x j = f j := if_neg h
theorem pk_sub {a b : Nat} (h : b ≤ a) : nI a - nI b = nI (a - b) := by
  obtain ⟨c, rfl⟩ : ∃ c, a = c + b := ⟨a - b, by omega⟩
  rw [← nI_add, Int32.add_sub_cancel, Nat.add_sub_cancel]
theorem pk_m1 (n : Nat) : nI (n + 1) + (-1) = nI n := by
  rw [← nI_1, Int32.add_assoc, show (1 : Int32) + (-1) = 0 from rfl, Int32.add_zero]
theorem pk_mul (a b : Nat) : nI a * nI b = nI (a * b) := (Int32.ofNat_mul a b).symm
theorem pk_div {a d : Nat} (ha : a < 2 ^ 31) (h0 : 0 < d) (hd : d < 2 ^ 31) : nI a / nI d = nI (a / d) := by
  apply Int32.toInt_inj.mp
  rw [lg_idiv_nonneg (by rw [nI_toInt ha]; omega) (by rw [nI_toInt hd]; omega), nI_toInt ha, nI_toInt hd, nI_toInt (Nat.lt_of_le_of_lt (Nat.div_le_self a d) ha)]
  first | rfl | exact (Int.natCast_ediv _ _).symm
theorem pk_rem {a d : Nat} (ha : a < 2 ^ 31) (h0 : 0 < d) (hd : d < 2 ^ 31) : nI a - nI a / nI d * nI d = nI (a % d) := by
  rw [pk_div ha h0 hd, pk_mul, pk_sub (Nat.div_mul_le_self a d)]
  exact congrArg nI (by have := Nat.div_add_mod' a d; omega)
theorem pk_sub_toInt {a b : Nat} (ha : a < 2 ^ 30) (hb : b < 2 ^ 30) : (nI a - nI b).toInt = (a : Int) - b := by
  rw [Int32.toInt_sub, nI_toInt (by omega), nI_toInt (by omega)]
  exact Int.bmod_eq_of_le (by omega) (by omega)
theorem pk_sneg {a b : Nat} (hb : b < 2 ^ 30) (h : a < b) : nI a - nI b < 0 := by
  rw [Int32.lt_iff_toInt_lt, pk_sub_toInt (by omega) hb, show (0 : Int32).toInt = 0 from by decide]
  omega
theorem pk_ix (x : Int32) {n : Nat} (hn : n < 2 ^ 31) : x < 0 ∨ nI n ≤ x ∨ ∃ j : Nat, j < n ∧ x = nI j := by
  by_cases h : x < 0
  · exact Or.inl h
  · obtain ⟨j, hj, rfl⟩ := nI_of h
    by_cases h2 : j < n
    · exact Or.inr (Or.inr ⟨j, h2, rfl⟩)
    · exact Or.inr (Or.inl (nI_le (by omega) hj))
theorem pk_le {x y : Int32} {A B : Prop} (a b : Nat) (f : a ≤ b → A) (g : b < a → B) (hx : x = nI a := by rfl) (hy : y = nI b := by rfl) (ha : a < 2 ^ 31 := by omega) (hb : b < 2 ^ 31 := by omega) : (x ≤ y → A) ∧ (¬ x ≤ y → B) := by
  subst hx hy
  rw [nI_leI ha hb]
  exact ⟨f, fun z => g (by omega)⟩
theorem pk_lt {x y : Int32} {A B : Prop} (a b : Nat) (f : a < b → A) (g : b ≤ a → B) (hx : x = nI a := by rfl) (hy : y = nI b := by rfl) (ha : a < 2 ^ 31 := by omega) (hb : b < 2 ^ 31 := by omega) : (x < y → A) ∧ (¬ x < y → B) := by
  subst hx hy
  rw [nI_ltI ha hb]
  exact ⟨f, fun z => g (by omega)⟩
theorem pk_eq {x y : Int32} {A B : Prop} (a b : Nat) (f : a = b → A) (g : a ≠ b → B) (hx : x = nI a := by rfl) (hy : y = nI b := by rfl) (ha : a < 2 ^ 31 := by omega) (hb : b < 2 ^ 31 := by omega) : (x = y → A) ∧ (¬ x = y → B) := by
  subst hx hy
  rw [nI_eq ha hb]
  exact ⟨f, g⟩
theorem pk_in {x : Int32} (n N : Nat) (h : n < N) (hx : x = nI n := by rfl) (hN : N < 2 ^ 31 := by omega) : vp_in x N := by
  subst hx
  exact vp_in_nI h hN
theorem pk_cl {x : Int32} (n : Nat) (hx : x = nI n := by rfl) (h : n < 2 ^ 31 := by omega) : x.toNatClampNeg = n := by
  subst hx
  exact nI_clamp h
theorem pk_tn {n : Nat} (h : n < 2 ^ 32) : (nI n).toBitVec.toNat = n := Nat.mod_eq_of_lt h
theorem pk_and (x : Int32) {m : Int32} (k : Nat) (hm : m.toBitVec.toNat = 2 ^ k - 1) : x &&& m = nI (x.toBitVec.toNat % 2 ^ k) := by
  apply Int32.toBitVec_inj.mp
  apply BitVec.eq_of_toNat_eq
  rw [Int32.toBitVec_and, BitVec.toNat_and, hm, Nat.and_two_pow_sub_one_eq_mod]
  show _ = (BitVec.ofNat 32 _).toNat
  rw [BitVec.toNat_ofNat]
  exact (Nat.mod_eq_of_lt (Nat.lt_of_le_of_lt (Nat.mod_le _ _) x.toBitVec.isLt)).symm
theorem pk_andN {n : Nat} (h : n < 2 ^ 32) {m : Int32} (k : Nat) (hm : m.toBitVec.toNat = 2 ^ k - 1) : nI n &&& m = nI (n % 2 ^ k) := by
  rw [pk_and _ k hm, pk_tn h]
theorem pk_andE (x : Int32) {m : Int32} (k : Nat) (hm : m.toBitVec.toNat = 2 ^ k - 1) : ∃ j : Nat, j < 2 ^ k ∧ x &&& m = nI j := ⟨_, Nat.mod_lt _ (Nat.two_pow_pos k), pk_and x k hm⟩
theorem pk_andIn (x : Int32) {m : Int32} (k : Nat) (hm : m.toBitVec.toNat = 2 ^ k - 1) (hk : k ≤ 30) : vp_in (x &&& m) (2 ^ k) := by
  obtain ⟨j, hj, e⟩ := pk_andE x k hm
  rw [e]
  exact vp_in_nI hj (Nat.lt_of_le_of_lt (Nat.pow_le_pow_right (by decide) hk) (by decide))
theorem pk_shl (a s : Int32) (k : Nat) (hs : (s.toBitVec.smod 32).toNat = k) : (a <<< s).toBitVec.toNat = a.toBitVec.toNat * 2 ^ k % 2 ^ 32 := by
  show (a.toBitVec <<< (s.toBitVec.smod 32).toNat).toNat = _
  rw [hs, BitVec.toNat_shiftLeft, Nat.shiftLeft_eq]
theorem pk_shlN {n : Nat} (s : Int32) (k : Nat) (hs : (s.toBitVec.smod 32).toNat = k) (h : n * 2 ^ k < 2 ^ 32) : nI n <<< s = nI (n * 2 ^ k) := by
  apply Int32.toBitVec_inj.mp
  apply BitVec.eq_of_toNat_eq
  have hn : n < 2 ^ 32 := Nat.lt_of_le_of_lt (Nat.le_mul_of_pos_right n (Nat.two_pow_pos k)) h
  rw [pk_shl _ _ k hs, pk_tn hn, pk_tn h, Nat.mod_eq_of_lt h]
theorem pk_shr (a s : Int32) (k : Nat) (hs : (s.toBitVec.smod 32).toNat = k) : (a >>> s).toInt = a.toInt >>> k := by
  show (a.toBitVec.sshiftRight (s.toBitVec.smod 32).toNat).toInt = _
  rw [hs, BitVec.toInt_sshiftRight]
  rfl
theorem pk_shrN {n : Nat} (h : n < 2 ^ 31) (s : Int32) (k : Nat) (hs : (s.toBitVec.smod 32).toNat = k) : nI n >>> s = nI (n / 2 ^ k) := by
  apply Int32.toInt_inj.mp
  have h2 : n / 2 ^ k ≤ n := Nat.div_le_self _ _
  rw [pk_shr _ _ k hs, nI_toInt h, nI_toInt (by omega), Int.shiftRight_eq_div_pow]
  rfl
theorem pk_ushr (x s : Int32) (k : Nat) (hs : ((s.toUInt32 &&& Int32.toUInt32 31).toBitVec % 32).toNat = k) : (x.toUInt32 >>> (s.toUInt32 &&& Int32.toUInt32 31)).toInt32.toBitVec.toNat = x.toBitVec.toNat / 2 ^ k := by
  have e : (x.toUInt32 >>> (s.toUInt32 &&& Int32.toUInt32 31)).toInt32.toBitVec = x.toBitVec >>> k := by
    rw [← hs]
    exact UInt32.toBitVec_shiftRight _ _
  rw [e, BitVec.toNat_ushiftRight, Nat.shiftRight_eq_div_pow]
theorem pk_ushrN {n : Nat} (hn : n < 2 ^ 32) (s : Int32) (k : Nat) (hs : ((s.toUInt32 &&& Int32.toUInt32 31).toBitVec % 32).toNat = k) : ((nI n).toUInt32 >>> (s.toUInt32 &&& Int32.toUInt32 31)).toInt32 = nI (n / 2 ^ k) := by
  apply Int32.toBitVec_inj.mp
  apply BitVec.eq_of_toNat_eq
  rw [pk_ushr _ s k hs, pk_tn hn, pk_tn (Nat.lt_of_le_of_lt (Nat.div_le_self _ _) hn)]
theorem pk_loop {σ : Type} (W : Nat → Nat → σ → Prop) (I : Nat → σ → Prop) (e i0 : Nat) (s : σ) (hi : i0 ≤ e) (h0 : I i0 s) (hx : ∀ n s, I e s → W (n + 1) e s)
    (hs : ∀ n i s, i < e → I i s → (∀ s', I (i + 1) s' → W n (i + 1) s') → W (n + 1) i s) : ∃ n, W n i0 s :=
  ⟨e + 1, loop_i W I e hx hs (e + 1) i0 s hi (by omega) h0⟩
theorem pk_loopD {σ : Type} (W : Nat → Nat → σ → Prop) (I : Nat → σ → Prop) (hx : ∀ n s, I 0 s → W (n + 1) 0 s)
    (hs : ∀ n i s, I (i + 1) s → (∀ s', I i s' → W n i s') → W (n + 1) (i + 1) s) : ∀ (e : Nat) (s : σ), I e s → W (e + 1) e s := by
  intro e
  induction e with
  | zero => exact fun s h => hx 0 s h
  | succ e ih => exact fun s h => hs (e + 1) e s h (fun s' h' => ih s' h')
theorem nx_and (a b : Nat) : nI a &&& nI b = nI (a &&& b) := by
  apply Int32.toBitVec_inj.1
  show BitVec.ofNat 32 a &&& BitVec.ofNat 32 b = BitVec.ofNat 32 (a &&& b)
  apply BitVec.eq_of_getLsbD_eq
  intro i hi
  simp [hi]
theorem nx_xor (a b : Nat) : nI a ^^^ nI b = nI (a ^^^ b) := by
  apply Int32.toBitVec_inj.1
  show BitVec.ofNat 32 a ^^^ BitVec.ofNat 32 b = BitVec.ofNat 32 (a ^^^ b)
  apply BitVec.eq_of_getLsbD_eq
  intro i hi
  simp [hi]
end
section
/-! permutations of four atoms as packed numbers: two bits an image -/
def gp_ap (p a : Nat) : Nat := p / 4 ^ a % 4
def gp_mk (w x y z : Nat) : Nat := w + 4 * x + 16 * y + 64 * z
def gp_cm (p q : Nat) : Nat := gp_mk (gp_ap p (gp_ap q 0)) (gp_ap p (gp_ap q 1)) (gp_ap p (gp_ap q 2)) (gp_ap p (gp_ap q 3))
def gp_iv (p : Nat) : Nat := (((0 ||| 0 * 4 ^ gp_ap p 0) ||| 1 * 4 ^ gp_ap p 1) ||| 2 * 4 ^ gp_ap p 2) ||| 3 * 4 ^ gp_ap p 3
def gp_sw (a b c : Nat) : Nat := if c = a then b else if c = b then a else c
def gp_tr (a b : Nat) : Nat := gp_mk (gp_sw a b 0) (gp_sw a b 1) (gp_sw a b 2) (gp_sw a b 3)
abbrev gp_I (p : Nat) : Prop := ∀ a, a < 4 → ∀ b, b < 4 → gp_ap p a = gp_ap p b → a = b
def gp_P (A p : Nat) : Prop := p < 256 ∧ gp_I p ∧ ∀ a, a < 4 → A ≤ a → gp_ap p a = a
theorem gp_ap_lt (p a : Nat) : gp_ap p a < 4 := Nat.mod_lt _ (by decide)
theorem gp_lt4 {P : Nat → Prop} (h0 : P 0) (h1 : P 1) (h2 : P 2) (h3 : P 3) : ∀ a, a < 4 → P a := by
  intro a ha
  rcases (by omega : a = 0 ∨ a = 1 ∨ a = 2 ∨ a = 3) with e | e | e | e
  · rw [e]; exact h0
  · rw [e]; exact h1
  · rw [e]; exact h2
  · rw [e]; exact h3
theorem gp_mk_ap {w x y z : Nat} (hw : w < 4) (hx : x < 4) (hy : y < 4) (hz : z < 4) : gp_ap (gp_mk w x y z) 0 = w ∧ gp_ap (gp_mk w x y z) 1 = x ∧ gp_ap (gp_mk w x y z) 2 = y ∧ gp_ap (gp_mk w x y z) 3 = z := by
  show (w + 4 * x + 16 * y + 64 * z) / 1 % 4 = w ∧ (w + 4 * x + 16 * y + 64 * z) / 4 % 4 = x ∧ (w + 4 * x + 16 * y + 64 * z) / 16 % 4 = y ∧ (w + 4 * x + 16 * y + 64 * z) / 64 % 4 = z
  omega
theorem gp_mk_lt {w x y z : Nat} (hw : w < 4) (hx : x < 4) (hy : y < 4) (hz : z < 4) : gp_mk w x y z < 256 := by
  unfold gp_mk; omega
theorem gp_mk_f {f : Nat → Nat} (hf : ∀ a, a < 4 → f a < 4) : ∀ a, a < 4 → gp_ap (gp_mk (f 0) (f 1) (f 2) (f 3)) a = f a := by
  have h := gp_mk_ap (hf 0 (by decide)) (hf 1 (by decide)) (hf 2 (by decide)) (hf 3 (by decide))
  exact gp_lt4 h.1 h.2.1 h.2.2.1 h.2.2.2
theorem gp_cm_ap (p q : Nat) : ∀ a, a < 4 → gp_ap (gp_cm p q) a = gp_ap p (gp_ap q a) := gp_mk_f (f := fun a => gp_ap p (gp_ap q a)) (fun _ _ => gp_ap_lt _ _)
theorem gp_cm_lt (p q : Nat) : gp_cm p q < 256 := gp_mk_lt (gp_ap_lt _ _) (gp_ap_lt _ _) (gp_ap_lt _ _) (gp_ap_lt _ _)
theorem gp_ext {p q : Nat} (hp : p < 256) (hq : q < 256) (h : ∀ a, a < 4 → gp_ap p a = gp_ap q a) : p = q := by
  have h0 : p / 1 % 4 = q / 1 % 4 := h 0 (by omega)
  have h1 : p / 4 % 4 = q / 4 % 4 := h 1 (by omega)
  have h2 : p / 16 % 4 = q / 16 % 4 := h 2 (by omega)
  have h3 : p / 64 % 4 = q / 64 % 4 := h 3 (by omega)
  omega
theorem gp_sw_lt {a b c : Nat} (ha : a < 4) (hb : b < 4) (hc : c < 4) : gp_sw a b c < 4 := by
  unfold gp_sw; split
  · exact hb
  · split
    · exact ha
    · exact hc
theorem gp_tr_ap {a b : Nat} (ha : a < 4) (hb : b < 4) : ∀ c, c < 4 → gp_ap (gp_tr a b) c = gp_sw a b c := gp_mk_f (f := gp_sw a b) (fun _ hc => gp_sw_lt ha hb hc)
theorem gp_tr_lt {a b : Nat} (ha : a < 4) (hb : b < 4) : gp_tr a b < 256 := gp_mk_lt (gp_sw_lt ha hb (by decide)) (gp_sw_lt ha hb (by decide)) (gp_sw_lt ha hb (by decide)) (gp_sw_lt ha hb (by decide))
theorem gp_sw_i : ∀ a, a < 4 → ∀ b, b < 4 → ∀ c, c < 4 → ∀ d, d < 4 → gp_sw a b c = gp_sw a b d → c = d := by decide +kernel
theorem gp_sw_l (a b : Nat) : gp_sw a b a = b := if_pos rfl
theorem gp_sw_r (a b : Nat) : gp_sw a b b = a := by
  unfold gp_sw; split
  · assumption
  · rw [if_pos rfl]
theorem gp_sw_o {a b c : Nat} (h : c ≠ a) (h' : c ≠ b) : gp_sw a b c = c := by
  unfold gp_sw; rw [if_neg h, if_neg h']
theorem gp_sw_s (a c : Nat) : gp_sw a a c = c := by
  unfold gp_sw; split
  · rename_i h; exact h.symm
  · rfl
theorem gp_iv_f : ∀ p, p < 256 → gp_I p → gp_iv p < 256 ∧ ∀ a, a < 4 → gp_ap (gp_iv p) (gp_ap p a) = a ∧ gp_ap p (gp_ap (gp_iv p) a) = a := by decide +kernel
theorem gp_id_ap : ∀ a, a < 4 → gp_ap 228 a = a := by decide +kernel
theorem gp_P_id (A : Nat) : gp_P A 228 := by
  refine ⟨by decide, fun a ha b hb h => ?_, fun a ha _ => gp_id_ap a ha⟩
  rw [gp_id_ap a ha, gp_id_ap b hb] at h; exact h
theorem gp_P_cm {A p q : Nat} (hp : gp_P A p) (hq : gp_P A q) : gp_P A (gp_cm p q) := by
  refine ⟨gp_cm_lt p q, fun a ha b hb h => ?_, fun a ha hA => ?_⟩
  · rw [gp_cm_ap p q a ha, gp_cm_ap p q b hb] at h
    exact hq.2.1 a ha b hb (hp.2.1 _ (gp_ap_lt _ _) _ (gp_ap_lt _ _) h)
  · rw [gp_cm_ap p q a ha, hq.2.2 a ha hA, hp.2.2 a ha hA]
theorem gp_iv_l {A p : Nat} (hp : gp_P A p) {a : Nat} (ha : a < 4) : gp_ap (gp_iv p) (gp_ap p a) = a := ((gp_iv_f p hp.1 hp.2.1).2 a ha).1
theorem gp_iv_r {A p : Nat} (hp : gp_P A p) {a : Nat} (ha : a < 4) : gp_ap p (gp_ap (gp_iv p) a) = a := ((gp_iv_f p hp.1 hp.2.1).2 a ha).2
theorem gp_P_iv {A p : Nat} (hp : gp_P A p) : gp_P A (gp_iv p) := by
  refine ⟨(gp_iv_f p hp.1 hp.2.1).1, fun a ha b hb h => ?_, fun a ha hA => ?_⟩
  · rw [← gp_iv_r hp ha, ← gp_iv_r hp hb, h]
  · have e := gp_iv_l hp ha
    rw [hp.2.2 a ha hA] at e; exact e
theorem gp_P_tr {A a b : Nat} (hA : A ≤ 4) (ha : a < A) (hb : b < A) : gp_P A (gp_tr a b) := by
  have ha4 : a < 4 := by omega
  have hb4 : b < 4 := by omega
  refine ⟨gp_tr_lt ha4 hb4, fun c hc d hd h => ?_, fun c hc hA => ?_⟩
  · rw [gp_tr_ap ha4 hb4 c hc, gp_tr_ap ha4 hb4 d hd] at h
    exact gp_sw_i a ha4 b hb4 c hc d hd h
  · rw [gp_tr_ap ha4 hb4 c hc, gp_sw_o (by omega) (by omega)]
theorem gp_inj {A p : Nat} (hp : gp_P A p) {a b : Nat} (ha : a < 4) (hb : b < 4) (h : gp_ap p a = gp_ap p b) : a = b := hp.2.1 a ha b hb h
theorem gp_ltA {A p : Nat} (hp : gp_P A p) {a : Nat} (ha4 : a < 4) (ha : a < A) : gp_ap p a < A := by
  rcases Nat.lt_or_ge (gp_ap p a) A with h | h
  · exact h
  · have e := hp.2.2 _ (gp_ap_lt p a) h
    have := gp_inj hp (gp_ap_lt p a) ha4 e
    omega
theorem gp_mvA {A p : Nat} (hp : gp_P A p) {a : Nat} (ha4 : a < 4) (h : gp_ap p a ≠ a) : a < A := by
  rcases Nat.lt_or_ge a A with h1 | h1
  · exact h1
  · exact absurd (hp.2.2 a ha4 h1) h
theorem gp_assoc (p q r : Nat) : gp_cm (gp_cm p q) r = gp_cm p (gp_cm q r) := by
  refine gp_ext (gp_cm_lt _ _) (gp_cm_lt _ _) fun a ha => ?_
  rw [gp_cm_ap _ _ a ha, gp_cm_ap _ _ _ (gp_ap_lt _ _), gp_cm_ap _ _ a ha, gp_cm_ap _ _ a ha]
theorem gp_1l {p : Nat} (hp : p < 256) : gp_cm 228 p = p :=
  gp_ext (gp_cm_lt _ _) hp fun a ha => by rw [gp_cm_ap _ _ a ha, gp_id_ap _ (gp_ap_lt _ _)]
theorem gp_1r {p : Nat} (hp : p < 256) : gp_cm p 228 = p :=
  gp_ext (gp_cm_lt _ _) hp fun a ha => by rw [gp_cm_ap _ _ a ha, gp_id_ap a ha]
theorem gp_vl {A p : Nat} (hp : gp_P A p) : gp_cm (gp_iv p) p = 228 :=
  gp_ext (gp_cm_lt _ _) (by decide) fun a ha => by rw [gp_cm_ap _ _ a ha, gp_iv_l hp ha, gp_id_ap a ha]
theorem gp_vr {A p : Nat} (hp : gp_P A p) : gp_cm p (gp_iv p) = 228 :=
  gp_ext (gp_cm_lt _ _) (by decide) fun a ha => by rw [gp_cm_ap _ _ a ha, gp_iv_r hp ha, gp_id_ap a ha]
theorem gp_kl {A p q : Nat} (hp : gp_P A p) (hq : q < 256) : gp_cm p (gp_cm (gp_iv p) q) = q := by
  rw [← gp_assoc, gp_vr hp, gp_1l hq]
theorem gp_kv {A p q : Nat} (hp : gp_P A p) (hq : q < 256) : gp_cm (gp_iv p) (gp_cm p q) = q := by
  rw [← gp_assoc, gp_vl hp, gp_1l hq]
theorem gp_ivu {A p q : Nat} (hp : gp_P A p) (hq : q < 256) (h : gp_cm p q = 228) : q = gp_iv p := by
  have e := gp_kv hp hq
  rw [h, gp_1r (gp_P_iv hp).1] at e; exact e.symm
theorem gp_viv {A p : Nat} (hp : gp_P A p) : gp_iv (gp_iv p) = p := (gp_ivu (gp_P_iv hp) hp.1 (gp_vl hp)).symm
theorem gp_tr2 {a b : Nat} (ha : a < 4) (hb : b < 4) : gp_cm (gp_tr a b) (gp_tr a b) = 228 := by
  refine gp_ext (gp_cm_lt _ _) (by decide) fun c hc => ?_
  rw [gp_cm_ap _ _ c hc, gp_tr_ap ha hb c hc, gp_tr_ap ha hb _ (gp_sw_lt ha hb hc), gp_id_ap c hc]
  unfold gp_sw; split
  · rename_i h; rw [h]; split
    · assumption
    · rw [if_pos rfl]
  · split
    · rename_i h; rw [if_pos rfl]; exact h.symm
    · rfl
theorem gp_tri {A a b : Nat} (hA : A ≤ 4) (ha : a < A) (hb : b < A) : gp_iv (gp_tr a b) = gp_tr a b := (gp_ivu (gp_P_tr hA ha hb) (gp_P_tr hA ha hb).1 (gp_tr2 (by omega) (by omega))).symm
theorem gp_trs {a : Nat} (ha : a < 4) : gp_tr a a = 228 :=
  gp_ext (gp_tr_lt ha ha) (by decide) fun c hc => by rw [gp_tr_ap ha ha c hc, gp_sw_s, gp_id_ap c hc]
theorem gp_trc {a b : Nat} (ha : a < 4) (hb : b < 4) : gp_tr a b = gp_tr b a := by
  refine gp_ext (gp_tr_lt ha hb) (gp_tr_lt hb ha) fun c hc => ?_
  rw [gp_tr_ap ha hb c hc, gp_tr_ap hb ha c hc]
  unfold gp_sw; split
  · rename_i h; split
    · rename_i h'; omega
    · rfl
  · rfl
/-- a set of permutations with the identity, products and the exchanges of atoms of M holds all that move atoms of M alone -/
theorem gp_gen {A : Nat} (hA : A ≤ 4) {M S : Nat → Prop} (h1 : S 228) (h2 : ∀ a b, a < A → b < A → M a → M b → S (gp_tr a b))
    (h3 : ∀ c d, gp_P A c → gp_P A d → S c → S d → S (gp_cm c d)) :
    ∀ k j, k + j = 4 → ∀ c, gp_P A c → (∀ a, a < j → gp_ap c a = a) → (∀ a, a < 4 → gp_ap c a ≠ a → M a) → S c := by
  intro k
  induction k with
  | zero =>
    intro j hj c hc hf _
    have e : c = 228 := gp_ext hc.1 (by decide) fun a ha => by rw [hf a (by omega), gp_id_ap a ha]
    rw [e]; exact h1
  | succ k ih =>
    intro j hj c hc hf hm
    by_cases e : gp_ap c j = j
    · refine ih (j + 1) (by omega) c hc (fun a ha => ?_) hm
      rcases (by omega : a < j ∨ a = j) with h | h
      · exact hf a h
      · rw [h]; exact e
    · have hj4 : j < 4 := by omega
      have hb4 : gp_ap c j < 4 := gp_ap_lt _ _
      have hjA : j < A := gp_mvA hc hj4 e
      have hbA : gp_ap c j < A := gp_ltA hc hj4 hjA
      have hbm : gp_ap c (gp_ap c j) ≠ gp_ap c j := fun z => e (gp_inj hc hb4 hj4 z)
      have hT := gp_P_tr hA hjA hbA
      have hc' := gp_P_cm hT hc
      have ea : ∀ a, a < 4 → gp_ap (gp_cm (gp_tr j (gp_ap c j)) c) a = gp_sw j (gp_ap c j) (gp_ap c a) := fun a ha => by
        rw [gp_cm_ap _ _ a ha, gp_tr_ap hj4 hb4 _ (gp_ap_lt _ _)]
      have eo : ∀ a, a < 4 → gp_ap c a = a → gp_ap (gp_cm (gp_tr j (gp_ap c j)) c) a = a := fun a ha h => by
        have n1 : a ≠ j := fun z => e (z ▸ h)
        rw [ea a ha, h, gp_sw_o n1 (fun z => hbm (by rw [← z]; exact h))]
      have S' : S (gp_cm (gp_tr j (gp_ap c j)) c) := by
        refine ih (j + 1) (by omega) _ hc' (fun a ha => ?_) (fun a ha hn => hm a ha (fun z => hn (eo a ha z)))
        rcases (by omega : a < j ∨ a = j) with h | h
        · exact eo a (by omega) (hf a h)
        · rw [h, ea j hj4, gp_sw_r]
      have e2 : gp_cm (gp_tr j (gp_ap c j)) (gp_cm (gp_tr j (gp_ap c j)) c) = c := by
        rw [← gp_assoc, gp_tr2 hj4 hb4, gp_1l hc.1]
      rw [← e2]
      exact h3 _ _ hT hc' (h2 _ _ hjA hbA (hm j hj4 e) (hm _ hb4 hbm)) S'
/-! sets of atoms as masks -/
def gp_b (c : Bool) (k : Nat) : Nat := if c then 2 ^ k else 0
theorem gp_b_bit (c : Bool) (k i : Nat) : (gp_b c k).testBit i = (c && decide (k = i)) := by
  unfold gp_b
  cases c
  · simp
  · simp [Nat.testBit_two_pow]
theorem gp_b_lt {k n : Nat} (c : Bool) (h : k < n) : gp_b c k < 2 ^ n := by
  unfold gp_b
  cases c
  · simp [Nat.two_pow_pos]
  · simp only [if_true]; exact Nat.pow_lt_pow_right (by decide) h
def gp_mv (p : Nat) : Nat := (((0 ||| gp_b (gp_ap p 0 != 0) 0) ||| gp_b (gp_ap p 1 != 1) 1) ||| gp_b (gp_ap p 2 != 2) 2) ||| gp_b (gp_ap p 3 != 3) 3
def gp_im (p m : Nat) : Nat := (((0 ||| gp_b (m.testBit 0) (gp_ap p 0)) ||| gp_b (m.testBit 1) (gp_ap p 1)) ||| gp_b (m.testBit 2) (gp_ap p 2)) ||| gp_b (m.testBit 3) (gp_ap p 3)
theorem gp_mv_bit {p a : Nat} : (gp_mv p).testBit a = true ↔ a < 4 ∧ gp_ap p a ≠ a := by
  unfold gp_mv
  simp only [Nat.testBit_or, gp_b_bit, Nat.zero_testBit, Bool.false_or, Bool.or_eq_true, Bool.and_eq_true, bne_iff_ne, decide_eq_true_eq]
  constructor
  · rintro (((⟨h, e⟩ | ⟨h, e⟩) | ⟨h, e⟩) | ⟨h, e⟩) <;> (subst e; exact ⟨by decide, h⟩)
  · rintro ⟨h, e⟩
    rcases (by omega : a = 0 ∨ a = 1 ∨ a = 2 ∨ a = 3) with z | z | z | z <;> subst z
    · exact Or.inl (Or.inl (Or.inl ⟨e, rfl⟩))
    · exact Or.inl (Or.inl (Or.inr ⟨e, rfl⟩))
    · exact Or.inl (Or.inr ⟨e, rfl⟩)
    · exact Or.inr ⟨e, rfl⟩
theorem gp_im_bit {p m b : Nat} : (gp_im p m).testBit b = true ↔ ∃ a, a < 4 ∧ m.testBit a = true ∧ gp_ap p a = b := by
  unfold gp_im
  simp only [Nat.testBit_or, gp_b_bit, Nat.zero_testBit, Bool.false_or, Bool.or_eq_true, Bool.and_eq_true, decide_eq_true_eq]
  constructor
  · rintro (((⟨h, e⟩ | ⟨h, e⟩) | ⟨h, e⟩) | ⟨h, e⟩)
    · exact ⟨0, by decide, h, e⟩
    · exact ⟨1, by decide, h, e⟩
    · exact ⟨2, by decide, h, e⟩
    · exact ⟨3, by decide, h, e⟩
  · rintro ⟨a, ha, h, e⟩
    rcases (by omega : a = 0 ∨ a = 1 ∨ a = 2 ∨ a = 3) with z | z | z | z <;> subst z
    · exact Or.inl (Or.inl (Or.inl ⟨h, e⟩))
    · exact Or.inl (Or.inl (Or.inr ⟨h, e⟩))
    · exact Or.inl (Or.inr ⟨h, e⟩)
    · exact Or.inr ⟨h, e⟩
theorem gp_mv_lt (p : Nat) : gp_mv p < 16 :=
  Nat.or_lt_two_pow (n := 4) (Nat.or_lt_two_pow (Nat.or_lt_two_pow (Nat.or_lt_two_pow (by decide) (gp_b_lt _ (by decide))) (gp_b_lt _ (by decide))) (gp_b_lt _ (by decide))) (gp_b_lt _ (by decide))
theorem gp_im_lt (p m : Nat) : gp_im p m < 16 :=
  Nat.or_lt_two_pow (n := 4) (Nat.or_lt_two_pow (Nat.or_lt_two_pow (Nat.or_lt_two_pow (by decide) (gp_b_lt _ (gp_ap_lt _ _))) (gp_b_lt _ (gp_ap_lt _ _))) (gp_b_lt _ (gp_ap_lt _ _))) (gp_b_lt _ (gp_ap_lt _ _))
/-- the bits of m that are not in k -/
def gp_nd (m k : Nat) : Nat := m ^^^ (m &&& k)
theorem gp_nd_bit (m k i : Nat) : (gp_nd m k).testBit i = (m.testBit i && !k.testBit i) := by
  unfold gp_nd
  rw [Nat.testBit_xor, Nat.testBit_and]
  cases m.testBit i <;> cases k.testBit i <;> rfl
theorem gp_nd_0 {m k : Nat} : gp_nd m k = 0 ↔ ∀ i, m.testBit i = true → k.testBit i = true := by
  constructor
  · intro h i hm
    have e := gp_nd_bit m k i
    rw [h, Nat.zero_testBit, hm] at e
    cases hk : k.testBit i
    · rw [hk] at e; exact absurd e (by decide)
    · rfl
  · intro h
    refine Nat.eq_of_testBit_eq fun i => ?_
    rw [gp_nd_bit, Nat.zero_testBit]
    cases hm : m.testBit i
    · rfl
    · rw [h i hm]; rfl
theorem gp_bit_lt {m n i : Nat} (hm : m < 2 ^ n) (h : m.testBit i = true) : i < n := by
  rcases Nat.lt_or_ge i n with z | z
  · exact z
  · have := Nat.testBit_lt_two_pow (Nat.lt_of_lt_of_le hm (Nat.pow_le_pow_right (by decide : 0 < 2) z))
    rw [this] at h; exact absurd h (by decide)
theorem gp_nf {x : Bool} (h : ¬ x = false) : x = true := by cases x
                                                            · exact absurd rfl h
                                                            · rfl
theorem gp_nt {x : Bool} (h : ¬ x = true) : x = false := by cases x
                                                            · rfl
                                                            · exact absurd rfl h
def yp_A (A : Nat) : Prop := A = 2 ∨ A = 3 ∨ A = 4
theorem yp_A4 {A : Nat} (h : yp_A A) : A ≤ 4 := by unfold yp_A at h; omega
end
section
/-! arrays of ints as arrays of naturals -/
def nA (f : Nat → Nat) : Nat → Int32 := fun i => nI (f i)
def ud (f : Nat → Nat) (k x : Nat) : Nat → Nat := fun j => if j = k then x else f j
theorem ud_s {f : Nat → Nat} {k x : Nat} : ud f k x k = x := if_pos rfl
theorem ud_n {f : Nat → Nat} {k x j : Nat} (h : j ≠ k) : ud f k x j = f j := if_neg h
theorem nA_at {f : Nat → Nat} {i : Nat} (h : i < 2 ^ 31) : nA f (nI i).toNatClampNeg = nI (f i) := by
  rw [nI_clamp h]; rfl
theorem nA_ud {f : Nat → Nat} {i x : Nat} (h : i < 2 ^ 31) : upd (nA f) (nI i).toNatClampNeg (nI x) = nA (ud f i x) := by
  rw [nI_clamp h]; funext j
  unfold upd nA ud; split <;> rfl
theorem nA_0 : (fun _ => 0 : Nat → Int32) = nA (fun _ => 0) := rfl
theorem br_m1 : (-1 : Int32) = nI 4294967295 := by decide +kernel
theorem br_bv (n : Nat) : (nI n).toBitVec = BitVec.ofNat 32 n := rfl
theorem br_or (a b : Nat) : nI a ||| nI b = nI (a ||| b) := by
  apply Int32.toBitVec_inj.1
  show BitVec.ofNat 32 a ||| BitVec.ofNat 32 b = BitVec.ofNat 32 (a ||| b)
  apply BitVec.eq_of_getLsbD_eq
  intro i hi
  simp [hi]
theorem br_eq {a b : Nat} (ha : a < 4294967296) (hb : b < 4294967296) : nI a = nI b ↔ a = b := by
  constructor
  · intro h
    have e := congrArg (fun x : Int32 => x.toBitVec.toNat) h
    simp only [pk_tn ha, pk_tn hb] at e
    exact e
  · intro h; rw [h]
theorem br_nd {m : Nat} (hm : m < 4294967296) (k : Nat) : nI m &&& (nI k ^^^ (-1)) = nI (gp_nd m k) := by
  rw [br_m1, nx_xor, nx_and]
  congr 1
  refine Nat.eq_of_testBit_eq fun i => ?_
  rw [gp_nd_bit, Nat.testBit_and, Nat.testBit_xor]
  have e : Nat.testBit 4294967295 i = decide (i < 32) := Nat.testBit_two_pow_sub_one 32 i
  rw [e]
  rcases Nat.lt_or_ge i 32 with h | h
  · rw [decide_eq_true h]; cases m.testBit i <;> cases k.testBit i <;> rfl
  · have := Nat.testBit_lt_two_pow (x := m) (i := i) (Nat.lt_of_lt_of_le hm (Nat.pow_le_pow_right (by decide : 0 < 2) h))
    rw [this]; rfl
theorem br_sc : ∀ a, a < 32 → ((nI a &&& 31).toBitVec.smod 32).toNat = a := by decide +kernel
theorem br_1 {a : Nat} (h : a < 31) : (1 : Int32) <<< (nI a &&& 31) = nI (2 ^ a) := by
  have e := pk_shlN (n := 1) (nI a &&& 31) a (br_sc a (by omega)) (by rw [Nat.one_mul]; exact Nat.pow_lt_pow_right (by decide) (by omega))
  rw [Nat.one_mul] at e; exact e
theorem br_b {c : Bool} {a : Nat} (h : a < 31) : (if c then (1 : Int32) <<< (nI a &&& 31) else 0) = nI (gp_b c a) := by
  cases c
  · rfl
  · exact br_1 h
theorem br_shr {m a : Nat} (hm : m < 2147483648) (ha : a < 32) : nI m >>> (nI a &&& 31) = nI (m / 2 ^ a) := pk_shrN hm _ a (br_sc a ha)
theorem br_bit {m a : Nat} (hm : m < 2147483648) (ha : a < 32) : ((nI m >>> (nI a &&& 31)) &&& 1 = 0) ↔ m.testBit a = false := by
  have h2 : m / 2 ^ a < 2 ^ 32 := Nat.lt_of_le_of_lt (Nat.div_le_self _ _) (by omega)
  rw [br_shr hm ha, pk_andN h2 1 (by decide +kernel), Nat.testBit_eq_decide_div_mod_eq]
  have h3 : m / 2 ^ a % 2 ^ 1 < 2 := Nat.mod_lt _ (by decide)
  rw [show (0 : Int32) = nI 0 from rfl, br_eq (by omega) (by decide)]
  simp only [decide_eq_false_iff_not]
  omega
theorem br_bi {m a : Nat} (hm : m < 2147483648) (ha : a < 32) : (nI m >>> (nI a &&& 31)) &&& 1 = nI (if m.testBit a then 1 else 0) := by
  have h2 : m / 2 ^ a < 2 ^ 32 := Nat.lt_of_le_of_lt (Nat.div_le_self _ _) (by omega)
  rw [br_shr hm ha, pk_andN h2 1 (by decide +kernel), Nat.testBit_eq_decide_div_mod_eq]
  congr 1
  have h3 : m / 2 ^ a % 2 ^ 1 < 2 := Nat.mod_lt _ (by decide)
  by_cases h : m / 2 ^ a % 2 = 1
  · simp only [h, decide_true, if_true]
  · simp only [h, decide_false, Bool.false_eq_true, if_false]; omega
/-! the packed permutations of the component -/
theorem br_ap : ∀ p, p < 256 → ∀ a, a < 4 → (nI p >>> ((2 * nI a) &&& 31)) &&& 3 = nI (gp_ap p a) := by decide +kernel
theorem br_tr : ∀ a, a < 4 → ∀ b, b < 4 → (((228 &&& (((3 : Int32) <<< ((2 * nI a) &&& 31)) ^^^ (-1))) &&& (((3 : Int32) <<< ((2 * nI b) &&& 31)) ^^^ (-1))) ||| (nI b <<< ((2 * nI a) &&& 31))) ||| (nI a <<< ((2 * nI b) &&& 31)) = nI (gp_tr a b) := by decide +kernel
theorem br_sh4 : ∀ x, x < 4 → ∀ a, a < 4 → nI x <<< ((2 * nI a) &&& 31) = nI (x * 4 ^ a) := by decide +kernel
theorem br_mk : ∀ w, w < 4 → ∀ x, x < 4 → ∀ y, y < 4 → ∀ z, z < 4 → (((0 ||| w * 4 ^ 0) ||| x * 4 ^ 1) ||| y * 4 ^ 2) ||| z * 4 ^ 3 = gp_mk w x y z := by decide +kernel
end
section
/-! facts: E t u c is 't = c u', O t a is 'a off t'. D: the nodes spoken of -/
def fd_Gd (D : Nat → Prop) (A : Nat) (E : Nat → Nat → Nat → Prop) (O : Nat → Nat → Prop) : Prop :=
  (∀ t, D t → E t t 228) ∧
  (∀ t u c, D t → D u → gp_P A c → E t u c → E u t (gp_iv c)) ∧
  (∀ t u v c d, D t → D u → D v → gp_P A c → gp_P A d → E t u c → E u v d → E t v (gp_cm c d)) ∧
  (∀ t u c a, D t → D u → gp_P A c → a < A → E t u c → O u a → O t (gp_ap c a)) ∧
  (∀ t c, D t → gp_P A c → (E t t c ↔ ∀ a, a < 4 → gp_ap c a ≠ a → O t a)) ∧
  (∀ t a, D t → O t a → a < A)
section
variable {D : Nat → Prop} {A : Nat} {E : Nat → Nat → Nat → Prop} {O : Nat → Nat → Prop}
theorem fd_rf (G : fd_Gd D A E O) {t : Nat} (h : D t) : E t t 228 := G.1 t h
theorem fd_iv (G : fd_Gd D A E O) {t u c : Nat} (ht : D t) (hu : D u) (hc : gp_P A c) (h : E t u c) : E u t (gp_iv c) := G.2.1 t u c ht hu hc h
theorem fd_ml (G : fd_Gd D A E O) {t u v c d : Nat} (ht : D t) (hu : D u) (hv : D v) (hc : gp_P A c) (hd : gp_P A d) (h : E t u c) (h' : E u v d) : E t v (gp_cm c d) := G.2.2.1 t u v c d ht hu hv hc hd h h'
theorem fd_tp (G : fd_Gd D A E O) {t u c a : Nat} (ht : D t) (hu : D u) (hc : gp_P A c) (ha : a < A) (h : E t u c) (h' : O u a) : O t (gp_ap c a) := G.2.2.2.1 t u c a ht hu hc ha h h'
theorem fd_st (G : fd_Gd D A E O) {t c : Nat} (ht : D t) (hc : gp_P A c) : E t t c ↔ ∀ a, a < 4 → gp_ap c a ≠ a → O t a := G.2.2.2.2.1 t c ht hc
theorem fd_bd (G : fd_Gd D A E O) {t a : Nat} (ht : D t) (h : O t a) : a < A := G.2.2.2.2.2 t a ht h
theorem fd_bk (G : fd_Gd D A E O) {t u c a : Nat} (ht : D t) (hu : D u) (hc : gp_P A c) (ha : a < 4) (h : E t u c) (h' : O t (gp_ap c a)) : O u a := by
  have e := fd_tp G hu ht (gp_P_iv hc) (fd_bd G ht h') (fd_iv G ht hu hc h) h'
  rw [gp_iv_l hc ha] at e; exact e
theorem fd_ag (G : fd_Gd D A E O) {t u c q : Nat} (ht : D t) (hu : D u) (hc : gp_P A c) (hq : gp_P A q) (h : E t u q) (h' : ∀ f, f < 4 → ¬ O u f → gp_ap c f = gp_ap q f) : E t u c := by
  have hP := gp_P_cm (gp_P_iv hq) hc
  have e : E u u (gp_cm (gp_iv q) c) := (fd_st G hu hP).mpr fun a ha hn => by
    refine Classical.byContradiction fun no => hn ?_
    rw [gp_cm_ap _ _ a ha, h' a ha no, gp_iv_l hq ha]
  have e2 := fd_ml G ht hu hu hq hP h e
  rw [gp_kl hq hc.1] at e2; exact e2
theorem fd_sm (G : fd_Gd D A E O) {t u c q f : Nat} (ht : D t) (hu : D u) (hc : gp_P A c) (hq : gp_P A q) (h : E t u c) (h' : E t u q) (hf : f < 4) (hn : ¬ O u f) : gp_ap c f = gp_ap q f := by
  have hP := gp_P_cm (gp_P_iv hq) hc
  have e := (fd_st G hu hP).mp (fd_ml G hu ht hu (gp_P_iv hq) hc (fd_iv G ht hu hq h') h) f hf
  have e2 : gp_ap (gp_cm (gp_iv q) c) f = f := Classical.byContradiction fun no => hn (e no)
  rw [gp_cm_ap _ _ f hf] at e2
  rw [← gp_iv_r hq (gp_ap_lt c f), e2]
/-- bound atoms: the rule of the reference, and by a q that takes b to a -/
theorem fd_q (G : fd_Gd D A E O) (hA : A ≤ 4) {x y a b c : Nat} (hx : D x) (hy : D y) (ha : a < A) (hb : b < A) (hc : gp_P A c) :
    (E x y (gp_cm (gp_tr a (gp_ap c b)) c) ∧ (a = gp_ap c b ∨ O y (gp_ap (gp_iv c) a))) ↔ ∃ q, gp_P A q ∧ E x y q ∧ gp_ap q b = a ∧ ∀ f, f < 4 → f ≠ b → ¬ O y f → gp_ap c f = gp_ap q f := by
  have ha4 : a < 4 := by omega
  have hb4 : b < 4 := by omega
  have heA : gp_ap c b < A := gp_ltA hc hb4 hb
  have he4 : gp_ap c b < 4 := gp_ap_lt _ _
  have hQ := gp_P_cm (gp_P_tr hA ha heA) hc
  have ea : ∀ f, f < 4 → gp_ap (gp_cm (gp_tr a (gp_ap c b)) c) f = gp_sw a (gp_ap c b) (gp_ap c f) := fun f hf => by
    rw [gp_cm_ap _ _ f hf, gp_tr_ap ha4 he4 _ (gp_ap_lt _ _)]
  constructor
  · rintro ⟨h, h'⟩
    refine ⟨_, hQ, h, by rw [ea b hb4, gp_sw_r], fun f hf hfb hn => ?_⟩
    have n1 : gp_ap c f ≠ gp_ap c b := fun z => hfb (gp_inj hc hf hb4 z)
    have n2 : gp_ap c f ≠ a := fun z => by
      rcases h' with h' | h'
      · exact n1 (z.trans h')
      · rw [← z, gp_iv_l hc hf] at h'; exact hn h'
    rw [ea f hf, gp_sw_o n2 n1]
  · rintro ⟨q, hq, h, hqb, hf⟩
    constructor
    · refine fd_ag G hx hy hQ hq h fun f hf4 hn => ?_
      rw [ea f hf4]
      by_cases z : f = b
      · rw [z, gp_sw_r, hqb]
      · have n1 : gp_ap c f ≠ gp_ap c b := fun w => z (gp_inj hc hf4 hb4 w)
        have e1 := hf f hf4 z hn
        have n2 : gp_ap c f ≠ a := fun w => z (gp_inj hq hf4 hb4 (by rw [← e1, w, hqb]))
        rw [gp_sw_o n2 n1, e1]
    · by_cases z : a = gp_ap c b
      · exact Or.inl z
      · refine Or.inr (Classical.byContradiction fun no => ?_)
        have hd4 : gp_ap (gp_iv c) a < 4 := gp_ap_lt _ _
        have e1 : gp_ap c (gp_ap (gp_iv c) a) = a := gp_iv_r hc ha4
        have n1 : gp_ap (gp_iv c) a ≠ b := fun w => z (by rw [← w, e1])
        have e2 := hf _ hd4 n1 no
        exact n1 (gp_inj hq hd4 hb4 (by rw [← e2, e1, hqb]))
end
/-! the shape of two alike nodes, and a node's own atoms -/
def fd_sh (kd fs sn : Nat → Nat) (E : Nat → Nat → Nat → Prop) (O : Nat → Nat → Prop) (t u c : Nat) : Prop :=
  kd t = kd u ∧ ((kd t = 1 ∧ gp_ap c (fs u) = fs t) ∨ (kd t = 2 ∧ fs t = fs u) ∨
    (kd t = 4 ∧ E (sn t) (sn u) (gp_cm (gp_tr (fs t) (gp_ap c (fs u))) c) ∧ (fs t = gp_ap c (fs u) ∨ O (sn u) (gp_ap (gp_iv c) (fs t)))) ∨
    (kd t = 5 ∧ E (fs t) (fs u) c ∧ E (sn t) (sn u) c))
def fd_ow (A : Nat) (kd fs sn : Nat → Nat) (O : Nat → Nat → Prop) (t a : Nat) : Prop :=
  a < A ∧ ((kd t = 1 ∧ a ≠ fs t) ∨ kd t = 2 ∨ (kd t = 4 ∧ (a = fs t ∨ O (sn t) a)) ∨ (kd t = 5 ∧ O (fs t) a ∧ O (sn t) a))
def fd_K (D : Nat → Prop) (A : Nat) (kd fs sn : Nat → Nat) (t : Nat) : Prop :=
  (kd t = 1 → fs t < A) ∧ (kd t = 4 → fs t < A ∧ D (sn t)) ∧ (kd t = 5 → D (fs t) ∧ D (sn t))
def fd_rg (kd : Nat → Nat) (t : Nat) : Prop := kd t = 1 ∨ kd t = 2 ∨ kd t = 4 ∨ kd t = 5
section
variable {D : Nat → Prop} {A : Nat} {E : Nat → Nat → Nat → Prop} {O : Nat → Nat → Prop} {kd fs sn : Nat → Nat}
theorem fd_sh_ml (G : fd_Gd D A E O) (hA : A ≤ 4) {t u v c d : Nat} (ht : fd_K D A kd fs sn t) (hu : fd_K D A kd fs sn u) (hv : fd_K D A kd fs sn v) (hc : gp_P A c) (hd : gp_P A d)
    (h : fd_sh kd fs sn E O t u c) (h' : fd_sh kd fs sn E O u v d) : fd_sh kd fs sn E O t v (gp_cm c d) := by
  obtain ⟨e, h⟩ := h
  obtain ⟨e', h'⟩ := h'
  refine ⟨e.trans e', ?_⟩
  have hcd := gp_P_cm hc hd
  rcases h with ⟨k, h⟩ | ⟨k, h⟩ | ⟨k, h⟩ | ⟨k, h⟩
  · have k' : kd u = 1 := by omega
    rcases h' with ⟨_, h'⟩ | ⟨z, _⟩ | ⟨z, _⟩ | ⟨z, _⟩
    · have hv4 : fs v < 4 := Nat.lt_of_lt_of_le (hv.1 (by omega)) hA
      exact Or.inl ⟨k, by rw [gp_cm_ap _ _ _ hv4, h', h]⟩
    all_goals omega
  · have k' : kd u = 2 := by omega
    rcases h' with ⟨z, _⟩ | ⟨_, h'⟩ | ⟨z, _⟩ | ⟨z, _⟩
    · omega
    · exact Or.inr (Or.inl ⟨k, h.trans h'⟩)
    all_goals omega
  · have k' : kd u = 4 := by omega
    have k2 : kd v = 4 := by omega
    rcases h' with ⟨z, _⟩ | ⟨z, _⟩ | ⟨_, h'⟩ | ⟨z, _⟩
    · omega
    · omega
    · refine Or.inr (Or.inr (Or.inl ⟨k, ?_⟩))
      have T := ht.2.1 k
      have U := hu.2.1 k'
      have V := hv.2.1 k2
      obtain ⟨q, hq, h1, h2, h3⟩ := (fd_q G hA T.2 U.2 T.1 U.1 hc).mp h
      obtain ⟨r, hr, h4, h5, h6⟩ := (fd_q G hA U.2 V.2 U.1 V.1 hd).mp h'
      have hv4 : fs v < 4 := by omega
      refine (fd_q G hA T.2 V.2 T.1 V.1 hcd).mpr ⟨gp_cm q r, gp_P_cm hq hr, fd_ml G T.2 U.2 V.2 hq hr h1 h4, by rw [gp_cm_ap _ _ _ hv4, h5, h2], fun f hf hn ho => ?_⟩
      rw [gp_cm_ap _ _ f hf, gp_cm_ap _ _ f hf, h6 f hf hn ho]
      exact h3 _ (gp_ap_lt _ _) (fun z => hn (gp_inj hr hf hv4 (z.trans h5.symm))) fun z => ho (fd_bk G U.2 V.2 hr hf h4 z)
    · omega
  · have k' : kd u = 5 := by omega
    rcases h' with ⟨z, _⟩ | ⟨z, _⟩ | ⟨z, _⟩ | ⟨_, h'⟩
    · omega
    · omega
    · omega
    · have T := ht.2.2 k
      have U := hu.2.2 k'
      have V := hv.2.2 (by omega)
      exact Or.inr (Or.inr (Or.inr ⟨k, fd_ml G T.1 U.1 V.1 hc hd h.1 h'.1, fd_ml G T.2 U.2 V.2 hc hd h.2 h'.2⟩))
theorem fd_sh_iv (G : fd_Gd D A E O) (hA : A ≤ 4) {t u c : Nat} (ht : fd_K D A kd fs sn t) (hu : fd_K D A kd fs sn u) (hc : gp_P A c)
    (h : fd_sh kd fs sn E O t u c) : fd_sh kd fs sn E O u t (gp_iv c) := by
  obtain ⟨e, h⟩ := h
  refine ⟨e.symm, ?_⟩
  have hi := gp_P_iv hc
  rcases h with ⟨k, h⟩ | ⟨k, h⟩ | ⟨k, h⟩ | ⟨k, h⟩
  · have hu4 : fs u < 4 := Nat.lt_of_lt_of_le (hu.1 (by omega)) hA
    exact Or.inl ⟨by omega, by rw [← h, gp_iv_l hc hu4]⟩
  · exact Or.inr (Or.inl ⟨by omega, h.symm⟩)
  · have k' : kd u = 4 := by omega
    have T := ht.2.1 k
    have U := hu.2.1 k'
    refine Or.inr (Or.inr (Or.inl ⟨k', ?_⟩))
    obtain ⟨q, hq, h1, h2, h3⟩ := (fd_q G hA T.2 U.2 T.1 U.1 hc).mp h
    have hu4 : fs u < 4 := by omega
    refine (fd_q G hA U.2 T.2 U.1 T.1 hi).mpr ⟨gp_iv q, gp_P_iv hq, fd_iv G T.2 U.2 hq h1, by rw [← h2, gp_iv_l hq hu4], fun f hf hn ho => ?_⟩
    have g4 : gp_ap (gp_iv q) f < 4 := gp_ap_lt _ _
    have eg : gp_ap q (gp_ap (gp_iv q) f) = f := gp_iv_r hq hf
    have e1 := h3 _ g4 (fun z => hn (by rw [← eg, z, h2])) (fun z => ho (by
      have := fd_tp G T.2 U.2 hq (fd_bd G U.2 z) h1 z
      rw [eg] at this; exact this))
    rw [eg] at e1
    rw [← gp_iv_l hc g4, e1]
  · have T := ht.2.2 k
    have U := hu.2.2 (by omega)
    exact Or.inr (Or.inr (Or.inr ⟨by omega, fd_iv G T.1 U.1 hc h.1, fd_iv G T.2 U.2 hc h.2⟩))
theorem fd_sh_st (G : fd_Gd D A E O) (hA : A ≤ 4) {t c : Nat} (ht : fd_K D A kd fs sn t) (hc : gp_P A c) (hr : fd_rg kd t) :
    fd_sh kd fs sn E O t t c ↔ ∀ a, a < 4 → gp_ap c a ≠ a → fd_ow A kd fs sn O t a := by
  have mA : ∀ a, a < 4 → gp_ap c a ≠ a → a < A := fun a ha h => gp_mvA hc ha h
  rcases hr with k | k | k | k
  · have hf4 : fs t < 4 := Nat.lt_of_lt_of_le (ht.1 k) hA
    constructor
    · rintro ⟨_, ⟨_, h⟩ | ⟨z, _⟩ | ⟨z, _⟩ | ⟨z, _⟩⟩
      · exact fun a ha hn => ⟨mA a ha hn, Or.inl ⟨k, fun z => hn (by rw [z]; exact h)⟩⟩
      all_goals omega
    · intro h
      refine ⟨rfl, Or.inl ⟨k, Classical.byContradiction fun no => ?_⟩⟩
      obtain ⟨_, ⟨_, z⟩ | z | ⟨z, _⟩ | ⟨z, _⟩⟩ := h _ hf4 no
      · exact z rfl
      all_goals omega
  · constructor
    · exact fun _ a ha hn => ⟨mA a ha hn, Or.inr (Or.inl k)⟩
    · exact fun _ => ⟨rfl, Or.inr (Or.inl ⟨k, rfl⟩)⟩
  · have T := ht.2.1 k
    have hf4 : fs t < 4 := by omega
    constructor
    · rintro ⟨_, ⟨z, _⟩ | ⟨z, _⟩ | ⟨_, h⟩ | ⟨z, _⟩⟩
      · omega
      · omega
      · obtain ⟨q, hq, h1, h2, h3⟩ := (fd_q G hA T.2 T.2 T.1 T.1 hc).mp h
        refine fun a ha hn => ⟨mA a ha hn, Or.inr (Or.inr (Or.inl ⟨k, ?_⟩))⟩
        by_cases z : a = fs t
        · exact Or.inl z
        · refine Or.inr (Classical.byContradiction fun no => hn ?_)
          rw [h3 a ha z no]
          exact Classical.byContradiction fun w => no ((fd_st G T.2 hq).mp h1 a ha w)
      · omega
    · intro h
      refine ⟨rfl, Or.inr (Or.inr (Or.inl ⟨k, ?_⟩))⟩
      refine (fd_q G hA T.2 T.2 T.1 T.1 hc).mpr ⟨228, gp_P_id A, fd_rf G T.2, gp_id_ap _ hf4, fun f hf hn ho => ?_⟩
      rw [gp_id_ap f hf]
      refine Classical.byContradiction fun no => ?_
      obtain ⟨_, ⟨z, _⟩ | z | ⟨_, z⟩ | ⟨z, _⟩⟩ := h f hf no
      · omega
      · omega
      · rcases z with z | z
        · exact hn z
        · exact ho z
      · omega
  · have T := ht.2.2 k
    constructor
    · rintro ⟨_, ⟨z, _⟩ | ⟨z, _⟩ | ⟨z, _⟩ | ⟨_, h⟩⟩
      · omega
      · omega
      · omega
      · exact fun a ha hn => ⟨mA a ha hn, Or.inr (Or.inr (Or.inr ⟨k, (fd_st G T.1 hc).mp h.1 a ha hn, (fd_st G T.2 hc).mp h.2 a ha hn⟩))⟩
    · intro h
      have hh : ∀ a, a < 4 → gp_ap c a ≠ a → O (fs t) a ∧ O (sn t) a := fun a ha hn => by
        obtain ⟨_, ⟨z, _⟩ | z | ⟨z, _⟩ | ⟨_, z⟩⟩ := h a ha hn
        · omega
        · omega
        · omega
        · exact z
      exact ⟨rfl, Or.inr (Or.inr (Or.inr ⟨k, (fd_st G T.1 hc).mpr fun a ha hn => (hh a ha hn).1, (fd_st G T.2 hc).mpr fun a ha hn => (hh a ha hn).2⟩))⟩
theorem fd_sh_ow (G : fd_Gd D A E O) (hA : A ≤ 4) {t u c a : Nat} (ht : fd_K D A kd fs sn t) (hu : fd_K D A kd fs sn u) (hc : gp_P A c)
    (h : fd_sh kd fs sn E O t u c) (h' : fd_ow A kd fs sn O u a) : fd_ow A kd fs sn O t (gp_ap c a) := by
  obtain ⟨e, h⟩ := h
  obtain ⟨haA, h'⟩ := h'
  have ha4 : a < 4 := by omega
  refine ⟨gp_ltA hc ha4 haA, ?_⟩
  rcases h with ⟨k, h⟩ | ⟨k, h⟩ | ⟨k, h⟩ | ⟨k, h⟩
  · have hu4 : fs u < 4 := Nat.lt_of_lt_of_le (hu.1 (by omega)) hA
    rcases h' with ⟨_, z⟩ | z | ⟨z, _⟩ | ⟨z, _⟩
    · exact Or.inl ⟨k, fun w => z (gp_inj hc ha4 hu4 (w.trans h.symm))⟩
    all_goals omega
  · exact Or.inr (Or.inl k)
  · have T := ht.2.1 k
    have U := hu.2.1 (by omega)
    obtain ⟨q, hq, h1, h2, h3⟩ := (fd_q G hA T.2 U.2 T.1 U.1 hc).mp h
    have hu4 : fs u < 4 := by omega
    refine Or.inr (Or.inr (Or.inl ⟨k, ?_⟩))
    rcases h' with ⟨z, _⟩ | z | ⟨_, z⟩ | ⟨z, _⟩
    · omega
    · omega
    · refine Classical.byContradiction fun no => ?_
      have n1 : gp_ap c a ≠ fs t := fun w => no (Or.inl w)
      have n2 : ¬ O (sn t) (gp_ap c a) := fun w => no (Or.inr w)
      have g4 : gp_ap (gp_iv q) (gp_ap c a) < 4 := gp_ap_lt _ _
      have eg : gp_ap q (gp_ap (gp_iv q) (gp_ap c a)) = gp_ap c a := gp_iv_r hq (gp_ap_lt _ _)
      have b1 : gp_ap (gp_iv q) (gp_ap c a) ≠ fs u := fun w => n1 (by rw [← eg, w, h2])
      have b2 : ¬ O (sn u) (gp_ap (gp_iv q) (gp_ap c a)) := fun w => n2 (by
        have := fd_tp G T.2 U.2 hq (fd_bd G U.2 w) h1 w
        rw [eg] at this; exact this)
      have e1 := h3 _ g4 b1 b2
      rw [eg] at e1
      have e2 := gp_inj hc g4 ha4 e1
      rw [e2] at b1 b2
      rcases z with z | z
      · exact b1 z
      · exact b2 z
    · omega
  · have T := ht.2.2 k
    have U := hu.2.2 (by omega)
    rcases h' with ⟨z, _⟩ | z | ⟨z, _⟩ | ⟨_, z⟩
    · omega
    · omega
    · omega
    · exact Or.inr (Or.inr (Or.inr ⟨k, fd_tp G T.1 U.1 hc haA h.1 z.1, fd_tp G T.2 U.2 hc haA h.2 z.2⟩))
theorem fd_sh_mono {E' : Nat → Nat → Nat → Prop} {O' : Nat → Nat → Prop} {t u c : Nat} (hE : ∀ x y d, (kd t = 4 ∧ x = sn t ∧ y = sn u) ∨ (kd t = 5 ∧ ((x = sn t ∧ y = sn u) ∨ (x = fs t ∧ y = fs u))) → E x y d → E' x y d) (hO : ∀ a, kd t = 4 → O (sn u) a → O' (sn u) a)
    (h : fd_sh kd fs sn E O t u c) : fd_sh kd fs sn E' O' t u c := by
  obtain ⟨e, h⟩ := h
  refine ⟨e, ?_⟩
  rcases h with h | h | ⟨k, h, h'⟩ | ⟨k, h, h'⟩
  · exact Or.inl h
  · exact Or.inr (Or.inl h)
  · refine Or.inr (Or.inr (Or.inl ⟨k, hE _ _ _ (Or.inl ⟨k, rfl, rfl⟩) h, ?_⟩))
    rcases h' with h' | h'
    · exact Or.inl h'
    · exact Or.inr (hO _ k h')
  · exact Or.inr (Or.inr (Or.inr ⟨k, hE _ _ _ (Or.inr ⟨k, Or.inr ⟨rfl, rfl⟩⟩) h, hE _ _ _ (Or.inr ⟨k, Or.inl ⟨rfl, rfl⟩⟩) h'⟩))
end
/-! closed sets of facts, and the least one with the first m demands -/
def fd_wf (n A : Nat) (kd fs sn th : Nat → Nat) : Prop :=
  ∀ t, t < n → kd t ≤ 5 ∧ (kd t = 1 → fs t < A) ∧ (kd t = 2 → fs t < 4) ∧ (kd t = 3 → fs t < A ∧ sn t < A ∧ th t < t) ∧ (kd t = 4 → fs t < A ∧ sn t < t) ∧ (kd t = 5 → fs t < t ∧ sn t < t)
def fd_Cl (n A : Nat) (kd fs sn th : Nat → Nat) (E : Nat → Nat → Nat → Prop) (O : Nat → Nat → Prop) : Prop :=
  fd_Gd (fun t => t < n) A E O ∧
  (∀ t, t < n → kd t = 3 → E t (th t) (gp_tr (fs t) (sn t))) ∧
  (∀ t u c, t < n → u < n → gp_P A c → fd_sh kd fs sn E O t u c → E t u c) ∧
  (∀ t u c, t < n → u < n → gp_P A c → (kd t = 4 ∨ kd t = 5) → kd t = kd u → E t u c → fd_sh kd fs sn E O t u c) ∧
  (∀ t a, t < n → fd_ow A kd fs sn O t a → O t a) ∧
  (∀ t a, t < n → (kd t = 4 ∨ kd t = 5) → O t a → fd_ow A kd fs sn O t a)
def fd_Bs (m : Nat) (dk di dj : Nat → Nat) (E : Nat → Nat → Nat → Prop) (O : Nat → Nat → Prop) : Prop :=
  ∀ k, k < m → (dk k = 0 → E (di k) (dj k) 228) ∧ (dk k ≠ 0 → O (dj k) (di k))
def fd_LE (n A : Nat) (kd fs sn th : Nat → Nat) (dk di dj : Nat → Nat) (m : Nat) (t u c : Nat) : Prop :=
  ∀ (E : Nat → Nat → Nat → Prop) (O : Nat → Nat → Prop), fd_Cl n A kd fs sn th E O → fd_Bs m dk di dj E O → E t u c
def fd_LO (n A : Nat) (kd fs sn th : Nat → Nat) (dk di dj : Nat → Nat) (m : Nat) (t a : Nat) : Prop :=
  ∀ (E : Nat → Nat → Nat → Prop) (O : Nat → Nat → Prop), fd_Cl n A kd fs sn th E O → fd_Bs m dk di dj E O → O t a
def fd_dw (n A : Nat) (m : Nat) (dk di dj : Nat → Nat) : Prop :=
  ∀ k, k < m → dj k < n ∧ (dk k = 0 → di k < n) ∧ (dk k ≠ 0 → di k < A)
section
variable {n A : Nat} {kd fs sn th dk di dj : Nat → Nat} {m : Nat}
theorem fd_wK (W : fd_wf n A kd fs sn th) {t : Nat} (ht : t < n) : fd_K (fun t => t < n) A kd fs sn t := by
  obtain ⟨_, h1, _, _, h4, h5⟩ := W t ht
  refine ⟨h1, fun k => ⟨(h4 k).1, ?_⟩, fun k => ⟨?_, ?_⟩⟩
  · have := (h4 k).2
    show sn t < n
    omega
  · have := (h5 k).1
    show fs t < n
    omega
  · have := (h5 k).2
    show sn t < n
    omega
theorem fd_full (hA : A ≤ 4) (W : fd_wf n A kd fs sn th) : fd_Cl n A kd fs sn th (fun _ _ _ => True) (fun _ a => a < A) := by
  refine ⟨⟨fun _ _ => trivial, fun _ _ _ _ _ _ _ => trivial, fun _ _ _ _ _ _ _ _ _ _ _ _ => trivial, fun t u c a _ _ hc ha _ _ => gp_ltA hc (by omega) ha, fun t c _ hc => ⟨fun _ a ha hn => gp_mvA hc ha hn, fun _ => trivial⟩, fun _ _ _ h => h⟩, fun _ _ _ => trivial, fun _ _ _ _ _ _ _ => trivial, ?_, fun t a _ h => h.1, ?_⟩
  · intro t u c ht hu hc k e _
    refine ⟨e, ?_⟩
    rcases k with k | k
    · have h := (fd_wK W ht).2.1 k
      exact Or.inr (Or.inr (Or.inl ⟨k, trivial, Or.inr (gp_ltA (gp_P_iv hc) (by omega) h.1)⟩))
    · exact Or.inr (Or.inr (Or.inr ⟨k, trivial, trivial⟩))
  · intro t a ht k h
    refine ⟨h, ?_⟩
    rcases k with k | k
    · exact Or.inr (Or.inr (Or.inl ⟨k, Or.inr h⟩))
    · exact Or.inr (Or.inr (Or.inr ⟨k, h, h⟩))
theorem fd_LCl (hA : A ≤ 4) (W : fd_wf n A kd fs sn th) (hd : fd_dw n A m dk di dj) : fd_Cl n A kd fs sn th (fd_LE n A kd fs sn th dk di dj m) (fd_LO n A kd fs sn th dk di dj m) := by
  refine ⟨⟨?_, ?_, ?_, ?_, ?_, ?_⟩, ?_, ?_, ?_, ?_, ?_⟩
  · exact fun t ht E O C B => fd_rf C.1 ht
  · exact fun t u c ht hu hc h E O C B => fd_iv C.1 ht hu hc (h E O C B)
  · exact fun t u v c d ht hu hv hc hd h h' E O C B => fd_ml C.1 ht hu hv hc hd (h E O C B) (h' E O C B)
  · exact fun t u c a ht hu hc ha h h' E O C B => fd_tp C.1 ht hu hc ha (h E O C B) (h' E O C B)
  · exact fun t c ht hc => ⟨fun h a ha hn E O C B => (fd_st C.1 ht hc).mp (h E O C B) a ha hn, fun h E O C B => (fd_st C.1 ht hc).mpr fun a ha hn => h a ha hn E O C B⟩
  · exact fun t a ht h => h _ _ (fd_full hA W) (fun k hk => ⟨fun _ => trivial, fun z => (hd k hk).2.2 z⟩)
  · exact fun t ht k E O C B => C.2.1 t ht k
  · exact fun t u c ht hu hc h E O C B => C.2.2.1 t u c ht hu hc (fd_sh_mono (fun _ _ _ _ z => z E O C B) (fun _ _ z => z E O C B) h)
  · intro t u c ht hu hc k e h
    refine ⟨e, ?_⟩
    have hh : ∀ E O, fd_Cl n A kd fs sn th E O → fd_Bs m dk di dj E O → fd_sh kd fs sn E O t u c := fun E O C B => C.2.2.2.1 t u c ht hu hc k e (h E O C B)
    rcases k with k | k
    · have h4 : ∀ E O, fd_Cl n A kd fs sn th E O → fd_Bs m dk di dj E O → E (sn t) (sn u) (gp_cm (gp_tr (fs t) (gp_ap c (fs u))) c) ∧ (fs t = gp_ap c (fs u) ∨ O (sn u) (gp_ap (gp_iv c) (fs t))) := fun E O C B => by
        obtain ⟨_, ⟨z, _⟩ | ⟨z, _⟩ | ⟨_, z⟩ | ⟨z, _⟩⟩ := hh E O C B
        · omega
        · omega
        · exact z
        · omega
      refine Or.inr (Or.inr (Or.inl ⟨k, fun E O C B => (h4 E O C B).1, ?_⟩))
      by_cases z : fs t = gp_ap c (fs u)
      · exact Or.inl z
      · exact Or.inr fun E O C B => (h4 E O C B).2.resolve_left z
    · have h5 : ∀ E O, fd_Cl n A kd fs sn th E O → fd_Bs m dk di dj E O → E (fs t) (fs u) c ∧ E (sn t) (sn u) c := fun E O C B => by
        obtain ⟨_, ⟨z, _⟩ | ⟨z, _⟩ | ⟨z, _⟩ | ⟨_, z⟩⟩ := hh E O C B
        · omega
        · omega
        · omega
        · exact z
      exact Or.inr (Or.inr (Or.inr ⟨k, fun E O C B => (h5 E O C B).1, fun E O C B => (h5 E O C B).2⟩))
  · intro t a ht h E O C B
    refine C.2.2.2.2.1 t a ht ⟨h.1, ?_⟩
    rcases h.2 with h | h | ⟨k, h⟩ | ⟨k, h⟩
    · exact Or.inl h
    · exact Or.inr (Or.inl h)
    · exact Or.inr (Or.inr (Or.inl ⟨k, h.imp id fun z => z E O C B⟩))
    · exact Or.inr (Or.inr (Or.inr ⟨k, h.1 E O C B, h.2 E O C B⟩))
  · intro t a ht k h
    have hh : ∀ E O, fd_Cl n A kd fs sn th E O → fd_Bs m dk di dj E O → fd_ow A kd fs sn O t a := fun E O C B => C.2.2.2.2.2 t a ht k (h E O C B)
    refine ⟨h _ _ (fd_full hA W) (fun k hk => ⟨fun _ => trivial, fun z => (hd k hk).2.2 z⟩), ?_⟩
    rcases k with k | k
    · refine Or.inr (Or.inr (Or.inl ⟨k, ?_⟩))
      by_cases z : a = fs t
      · exact Or.inl z
      · refine Or.inr fun E O C B => ?_
        obtain ⟨_, ⟨w, _⟩ | w | ⟨_, w⟩ | ⟨w, _⟩⟩ := hh E O C B
        · omega
        · omega
        · exact w.resolve_left z
        · omega
    · refine Or.inr (Or.inr (Or.inr ⟨k, fun E O C B => ?_, fun E O C B => ?_⟩))
      · obtain ⟨_, ⟨w, _⟩ | w | ⟨w, _⟩ | ⟨_, w⟩⟩ := hh E O C B
        · omega
        · omega
        · omega
        · exact w.1
      · obtain ⟨_, ⟨w, _⟩ | w | ⟨w, _⟩ | ⟨_, w⟩⟩ := hh E O C B
        · omega
        · omega
        · omega
        · exact w.2
theorem fd_LBs : fd_Bs m dk di dj (fd_LE n A kd fs sn th dk di dj m) (fd_LO n A kd fs sn th dk di dj m) :=
  fun k hk => ⟨fun z E O C B => (B k hk).1 z, fun z E O C B => (B k hk).2 z⟩
end
end
section
/-! counting -/
def cn (f : Nat → Bool) : Nat → Nat
  | 0 => 0
  | k + 1 => cn f k + (if f k then 1 else 0)
theorem cn_le_n (f : Nat → Bool) : ∀ k, cn f k ≤ k := by
  intro k
  induction k with
  | zero => exact Nat.le_refl _
  | succ k ih =>
    show cn f k + (if f k then 1 else 0) ≤ k + 1
    split <;> omega
theorem cn_mono {f g : Nat → Bool} : ∀ k, (∀ i, i < k → f i = true → g i = true) → cn f k ≤ cn g k := by
  intro k
  induction k with
  | zero => intro _; exact Nat.le_refl _
  | succ k ih =>
    intro h
    have h1 := ih fun i hi => h i (by omega)
    have h2 := h k (by omega)
    show cn f k + (if f k then 1 else 0) ≤ cn g k + (if g k then 1 else 0)
    cases hf : f k
    · simp only [Bool.false_eq_true, if_false]; omega
    · rw [h2 hf]; simp only [if_true]; omega
theorem cn_lt {f g : Nat → Bool} : ∀ k, (∀ i, i < k → f i = true → g i = true) → (∃ i, i < k ∧ f i = false ∧ g i = true) → cn f k < cn g k := by
  intro k
  induction k with
  | zero => rintro _ ⟨i, hi, _⟩; omega
  | succ k ih =>
    rintro h ⟨i, hi, h1, h2⟩
    show cn f k + (if f k then 1 else 0) < cn g k + (if g k then 1 else 0)
    by_cases e : i = k
    · have h3 := cn_mono (f := f) (g := g) k fun i hi => h i (by omega)
      rw [e] at h1 h2
      rw [h1, h2]; simp only [Bool.false_eq_true, if_false, if_true]; omega
    · have h3 := ih (fun i hi => h i (by omega)) ⟨i, by omega, h1, h2⟩
      have h4 := h k (by omega)
      cases hf : f k
      · simp only [Bool.false_eq_true, if_false]; omega
      · rw [h4 hf]; simp only [if_true]; omega
/-! the component's picture of the facts: slot x is P x applied to its root C x; F root: the atoms off the root -/
def xr_e (C P F : Nat → Nat) (x y c : Nat) : Prop := C x = C y ∧ ∀ a, a < 4 → (F (C x)).testBit a = false → gp_ap c (gp_ap (P y) a) = gp_ap (P x) a
def xr_o (C P F : Nat → Nat) (x b : Nat) : Prop := ∃ a, a < 4 ∧ (F (C x)).testBit a = true ∧ gp_ap (P x) a = b
def xr_I (D : Nat → Prop) (A : Nat) (C P F : Nat → Nat) : Prop :=
  ∀ x, D x → D (C x) ∧ C (C x) = C x ∧ P (C x) = 228 ∧ gp_P A (P x) ∧ F (C x) < 2 ^ A
def xr_S (D : Nat → Prop) (E : Nat → Nat → Nat → Prop) (O : Nat → Nat → Prop) (C P F : Nat → Nat) : Prop :=
  ∀ x, D x → E x (C x) (P x) ∧ ∀ a, a < 4 → (F (C x)).testBit a = true → O (C x) a
theorem xr_om {C P F : Nat → Nat} {x b : Nat} : xr_o C P F x b ↔ (gp_im (P x) (F (C x))).testBit b = true := gp_im_bit.symm
section
variable {D : Nat → Prop} {A : Nat} {C P F : Nat → Nat}
theorem xr_Gd (hA : A ≤ 4) (I : xr_I D A C P F) : fd_Gd D A (xr_e C P F) (xr_o C P F) := by
  refine ⟨?_, ?_, ?_, ?_, ?_, ?_⟩
  · exact fun t ht => ⟨rfl, fun a ha _ => gp_id_ap _ (gp_ap_lt _ _)⟩
  · rintro t u c ht hu hc ⟨e, h⟩
    refine ⟨e.symm, fun a ha hf => ?_⟩
    rw [← h a ha (by rw [e]; exact hf), gp_iv_l hc (gp_ap_lt _ _)]
  · rintro t u v c d ht hu hv hc hd ⟨e, h⟩ ⟨e', h'⟩
    refine ⟨e.trans e', fun a ha hf => ?_⟩
    rw [gp_cm_ap _ _ _ (gp_ap_lt _ _), h' a ha (by rw [← e]; exact hf), h a ha hf]
  · rintro t u c a ht hu hc haA ⟨e, h⟩ ⟨b, hb, hf, eb⟩
    have Pt := (I t ht).2.2.2.1
    have Pu := (I u hu).2.2.2.1
    have eg : gp_ap (P t) (gp_ap (gp_iv (P t)) (gp_ap c a)) = gp_ap c a := gp_iv_r Pt (gp_ap_lt _ _)
    refine ⟨gp_ap (gp_iv (P t)) (gp_ap c a), gp_ap_lt _ _, gp_nf fun no => ?_, eg⟩
    have e1 := h _ (gp_ap_lt _ _) no
    rw [eg] at e1
    have e2 := gp_inj hc (gp_ap_lt _ _) (by omega) e1
    have e3 := gp_inj Pu (gp_ap_lt _ _) hb (e2.trans eb.symm)
    rw [e3, e, hf] at no; exact absurd no (by decide)
  · intro t c ht hc
    have Pt := (I t ht).2.2.2.1
    constructor
    · rintro ⟨_, h⟩ a ha hn
      have eg : gp_ap (P t) (gp_ap (gp_iv (P t)) a) = a := gp_iv_r Pt ha
      refine ⟨_, gp_ap_lt _ _, gp_nf fun no => hn ?_, eg⟩
      have e1 := h _ (gp_ap_lt _ _) no
      rw [eg] at e1; exact e1
    · intro h
      refine ⟨rfl, fun a ha hf => Classical.byContradiction fun no => ?_⟩
      obtain ⟨b, hb, hfb, eb⟩ := h _ (gp_ap_lt _ _) no
      rw [gp_inj Pt hb ha eb, hf] at hfb; exact absurd hfb (by decide)
  · rintro t a ht ⟨b, hb, hf, eb⟩
    rw [← eb]
    exact gp_ltA (I t ht).2.2.2.1 hb (gp_bit_lt (I t ht).2.2.2.2 hf)
theorem fd_shift {E : Nat → Nat → Nat → Prop} {O : Nat → Nat → Prop} (G : fd_Gd D A E O) (b : Nat) : fd_Gd (fun t => D (b + t)) A (fun t u c => E (b + t) (b + u) c) (fun t a => O (b + t) a) :=
  ⟨fun _ h => G.1 _ h, fun _ _ _ h h' => G.2.1 _ _ _ h h', fun _ _ _ _ _ h h' h2 => G.2.2.1 _ _ _ _ _ h h' h2, fun _ _ _ _ h h' => G.2.2.2.1 _ _ _ _ h h', fun _ _ h => G.2.2.2.2.1 _ _ h, fun _ _ h => G.2.2.2.2.2 _ _ h⟩
/-- a sound state's facts lie in every set of facts in which it is sound -/
theorem xr_inE {E : Nat → Nat → Nat → Prop} {O : Nat → Nat → Prop} (hA : A ≤ 4) (G : fd_Gd D A E O) (I : xr_I D A C P F) (S : xr_S D E O C P F) {x y c : Nat} (hx : D x) (hy : D y) (hc : gp_P A c) (h : xr_e C P F x y c) : E x y c := by
  obtain ⟨e, h⟩ := h
  have Px := (I x hx).2.2.2.1
  have Py := (I y hy).2.2.2.1
  have Dr := (I x hx).1
  have hQ : gp_P A (gp_cm (gp_iv (P x)) (gp_cm c (P y))) := gp_P_cm (gp_P_iv Px) (gp_P_cm hc Py)
  have s1 : E (C x) (C x) (gp_cm (gp_iv (P x)) (gp_cm c (P y))) := (fd_st G Dr hQ).mpr fun a ha hn => by
    refine (S x hx).2 a ha (gp_nf fun no => hn ?_)
    rw [gp_cm_ap _ _ a ha, gp_cm_ap _ _ a ha, h a ha no, gp_iv_l Px ha]
  have s2 := fd_ml G hx Dr Dr Px hQ (S x hx).1 s1
  rw [gp_kl Px (gp_cm_lt _ _)] at s2
  have s3 := (S y hy).1
  rw [← e] at s3
  have s4 := fd_ml G hx Dr hy (gp_P_cm hc Py) (gp_P_iv Py) s2 (fd_iv G hy Dr Py s3)
  rw [gp_assoc, gp_vr Py, gp_1r hc.1] at s4; exact s4
theorem xr_inO {E : Nat → Nat → Nat → Prop} {O : Nat → Nat → Prop} (G : fd_Gd D A E O) (I : xr_I D A C P F) (S : xr_S D E O C P F) {x a : Nat} (hx : D x) (h : xr_o C P F x a) : O x a := by
  obtain ⟨b, hb, hf, e⟩ := h
  rw [← e]
  exact fd_tp G hx (I x hx).1 (I x hx).2.2.2.1 (gp_bit_lt (I x hx).2.2.2.2 hf) (S x hx).1 ((S x hx).2 b hb hf)
end
/-! what an operation of the solver does to a state: it keeps facts, and it is still or it grows -/
def xr_bit (C P F : Nat → Nat) (i : Nat) : Bool := if i % 5 < 4 then (gp_im (P (i / 5)) (F (C (i / 5)))).testBit (i % 5) else C (i / 5) != i / 5
def xr_mu (n : Nat) (C P F : Nat → Nat) : Nat := cn (xr_bit C P F) (5 * n)
def xr_le (n A : Nat) (C P F C' P' F' : Nat → Nat) : Prop :=
  (∀ x y c, x < n → y < n → gp_P A c → xr_e C P F x y c → xr_e C' P' F' x y c) ∧ (∀ x a, x < n → xr_o C P F x a → xr_o C' P' F' x a)
theorem xr_mu_lt {n A : Nat} {C P F C' P' F' : Nat → Nat} (L : xr_le n A C P F C' P' F') (hC : ∀ x, x < n → C x ≠ x → C' x ≠ x)
    (h : (∃ x a, x < n ∧ a < 4 ∧ ¬ xr_o C P F x a ∧ xr_o C' P' F' x a) ∨ ∃ x, x < n ∧ C x = x ∧ C' x ≠ x) : xr_mu n C P F < xr_mu n C' P' F' := by
  refine cn_lt _ (fun i hi h => ?_) ?_
  · unfold xr_bit at h ⊢
    have hn : i / 5 < n := by omega
    split at h
    · rename_i z; rw [if_pos z]
      exact xr_om.mp (L.2 _ _ hn (xr_om.mpr h))
    · rename_i z; rw [if_neg z]
      simp only [bne_iff_ne] at h ⊢
      exact hC _ hn h
  · rcases h with ⟨x, a, hx, ha, h1, h2⟩ | ⟨x, hx, h1, h2⟩
    · refine ⟨5 * x + a, by omega, ?_, ?_⟩
      · unfold xr_bit
        rw [if_pos (by omega), (by omega : (5 * x + a) / 5 = x), (by omega : (5 * x + a) % 5 = a)]
        exact gp_nt fun z => h1 (xr_om.mpr z)
      · unfold xr_bit
        rw [if_pos (by omega), (by omega : (5 * x + a) / 5 = x), (by omega : (5 * x + a) % 5 = a)]
        exact xr_om.mp h2
    · refine ⟨5 * x + 4, by omega, ?_, ?_⟩
      · unfold xr_bit
        rw [if_neg (by omega), (by omega : (5 * x + 4) / 5 = x), h1]
        simp
      · unfold xr_bit
        rw [if_neg (by omega), (by omega : (5 * x + 4) / 5 = x)]
        simp only [bne_iff_ne]; exact h2
abbrev XS : Type := Nat × Nat × (Nat → Nat) × (Nat → Nat) × (Nat → Nat) × (Nat → Nat)
def xs_ch (s : XS) : Nat := s.1
def xs_C (s : XS) : Nat → Nat := s.2.2.1
def xs_P (s : XS) : Nat → Nat := s.2.2.2.1
def xs_F (s : XS) : Nat → Nat := s.2.2.2.2.1
def xs_e (s : XS) : Nat → Nat → Nat → Prop := xr_e s.2.2.1 s.2.2.2.1 s.2.2.2.2.1
def xs_o (s : XS) : Nat → Nat → Prop := xr_o s.2.2.1 s.2.2.2.1 s.2.2.2.2.1
/-- a good state: a picture, sound in E, O -/
def xs_V (n A : Nat) (E : Nat → Nat → Nat → Prop) (O : Nat → Nat → Prop) (s : XS) : Prop :=
  xr_I (fun t => t < n) A s.2.2.1 s.2.2.2.1 s.2.2.2.2.1 ∧ xr_S (fun t => t < n) E O s.2.2.1 s.2.2.2.1 s.2.2.2.2.1
def xs_eq (s s' : XS) : Prop := s'.1 = s.1 ∧ s'.2.2.1 = s.2.2.1 ∧ s'.2.2.2.1 = s.2.2.2.1 ∧ s'.2.2.2.2.1 = s.2.2.2.2.1
def xs_mu (n : Nat) (s : XS) : Nat := xr_mu n s.2.2.1 s.2.2.2.1 s.2.2.2.2.1
def xs_hi (n : Nat) (s s' : XS) : Prop := ∀ x, n ≤ x → s'.2.2.1 x = s.2.2.1 x ∧ s'.2.2.2.1 x = s.2.2.2.1 x ∧ s'.2.2.2.2.1 x = s.2.2.2.2.1 x
def xs_R (n A : Nat) (s s' : XS) : Prop :=
  xr_le n A s.2.2.1 s.2.2.2.1 s.2.2.2.2.1 s'.2.2.1 s'.2.2.2.1 s'.2.2.2.2.1 ∧ (xs_eq s s' ∨ (s'.1 = 1 ∧ xs_mu n s < xs_mu n s'))
theorem xs_R_rf {n A : Nat} (s : XS) : xs_R n A s s := ⟨⟨fun _ _ _ _ _ _ h => h, fun _ _ _ h => h⟩, Or.inl ⟨rfl, rfl, rfl, rfl⟩⟩
theorem xs_R_eq {n A : Nat} {s s' : XS} (h : xs_eq s s') : xs_R n A s s' := by
  obtain ⟨h0, h1, h2, h3⟩ := h
  refine ⟨?_, Or.inl ⟨h0, h1, h2, h3⟩⟩
  rw [h1, h2, h3]
  exact ⟨fun _ _ _ _ _ _ h => h, fun _ _ _ h => h⟩
theorem xs_eq_tr {s s' s'' : XS} (h : xs_eq s s') (h' : xs_eq s' s'') : xs_eq s s'' := ⟨h'.1.trans h.1, h'.2.1.trans h.2.1, h'.2.2.1.trans h.2.2.1, h'.2.2.2.trans h.2.2.2⟩
theorem xs_R_tr {n A : Nat} {s s' s'' : XS} (h : xs_R n A s s') (h' : xs_R n A s' s'') : xs_R n A s s'' := by
  refine ⟨⟨fun x y c hx hy hc z => h'.1.1 x y c hx hy hc (h.1.1 x y c hx hy hc z), fun x a hx z => h'.1.2 x a hx (h.1.2 x a hx z)⟩, ?_⟩
  rcases h.2 with e | e
  · rcases h'.2 with e' | e'
    · exact Or.inl (xs_eq_tr e e')
    · refine Or.inr ⟨e'.1, ?_⟩
      have : xs_mu n s' = xs_mu n s := by unfold xs_mu; rw [e.2.1, e.2.2.1, e.2.2.2]
      omega
  · rcases h'.2 with e' | e'
    · refine Or.inr ⟨e'.1.trans e.1, ?_⟩
      have : xs_mu n s'' = xs_mu n s' := by unfold xs_mu; rw [e'.2.1, e'.2.2.1, e'.2.2.2]
      omega
    · exact Or.inr ⟨e'.1, by omega⟩
/-- still at the end: still all along -/
theorem xs_R_0 {n A : Nat} {s s' : XS} (h : xs_R n A s s') (z : s'.1 = 0) : xs_eq s s' := by
  rcases h.2 with e | e
  · exact e
  · omega
theorem xs_V_eq {n A : Nat} {E : Nat → Nat → Nat → Prop} {O : Nat → Nat → Prop} {s s' : XS} (h : xs_eq s s') (V : xs_V n A E O s) : xs_V n A E O s' := by
  unfold xs_V; rw [h.2.1, h.2.2.1, h.2.2.2]; exact V
end
section
/-! growing a root's set, putting one root below another -/
theorem xr_lt2 {m A : Nat} (h : ∀ a, m.testBit a = true → a < A) : m < 2 ^ A :=
  Nat.lt_pow_two_of_testBit m fun i hi => gp_nt fun z => by have := h i z; omega
theorem xr_ub {F : Nat → Nat} {r m : Nat} (z a : Nat) (h : (ud F r (F r ||| m) z).testBit a = false) : (F z).testBit a = false := by
  by_cases e : z = r
  · rw [e, ud_s, Nat.testBit_or] at h
    rw [e]
    cases hh : (F r).testBit a
    · rfl
    · rw [hh] at h; exact absurd h (by simp)
  · rw [ud_n e] at h; exact h
theorem xr_ut {F : Nat → Nat} {r m : Nat} (z a : Nat) (h : (F z).testBit a = true) : (ud F r (F r ||| m) z).testBit a = true := gp_nf fun w => by
  rw [xr_ub z a w] at h; exact absurd h (by decide)
theorem xr_nd {m k : Nat} (h : gp_nd m k ≠ 0) : ∃ a, m.testBit a = true ∧ k.testBit a = false := by
  obtain ⟨a, ha⟩ := Nat.exists_testBit_of_ne_zero h
  rw [gp_nd_bit] at ha
  refine ⟨a, ?_, ?_⟩
  · cases hm : m.testBit a
    · rw [hm] at ha; exact absurd ha (by simp)
    · rfl
  · cases hk : k.testBit a
    · rfl
    · rw [hk] at ha; exact absurd ha (by simp)
section
variable {n A : Nat} {E : Nat → Nat → Nat → Prop} {O : Nat → Nat → Prop} {C P F : Nat → Nat} {r m : Nat}
theorem xr_grow (hA : A ≤ 4) (I : xr_I (fun t => t < n) A C P F) (hr : r < n) (hC : C r = r) (hm : ∀ a, m.testBit a = true → a < A) :
    xr_I (fun t => t < n) A C P (ud F r (F r ||| m)) ∧ xr_le n A C P F C P (ud F r (F r ||| m)) ∧ (∀ a, m.testBit a = true → xr_o C P (ud F r (F r ||| m)) r a) ∧ (gp_nd m (F r) ≠ 0 → xr_mu n C P F < xr_mu n C P (ud F r (F r ||| m))) := by
  have Pr : P r = 228 := by have := (I r hr).2.2.1; rw [hC] at this; exact this
  have Fr : F r < 2 ^ A := by have := (I r hr).2.2.2.2; rw [hC] at this; exact this
  have L : xr_le n A C P F C P (ud F r (F r ||| m)) := by
    refine ⟨fun x y c hx hy hc h => ⟨h.1, fun a ha hf => h.2 a ha (xr_ub _ _ hf)⟩, fun x a hx h => ?_⟩
    obtain ⟨b, hb, hf, e⟩ := h
    exact ⟨b, hb, xr_ut _ _ hf, e⟩
  have N : ∀ a, m.testBit a = true → xr_o C P (ud F r (F r ||| m)) r a := fun a ha => by
    have haA := hm a ha
    refine ⟨a, by omega, ?_, ?_⟩
    · rw [hC, ud_s, Nat.testBit_or, ha, Bool.or_true]
    · rw [Pr, gp_id_ap a (by omega)]
  refine ⟨fun x hx => ⟨(I x hx).1, (I x hx).2.1, (I x hx).2.2.1, (I x hx).2.2.2.1, ?_⟩, L, N, fun hn => ?_⟩
  · by_cases e : C x = r
    · rw [e, ud_s]; exact Nat.or_lt_two_pow Fr (xr_lt2 hm)
    · rw [ud_n e]; exact (I x hx).2.2.2.2
  · obtain ⟨a, h1, h2⟩ := xr_nd hn
    have haA := hm a h1
    refine xr_mu_lt L (fun _ _ h => h) (Or.inl ⟨r, a, hr, by omega, ?_, N a h1⟩)
    rintro ⟨b, hb, hf, e⟩
    rw [Pr, gp_id_ap b hb] at e
    rw [hC, e, h2] at hf; exact absurd hf (by decide)
theorem xr_growS (S : xr_S (fun t => t < n) E O C P F) (hm : ∀ a, m.testBit a = true → O r a) : xr_S (fun t => t < n) E O C P (ud F r (F r ||| m)) := by
  refine fun x hx => ⟨(S x hx).1, fun a ha hf => ?_⟩
  by_cases e : C x = r
  · have h2 := (S x hx).2 a ha
    rw [e] at h2 hf ⊢
    rw [ud_s, Nat.testBit_or] at hf
    cases hh : (F r).testBit a
    · rw [hh, Bool.false_or] at hf; exact hm a hf
    · exact h2 hh
  · rw [ud_n e] at hf; exact (S x hx).2 a ha hf
end
def xp_grow (s : XS) (r m : Nat) : XS := if gp_nd m (s.2.2.2.2.1 r) = 0 then s else (1, s.2.1, s.2.2.1, s.2.2.2.1, ud s.2.2.2.2.1 r (s.2.2.2.2.1 r ||| m), s.2.2.2.2.2)
section
variable {n A : Nat} {E : Nat → Nat → Nat → Prop} {O : Nat → Nat → Prop} {s : XS} {r m : Nat}
theorem xp_grow_ok (hA : A ≤ 4) (G : fd_Gd (fun t => t < n) A E O) (V : xs_V n A E O s) (hr : r < n) (hC : s.2.2.1 r = r) (hm : ∀ a, m.testBit a = true → O r a) :
    xs_V n A E O (xp_grow s r m) ∧ xs_R n A s (xp_grow s r m) ∧ (∀ a, m.testBit a = true → xs_o (xp_grow s r m) r a) ∧ (xp_grow s r m).2.2.1 = s.2.2.1 ∧ (xp_grow s r m).2.2.2.1 = s.2.2.2.1 := by
  have hb : ∀ a, m.testBit a = true → a < A := fun a ha => fd_bd G hr (hm a ha)
  obtain ⟨g1, g2, g3, g4⟩ := xr_grow hA V.1 hr hC hb
  unfold xp_grow
  by_cases z : gp_nd m (s.2.2.2.2.1 r) = 0
  · rw [if_pos z]
    refine ⟨V, xs_R_rf s, fun a ha => ?_, rfl, rfl⟩
    have hbA := hb a ha
    have Pr : s.2.2.2.1 r = 228 := by have := (V.1 r hr).2.2.1; rw [hC] at this; exact this
    exact ⟨a, by omega, by rw [hC]; exact gp_nd_0.mp z a ha, by rw [Pr, gp_id_ap a (by omega)]⟩
  · rw [if_neg z]
    exact ⟨⟨g1, xr_growS V.2 hm⟩, ⟨g2, Or.inr ⟨rfl, g4 z⟩⟩, g3, rfl, rfl⟩
end
/-! merging all below root r under root q, where r = m q -/
def xp_mC (n : Nat) (C : Nat → Nat) (r q : Nat) : Nat → Nat := fun x => if x < n ∧ C x = r then q else C x
def xp_mP (n : Nat) (C P : Nat → Nat) (r m : Nat) : Nat → Nat := fun x => if x < n ∧ C x = r then gp_cm (P x) m else P x
def xp_merge (n : Nat) (s : XS) (r m q : Nat) : XS :=
  let s1 := xp_grow (s.1, s.2.1, xp_mC n s.2.2.1 r q, xp_mP n s.2.2.1 s.2.2.2.1 r m, s.2.2.2.2.1, s.2.2.2.2.2) q (gp_im (gp_iv m) (s.2.2.2.2.1 r))
  (1, s1.2)
section
variable {n A : Nat} {E : Nat → Nat → Nat → Prop} {O : Nat → Nat → Prop} {C P F : Nat → Nat} {r m q : Nat}
theorem xp_mC_t {x : Nat} (hx : x < n) (h : C x = r) : xp_mC n C r q x = q := if_pos ⟨hx, h⟩
theorem xp_mC_f {x : Nat} (h : C x ≠ r) : xp_mC n C r q x = C x := if_neg fun z => h z.2
theorem xp_mP_t {x : Nat} (hx : x < n) (h : C x = r) : xp_mP n C P r m x = gp_cm (P x) m := if_pos ⟨hx, h⟩
theorem xp_mP_f {x : Nat} (h : C x ≠ r) : xp_mP n C P r m x = P x := if_neg fun z => h z.2
theorem xr_merge1 (I : xr_I (fun t => t < n) A C P F) (hq : q < n) (hCq : C q = q) (hrq : q ≠ r) (hm : gp_P A m) :
    xr_I (fun t => t < n) A (xp_mC n C r q) (xp_mP n C P r m) F := by
  have Pq : P q = 228 := by have := (I q hq).2.2.1; rw [hCq] at this; exact this
  have Cq : C q ≠ r := by rw [hCq]; exact hrq
  intro x hx
  by_cases e : C x = r
  · rw [xp_mC_t hx e, xp_mP_t hx e, xp_mC_f Cq, xp_mP_f Cq]
    have := (I q hq).2.2.2.2
    rw [hCq] at this
    exact ⟨hq, hCq, Pq, gp_P_cm (I x hx).2.2.2.1 hm, this⟩
  · have e2 : C (C x) ≠ r := by rw [(I x hx).2.1]; exact e
    rw [xp_mC_f e, xp_mP_f e, xp_mC_f e2, xp_mP_f e2]
    exact I x hx
theorem xr_merge2 (I : xr_I (fun t => t < n) A C P F) (hm : gp_P A m) (hrq : q ≠ r) {F' : Nat → Nat} (hF : ∀ z a, (F z).testBit a = true → (F' z).testBit a = true)
    (hI : ∀ a, (gp_im (gp_iv m) (F r)).testBit a = true → (F' q).testBit a = true) : xr_le n A C P F (xp_mC n C r q) (xp_mP n C P r m) F' := by
  constructor
  · rintro x y c hx hy hc ⟨e, h⟩
    by_cases z : C x = r
    · have z' : C y = r := by rw [← e]; exact z
      refine ⟨by rw [xp_mC_t hx z, xp_mC_t hy z'], fun a ha hf => ?_⟩
      rw [xp_mC_t hx z] at hf
      rw [xp_mP_t hx z, xp_mP_t hy z', gp_cm_ap _ _ a ha, gp_cm_ap _ _ a ha]
      refine h _ (gp_ap_lt _ _) (gp_nt fun w => ?_)
      rw [z] at w
      have := hI a (gp_im_bit.mpr ⟨_, gp_ap_lt _ _, w, gp_iv_l hm ha⟩)
      rw [hf] at this; exact absurd this (by decide)
    · have z' : C y ≠ r := by rw [← e]; exact z
      refine ⟨by rw [xp_mC_f z, xp_mC_f z']; exact e, fun a ha hf => ?_⟩
      rw [xp_mC_f z] at hf
      rw [xp_mP_f z, xp_mP_f z']
      refine h a ha (gp_nt fun w => ?_)
      rw [hF _ _ w] at hf; exact absurd hf (by decide)
  · rintro x b hx ⟨a, ha, hf, e⟩
    by_cases z : C x = r
    · rw [z] at hf
      refine ⟨gp_ap (gp_iv m) a, gp_ap_lt _ _, ?_, ?_⟩
      · rw [xp_mC_t hx z]; exact hI _ (gp_im_bit.mpr ⟨a, ha, hf, rfl⟩)
      · rw [xp_mP_t hx z, gp_cm_ap _ _ _ (gp_ap_lt _ _), gp_iv_r hm ha, e]
    · refine ⟨a, ha, ?_, ?_⟩
      · rw [xp_mC_f z]; exact hF _ _ hf
      · rw [xp_mP_f z]; exact e
theorem xr_merge3 (G : fd_Gd (fun t => t < n) A E O) (I : xr_I (fun t => t < n) A C P F) (S : xr_S (fun t => t < n) E O C P F) (hr : r < n) (hCr : C r = r) (hq : q < n) (hCq : C q = q) (hm : gp_P A m) (hE : E r q m) :
    xr_S (fun t => t < n) E O (xp_mC n C r q) (xp_mP n C P r m) F ∧ ∀ a, (gp_im (gp_iv m) (F r)).testBit a = true → O q a := by
  constructor
  · intro x hx
    by_cases z : C x = r
    · rw [xp_mC_t hx z, xp_mP_t hx z]
      have h1 := (S x hx).1
      rw [z] at h1
      have h2 := (S q hq).2
      rw [hCq] at h2
      exact ⟨fd_ml G hx hr hq (I x hx).2.2.2.1 hm h1 hE, h2⟩
    · rw [xp_mC_f z, xp_mP_f z]; exact S x hx
  · intro a ha
    obtain ⟨b, hb, hf, e⟩ := gp_im_bit.mp ha
    have h2 := (S r hr).2 b hb
    have h3 := (I r hr).2.2.2.2
    rw [hCr] at h2 h3
    rw [← e]
    exact fd_tp G hq hr (gp_P_iv hm) (gp_bit_lt h3 hf) (fd_iv G hr hq hm hE) (h2 hf)
end
section
variable {n A : Nat} {E : Nat → Nat → Nat → Prop} {O : Nat → Nat → Prop} {s : XS} {r m q : Nat}
theorem xp_merge_ok (hA : A ≤ 4) (G : fd_Gd (fun t => t < n) A E O) (V : xs_V n A E O s) (hr : r < n) (hCr : s.2.2.1 r = r) (hq : q < n) (hCq : s.2.2.1 q = q) (hrq : q ≠ r) (hm : gp_P A m) (hE : E r q m) :
    xs_V n A E O (xp_merge n s r m q) ∧ xs_R n A s (xp_merge n s r m q) ∧ (xp_merge n s r m q).2.2.1 = xp_mC n s.2.2.1 r q ∧ (xp_merge n s r m q).2.2.2.1 = xp_mP n s.2.2.1 s.2.2.2.1 r m ∧ (xp_merge n s r m q).1 = 1 := by
  have M3 := xr_merge3 G V.1 V.2 hr hCr hq hCq hm hE
  have I1 := xr_merge1 V.1 hq hCq hrq hm
  have Cq' : xp_mC n s.2.2.1 r q q = q := by rw [xp_mC_f (by rw [hCq]; exact hrq)]; exact hCq
  have V1 : xs_V n A E O (s.1, s.2.1, xp_mC n s.2.2.1 r q, xp_mP n s.2.2.1 s.2.2.2.1 r m, s.2.2.2.2.1, s.2.2.2.2.2) := ⟨I1, M3.1⟩
  obtain ⟨g1, g2, g3, g4, g5⟩ := xp_grow_ok hA G V1 hq Cq' M3.2
  have hF : ∀ z a, (s.2.2.2.2.1 z).testBit a = true → ((xp_grow (s.1, s.2.1, xp_mC n s.2.2.1 r q, xp_mP n s.2.2.1 s.2.2.2.1 r m, s.2.2.2.2.1, s.2.2.2.2.2) q (gp_im (gp_iv m) (s.2.2.2.2.1 r))).2.2.2.2.1 z).testBit a = true := by
    intro z a h
    unfold xp_grow
    split
    · exact h
    · exact xr_ut z a h
  have hI : ∀ a, (gp_im (gp_iv m) (s.2.2.2.2.1 r)).testBit a = true → ((xp_grow (s.1, s.2.1, xp_mC n s.2.2.1 r q, xp_mP n s.2.2.1 s.2.2.2.1 r m, s.2.2.2.2.1, s.2.2.2.2.2) q (gp_im (gp_iv m) (s.2.2.2.2.1 r))).2.2.2.2.1 q).testBit a = true := by
    intro a h
    unfold xp_grow
    split
    · rename_i z; exact gp_nd_0.mp z a h
    · show (ud s.2.2.2.2.1 q _ q).testBit a = true
      rw [ud_s, Nat.testBit_or, h, Bool.or_true]
  have L := xr_merge2 V.1 hm hrq hF hI
  have L' : xr_le n A s.2.2.1 s.2.2.2.1 s.2.2.2.2.1 (xp_merge n s r m q).2.2.1 (xp_merge n s r m q).2.2.2.1 (xp_merge n s r m q).2.2.2.2.1 := by
    have e1 : (xp_merge n s r m q).2.2.1 = xp_mC n s.2.2.1 r q := g4
    have e2 : (xp_merge n s r m q).2.2.2.1 = xp_mP n s.2.2.1 s.2.2.2.1 r m := g5
    rw [e1, e2]; exact L
  refine ⟨g1, ⟨L', Or.inr ⟨rfl, xr_mu_lt L' (fun x hx h => ?_) (Or.inr ⟨r, hr, hCr, ?_⟩)⟩⟩, g4, g5, rfl⟩
  · have e1 : (xp_merge n s r m q).2.2.1 = xp_mC n s.2.2.1 r q := g4
    rw [e1]
    by_cases z : s.2.2.1 x = r
    · rw [xp_mC_t hx z]
      intro w
      rw [← w, hCq, w] at z
      rw [← w] at h; exact h hCq
    · rw [xp_mC_f z]; exact h
  · have e1 : (xp_merge n s r m q).2.2.1 = xp_mC n s.2.2.1 r q := g4
    rw [e1, xp_mC_t hr hCr]; exact hrq
end
/-! equating and adding atoms off -/
def xp_at (s : XS) (t p u : Nat) : Nat := gp_cm (gp_cm (gp_iv (s.2.2.2.1 t)) p) (s.2.2.2.1 u)
def xp_equate (n : Nat) (s : XS) (t p u : Nat) : XS :=
  if s.2.2.1 t = s.2.2.1 u then xp_grow s (s.2.2.1 t) (gp_mv (xp_at s t p u)) else xp_merge n s (s.2.2.1 t) (xp_at s t p u) (s.2.2.1 u)
def xp_addOff (s : XS) (t m : Nat) : XS := xp_grow s (s.2.2.1 t) (gp_im (gp_iv (s.2.2.2.1 t)) m)
section
variable {n A : Nat} {E : Nat → Nat → Nat → Prop} {O : Nat → Nat → Prop} {s : XS} {t p u m : Nat}
theorem xp_at_ap {a : Nat} (ha : a < 4) : gp_ap (xp_at s t p u) a = gp_ap (gp_iv (s.2.2.2.1 t)) (gp_ap p (gp_ap (s.2.2.2.1 u) a)) := by
  unfold xp_at
  rw [gp_cm_ap _ _ a ha, gp_cm_ap _ _ _ (gp_ap_lt _ _)]
theorem xp_equate_ok (hA : A ≤ 4) (G : fd_Gd (fun t => t < n) A E O) (V : xs_V n A E O s) (ht : t < n) (hu : u < n) (hp : gp_P A p) (hE : E t u p) :
    xs_V n A E O (xp_equate n s t p u) ∧ xs_R n A s (xp_equate n s t p u) ∧ xs_e (xp_equate n s t p u) t u p := by
  have It := V.1 t ht
  have Iu := V.1 u hu
  have hm : gp_P A (xp_at s t p u) := gp_P_cm (gp_P_cm (gp_P_iv It.2.2.2.1) hp) Iu.2.2.2.1
  have hEr : E (s.2.2.1 t) (s.2.2.1 u) (xp_at s t p u) := by
    have h1 := fd_iv G ht It.1 It.2.2.2.1 (V.2 t ht).1
    have h2 := fd_ml G It.1 ht hu (gp_P_iv It.2.2.2.1) hp h1 hE
    exact fd_ml G It.1 hu Iu.1 (gp_P_cm (gp_P_iv It.2.2.2.1) hp) Iu.2.2.2.1 h2 (V.2 u hu).1
  have key : ∀ a, a < 4 → gp_ap p (gp_ap (s.2.2.2.1 u) a) = gp_ap (s.2.2.2.1 t) (gp_ap (xp_at s t p u) a) := fun a ha => by
    rw [xp_at_ap ha, gp_iv_r It.2.2.2.1 (gp_ap_lt _ _)]
  unfold xp_equate
  by_cases z : s.2.2.1 t = s.2.2.1 u
  · rw [if_pos z]
    rw [← z] at hEr
    have hmv : ∀ a, (gp_mv (xp_at s t p u)).testBit a = true → O (s.2.2.1 t) a := fun a ha => by
      obtain ⟨h1, h2⟩ := gp_mv_bit.mp ha
      exact (fd_st G It.1 hm).mp hEr a h1 h2
    obtain ⟨g1, g2, g3, g4, g5⟩ := xp_grow_ok hA G V It.1 It.2.1 hmv
    refine ⟨g1, g2, ?_⟩
    unfold xs_e xr_e
    rw [g4, g5]
    refine ⟨z, fun a ha hf => ?_⟩
    rw [key a ha]
    have : gp_ap (xp_at s t p u) a = a := Classical.byContradiction fun no => by
      obtain ⟨b, hb, hfb, e⟩ := g3 a (gp_mv_bit.mpr ⟨ha, no⟩)
      rw [g5, It.2.2.1, gp_id_ap b hb] at e
      rw [g4, It.2.1, e, hf] at hfb; exact absurd hfb (by decide)
    rw [this]
  · rw [if_neg z]
    obtain ⟨g1, g2, g4, g5, _⟩ := xp_merge_ok hA G V It.1 It.2.1 Iu.1 Iu.2.1 (fun w => z w.symm) hm hEr
    refine ⟨g1, g2, ?_⟩
    unfold xs_e xr_e
    have zu : s.2.2.1 u ≠ s.2.2.1 t := fun w => z w.symm
    rw [g4, g5, xp_mC_t ht rfl, xp_mC_f zu, xp_mP_t ht rfl, xp_mP_f zu]
    refine ⟨rfl, fun a ha _ => ?_⟩
    rw [key a ha, gp_cm_ap _ _ a ha]
theorem xp_addOff_ok (hA : A ≤ 4) (G : fd_Gd (fun t => t < n) A E O) (V : xs_V n A E O s) (ht : t < n) (hm : ∀ a, m.testBit a = true → O t a) :
    xs_V n A E O (xp_addOff s t m) ∧ xs_R n A s (xp_addOff s t m) ∧ (∀ a, m.testBit a = true → xs_o (xp_addOff s t m) t a) ∧ (xp_addOff s t m).2.2.1 = s.2.2.1 ∧ (xp_addOff s t m).2.2.2.1 = s.2.2.2.1 := by
  have It := V.1 t ht
  have h1 := fd_iv G ht It.1 It.2.2.2.1 (V.2 t ht).1
  have hO : ∀ a, (gp_im (gp_iv (s.2.2.2.1 t)) m).testBit a = true → O (s.2.2.1 t) a := fun a ha => by
    obtain ⟨b, hb, hf, e⟩ := gp_im_bit.mp ha
    rw [← e]
    exact fd_tp G It.1 ht (gp_P_iv It.2.2.2.1) (fd_bd G ht (hm b hf)) h1 (hm b hf)
  obtain ⟨g1, g2, g3, g4, g5⟩ := xp_grow_ok hA G V It.1 It.2.1 hO
  refine ⟨g1, g2, fun a ha => ?_, g4, g5⟩
  have ha4 : a < 4 := by have := fd_bd G ht (hm a ha); omega
  obtain ⟨b, hb, hf, e⟩ := g3 _ (gp_im_bit.mpr ⟨a, ha4, ha, rfl⟩)
  rw [g5, It.2.2.1, gp_id_ap b hb] at e
  unfold xp_addOff xs_o xr_o
  rw [g4, It.2.1] at hf
  refine ⟨b, hb, by rw [g4]; exact hf, ?_⟩
  rw [g5, e, gp_iv_r It.2.2.2.1 ha4]
end
end
section
/-! the component's state over naturals -/
def xt (A mN mD n dc ca : Nat) (kd fs sn th tl cz dk di dj bl : Nat → Nat) (s : XS) : SX :=
  (228, 16, nI A, nI (2 ^ A - 1), nI mN, nI mD, nI n, nI dc, nI ca, nI s.1, nI s.2.1, nA kd, nA fs, nA sn, nA th, nA tl, nA cz, nA dk, nA di, nA dj, nA s.2.2.1, nA s.2.2.2.1, nA s.2.2.2.2.1, nA bl, nA s.2.2.2.2.2)
theorem xw_apply {post : Int32 → Prop} {u : SX} {p a : Nat} (hp : p < 256) (ha : a < 4) (h : post (nI (gp_ap p a))) : wpX_apply post u (nI p) (nI a) := by
  unfold wpX_apply
  show post _
  rw [br_ap p hp a ha]; exact h
theorem xw_trans {post : Int32 → Prop} {u : SX} {a b : Nat} (ha : a < 4) (hb : b < 4) (h : post (nI (gp_tr a b))) : wpX_transposition post u (nI a) (nI b) := by
  unfold wpX_transposition
  exact nm_e (by rw [br_tr a ha b hb]; exact h)
section
variable {f_identity f_ground f_atoms f_allAtoms f_maxNodes f_maxDemands f_nodeCount f_demandCount f_clashAt f_changed f_taken : Int32} {a_kinds a_first a_second a_third a_trial a_closed a_demandKind a_demandI a_demandJ a_cls a_perm a_fresh a_below a_link : Nat → Int32} {post : Int32 → Prop}
theorem xw_compose_s {p q k acc j : Nat} (hp : p < 256) (hq : q < 256) (hk : k < 4) (h : wX_compose_5 post (nI p) (nI q) f_identity f_ground f_atoms f_allAtoms f_maxNodes f_maxDemands f_nodeCount f_demandCount f_clashAt f_changed f_taken a_kinds a_first a_second a_third a_trial a_closed a_demandKind a_demandI a_demandJ a_cls a_perm a_fresh a_below a_link j (nI (acc ||| gp_ap p (gp_ap q k) * 4 ^ k)) (nI (k + 1))) : wX_compose_5 post (nI p) (nI q) f_identity f_ground f_atoms f_allAtoms f_maxNodes f_maxDemands f_nodeCount f_demandCount f_clashAt f_changed f_taken a_kinds a_first a_second a_third a_trial a_closed a_demandKind a_demandI a_demandJ a_cls a_perm a_fresh a_below a_link (j + 1) (nI acc) (nI k) :=
  br_f (nI_ge (b := 4) hk (by decide)) (xw_apply hq hk (xw_apply hp (gp_ap_lt _ _) (nm_r (by rw [br_sh4 _ (gp_ap_lt _ _) _ hk, br_or]) (nm_r (nI_1 k) h))))
theorem xw_compose_5 {p q : Nat} (hp : p < 256) (hq : q < 256) (h : post (nI (gp_cm p q))) : wX_compose_5 post (nI p) (nI q) f_identity f_ground f_atoms f_allAtoms f_maxNodes f_maxDemands f_nodeCount f_demandCount f_clashAt f_changed f_taken a_kinds a_first a_second a_third a_trial a_closed a_demandKind a_demandI a_demandJ a_cls a_perm a_fresh a_below a_link 5 0 0 := by
  refine xw_compose_s (k := 0) (acc := 0) hp hq (by decide) (xw_compose_s (k := 1) hp hq (by decide) (xw_compose_s (k := 2) hp hq (by decide) (xw_compose_s (k := 3) hp hq (by decide) (br_t (nI_le (a := 4) (Nat.le_refl _) (by decide)) ?_))))
  rw [br_mk _ (gp_ap_lt _ _) _ (gp_ap_lt _ _) _ (gp_ap_lt _ _) _ (gp_ap_lt _ _)]; exact h
theorem xw_inverse_s {p k acc j : Nat} (hp : p < 256) (hk : k < 4) (h : wX_inverse_4 post (nI p) f_identity f_ground f_atoms f_allAtoms f_maxNodes f_maxDemands f_nodeCount f_demandCount f_clashAt f_changed f_taken a_kinds a_first a_second a_third a_trial a_closed a_demandKind a_demandI a_demandJ a_cls a_perm a_fresh a_below a_link j (nI (acc ||| k * 4 ^ gp_ap p k)) (nI (k + 1))) : wX_inverse_4 post (nI p) f_identity f_ground f_atoms f_allAtoms f_maxNodes f_maxDemands f_nodeCount f_demandCount f_clashAt f_changed f_taken a_kinds a_first a_second a_third a_trial a_closed a_demandKind a_demandI a_demandJ a_cls a_perm a_fresh a_below a_link (j + 1) (nI acc) (nI k) :=
  br_f (nI_ge (b := 4) hk (by decide)) (xw_apply hp hk (nm_r (by rw [br_sh4 _ hk _ (gp_ap_lt _ _), br_or]) (nm_r (nI_1 k) h)))
theorem xw_inverse_4 {p : Nat} (hp : p < 256) (h : post (nI (gp_iv p))) : wX_inverse_4 post (nI p) f_identity f_ground f_atoms f_allAtoms f_maxNodes f_maxDemands f_nodeCount f_demandCount f_clashAt f_changed f_taken a_kinds a_first a_second a_third a_trial a_closed a_demandKind a_demandI a_demandJ a_cls a_perm a_fresh a_below a_link 5 0 0 := by
  refine xw_inverse_s (k := 0) (acc := 0) hp (by decide) (xw_inverse_s (k := 1) hp (by decide) (xw_inverse_s (k := 2) hp (by decide) (xw_inverse_s (k := 3) hp (by decide) (br_t (nI_le (a := 4) (Nat.le_refl _) (by decide)) ?_))))
  exact h
theorem xw_moved_s {p k acc j : Nat} (hp : p < 256) (hk : k < 4) (h : wX_moved_4 post (nI p) f_identity f_ground f_atoms f_allAtoms f_maxNodes f_maxDemands f_nodeCount f_demandCount f_clashAt f_changed f_taken a_kinds a_first a_second a_third a_trial a_closed a_demandKind a_demandI a_demandJ a_cls a_perm a_fresh a_below a_link j (nI (acc ||| gp_b (gp_ap p k != k) k)) (nI (k + 1))) : wX_moved_4 post (nI p) f_identity f_ground f_atoms f_allAtoms f_maxNodes f_maxDemands f_nodeCount f_demandCount f_clashAt f_changed f_taken a_kinds a_first a_second a_third a_trial a_closed a_demandKind a_demandI a_demandJ a_cls a_perm a_fresh a_below a_link (j + 1) (nI acc) (nI k) := by
  refine br_f (nI_ge (b := 4) hk (by decide)) (xw_apply hp hk ?_)
  by_cases z : gp_ap p k = k
  · refine br_t (by rw [z]) (nm_r (nI_1 k) ?_)
    rw [z] at h
    simp only [bne_self_eq_false, gp_b, Bool.false_eq_true, if_false, Nat.or_zero] at h
    exact h
  · have hz : ¬ nI (gp_ap p k) = nI k := by
      have := gp_ap_lt p k
      rw [br_eq (by omega) (by omega)]; exact z
    refine br_f hz (nm_r ?_ (nm_r (nI_1 k) h))
    rw [br_1 (by omega), br_or, gp_b, if_pos (by rw [bne_iff_ne]; exact z)]
theorem xw_moved_4 {p : Nat} (hp : p < 256) (h : post (nI (gp_mv p))) : wX_moved_4 post (nI p) f_identity f_ground f_atoms f_allAtoms f_maxNodes f_maxDemands f_nodeCount f_demandCount f_clashAt f_changed f_taken a_kinds a_first a_second a_third a_trial a_closed a_demandKind a_demandI a_demandJ a_cls a_perm a_fresh a_below a_link 5 0 0 := by
  refine xw_moved_s (k := 0) (acc := 0) hp (by decide) (xw_moved_s (k := 1) hp (by decide) (xw_moved_s (k := 2) hp (by decide) (xw_moved_s (k := 3) hp (by decide) (br_t (nI_le (a := 4) (Nat.le_refl _) (by decide)) ?_))))
  exact h
theorem xw_image_s {p m k acc j : Nat} (hp : p < 256) (hm : m < 2147483648) (hk : k < 4) (h : wX_image_5 post (nI p) (nI m) f_identity f_ground f_atoms f_allAtoms f_maxNodes f_maxDemands f_nodeCount f_demandCount f_clashAt f_changed f_taken a_kinds a_first a_second a_third a_trial a_closed a_demandKind a_demandI a_demandJ a_cls a_perm a_fresh a_below a_link j (nI (acc ||| gp_b (m.testBit k) (gp_ap p k))) (nI (k + 1))) : wX_image_5 post (nI p) (nI m) f_identity f_ground f_atoms f_allAtoms f_maxNodes f_maxDemands f_nodeCount f_demandCount f_clashAt f_changed f_taken a_kinds a_first a_second a_third a_trial a_closed a_demandKind a_demandI a_demandJ a_cls a_perm a_fresh a_below a_link (j + 1) (nI acc) (nI k) := by
  refine br_f (nI_ge (b := 4) hk (by decide)) ?_
  cases z : m.testBit k
  · refine br_t ((br_bit hm (by omega)).mpr z) (nm_r (nI_1 k) ?_)
    rw [z] at h
    simp only [gp_b, Bool.false_eq_true, if_false, Nat.or_zero] at h
    exact h
  · refine br_f (fun w => by rw [(br_bit hm (by omega)).mp w] at z; exact absurd z (by decide)) (xw_apply hp hk (nm_r ?_ (nm_r (nI_1 k) h)))
    have := gp_ap_lt p k
    rw [br_1 (by omega), br_or, z, gp_b, if_pos rfl]
theorem xw_image_5 {p m : Nat} (hp : p < 256) (hm : m < 2147483648) (h : post (nI (gp_im p m))) : wX_image_5 post (nI p) (nI m) f_identity f_ground f_atoms f_allAtoms f_maxNodes f_maxDemands f_nodeCount f_demandCount f_clashAt f_changed f_taken a_kinds a_first a_second a_third a_trial a_closed a_demandKind a_demandI a_demandJ a_cls a_perm a_fresh a_below a_link 5 0 0 := by
  refine xw_image_s (k := 0) (acc := 0) hp hm (by decide) (xw_image_s (k := 1) hp hm (by decide) (xw_image_s (k := 2) hp hm (by decide) (xw_image_s (k := 3) hp hm (by decide) (br_t (nI_le (a := 4) (Nat.le_refl _) (by decide)) ?_))))
  exact h
end
theorem xw_compose {post : Int32 → Prop} {u : SX} {p q : Nat} (hp : p < 256) (hq : q < 256) (h : post (nI (gp_cm p q))) : wpX_compose post u (nI p) (nI q) := by
  unfold wpX_compose
  exact ⟨5, xw_compose_5 hp hq h⟩
theorem xw_inverse {post : Int32 → Prop} {u : SX} {p : Nat} (hp : p < 256) (h : post (nI (gp_iv p))) : wpX_inverse post u (nI p) := by
  unfold wpX_inverse
  exact ⟨5, xw_inverse_4 hp h⟩
theorem xw_moved {post : Int32 → Prop} {u : SX} {p : Nat} (hp : p < 256) (h : post (nI (gp_mv p))) : wpX_moved post u (nI p) := by
  unfold wpX_moved
  exact ⟨5, xw_moved_4 hp h⟩
theorem xw_image {post : Int32 → Prop} {u : SX} {p m : Nat} (hp : p < 256) (hm : m < 2147483648) (h : post (nI (gp_im p m))) : wpX_image post u (nI p) (nI m) := by
  unfold wpX_image
  exact ⟨5, xw_image_5 hp hm h⟩
end
section
theorem xw_apply' {post : Int32 → Prop} {u : SX} {p a : Nat} {x y : Int32} (ex : x = nI p) (ey : y = nI a) (hp : p < 256) (ha : a < 4) (h : post (nI (gp_ap p a))) : wpX_apply post u x y := by
  subst ex ey; exact xw_apply hp ha h
theorem xw_trans' {post : Int32 → Prop} {u : SX} {a b : Nat} {x y : Int32} (ex : x = nI a) (ey : y = nI b) (ha : a < 4) (hb : b < 4) (h : post (nI (gp_tr a b))) : wpX_transposition post u x y := by
  subst ex ey; exact xw_trans ha hb h
theorem xw_compose' {post : Int32 → Prop} {u : SX} {p q : Nat} {x y : Int32} (ex : x = nI p) (ey : y = nI q) (hp : p < 256) (hq : q < 256) (h : post (nI (gp_cm p q))) : wpX_compose post u x y := by
  subst ex ey; exact xw_compose hp hq h
theorem xw_inverse' {post : Int32 → Prop} {u : SX} {p : Nat} {x : Int32} (ex : x = nI p) (hp : p < 256) (h : post (nI (gp_iv p))) : wpX_inverse post u x := by
  subst ex; exact xw_inverse hp h
theorem xw_moved' {post : Int32 → Prop} {u : SX} {p : Nat} {x : Int32} (ex : x = nI p) (hp : p < 256) (h : post (nI (gp_mv p))) : wpX_moved post u x := by
  subst ex; exact xw_moved hp h
theorem xw_image' {post : Int32 → Prop} {u : SX} {p m : Nat} {x y : Int32} (ex : x = nI p) (ey : y = nI m) (hp : p < 256) (hm : m < 2147483648) (h : post (nI (gp_im p m))) : wpX_image post u x y := by
  subst ex ey; exact xw_image hp hm h
theorem br_nd0 {m k : Nat} (hm : m < 4294967296) : (nI m &&& (nI k ^^^ (-1)) = 0) ↔ gp_nd m k = 0 := by
  have h2 : gp_nd m k ≤ m := Nat.le_of_testBit fun i h => by
    rw [gp_nd_bit] at h
    cases hm : m.testBit i
    · rw [hm] at h; exact absurd h (by simp)
    · rfl
  rw [br_nd hm, show (0 : Int32) = nI 0 from rfl, br_eq (by omega) (by decide)]
theorem gp_pw {A : Nat} (hA : A ≤ 4) : 2 ^ A ≤ 16 := Nat.pow_le_pow_right (n := 2) (by decide) hA
section
variable {A mN mD n dc ca : Nat} {kd fs sn th tl cz dk di dj bl : Nat → Nat}
variable {s : XS}
theorem xw_atRoots {post : Int32 → Prop} {t p u : Nat} {x y z : Int32} (ex : x = nI t) (ey : y = nI p) (ez : z = nI u) (ht : t < 32) (hu : u < 32) (hPt : gp_P A (s.2.2.2.1 t)) (hp : p < 256) (hPu : s.2.2.2.1 u < 256) (h : post (nI (xp_at s t p u))) : wpX_atRoots post (xt A mN mD n dc ca kd fs sn th tl cz dk di dj bl s) x y z := by
  subst ex ey ez
  unfold wpX_atRoots
  exact And.intro (vp_in_nI ht (by decide)) (xw_inverse' (nA_at (by omega)) hPt.1 (xw_compose' rfl rfl (gp_P_iv hPt).1 hp (And.intro (vp_in_nI hu (by decide)) (xw_compose' rfl (nA_at (by omega)) (gp_cm_lt _ _) hPu h))))
theorem xw_between {post : Int32 → Prop} {t u : Nat} {x y : Int32} (ex : x = nI t) (ey : y = nI u) (ht : t < 32) (hu : u < 32) (hPt : s.2.2.2.1 t < 256) (hPu : gp_P A (s.2.2.2.1 u)) (h : post (nI (gp_cm (s.2.2.2.1 t) (gp_iv (s.2.2.2.1 u))))) : wpX_between post (xt A mN mD n dc ca kd fs sn th tl cz dk di dj bl s) x y := by
  subst ex ey
  unfold wpX_between
  exact And.intro (vp_in_nI hu (by decide)) (xw_inverse' (nA_at (by omega)) hPu.1 (And.intro (vp_in_nI ht (by decide)) (xw_compose' (nA_at (by omega)) rfl hPt (gp_P_iv hPu).1 h)))
theorem xw_offs {post : Int32 → Prop} {t : Nat} {x : Int32} (ex : x = nI t) (ht : t < 32) (hP : s.2.2.2.1 t < 256) (hC : s.2.2.1 t < 32) (hF : s.2.2.2.2.1 (s.2.2.1 t) < 2147483648) (h : post (nI (gp_im (s.2.2.2.1 t) (s.2.2.2.2.1 (s.2.2.1 t))))) : wpX_offs post (xt A mN mD n dc ca kd fs sn th tl cz dk di dj bl s) x := by
  subst ex
  unfold wpX_offs
  have e : nA s.2.2.1 (nI t).toNatClampNeg = nI (s.2.2.1 t) := nA_at (by omega)
  refine And.intro (vp_in_nI ht (by decide)) (And.intro (vp_in_nI ht (by decide)) (And.intro ?_ (xw_image' (nA_at (by omega)) (m := s.2.2.2.2.1 (s.2.2.1 t)) ?_ hP hF h)))
  · rw [e]; exact vp_in_nI hC (by decide)
  · rw [e]; exact nA_at (by omega)
theorem xw_grow {post : SX → Prop} {r m : Nat} {x y : Int32} (ex : x = nI r) (ey : y = nI m) (hr : r < 32) (hm : m < 4294967296) (h : post (xt A mN mD n dc ca kd fs sn th tl cz dk di dj bl (xp_grow s r m))) : wpX_grow post (xt A mN mD n dc ca kd fs sn th tl cz dk di dj bl s) x y := by
  subst ex ey
  unfold wpX_grow
  have e : nA s.2.2.2.2.1 (nI r).toNatClampNeg = nI (s.2.2.2.2.1 r) := nA_at (by omega)
  refine And.intro (vp_in_nI hr (by decide)) ?_
  unfold xp_grow at h
  by_cases z : gp_nd m (s.2.2.2.2.1 r) = 0
  · rw [if_pos z] at h
    exact br_t (by rw [e]; exact (br_nd0 hm).mpr z) h
  · rw [if_neg z] at h
    refine br_f (by rw [e]; exact fun w => z ((br_nd0 hm).mp w)) (And.intro (vp_in_nI hr (by decide)) (And.intro (vp_in_nI hr (by decide)) (nm_r (e' := nA (ud s.2.2.2.2.1 r (s.2.2.2.2.1 r ||| m))) ?_ h)))
    rw [e, br_or, nA_ud (by omega)]
theorem xw_addOff {post : SX → Prop} {t m : Nat} {x y : Int32} (ex : x = nI t) (ey : y = nI m) (ht : t < 32) (hC : s.2.2.1 t < 32) (hP : gp_P A (s.2.2.2.1 t)) (hm : m < 2147483648) (h : post (xt A mN mD n dc ca kd fs sn th tl cz dk di dj bl (xp_addOff s t m))) : wpX_addOff post (xt A mN mD n dc ca kd fs sn th tl cz dk di dj bl s) x y := by
  subst ex ey
  unfold wpX_addOff
  have := gp_im_lt (gp_iv (s.2.2.2.1 t)) m
  exact And.intro (vp_in_nI ht (by decide)) (xw_inverse' (nA_at (by omega)) hP.1 (xw_image' rfl rfl (gp_P_iv hP).1 hm (And.intro (vp_in_nI ht (by decide)) (xw_grow (nA_at (by omega)) rfl hC (by omega) h))))
theorem xw_merge_3 {post : SX → Prop} {r m q : Nat} (hn : n ≤ 16) (hr : r < 32) (hq : q < 32) (hm : gp_P A m) (hC : ∀ x, x < n → s.2.2.1 x < 32) (hP : ∀ x, x < n → s.2.2.2.1 x < 256) (hF : s.2.2.2.2.1 r < 16) (h : post (xt A mN mD n dc ca kd fs sn th tl cz dk di dj bl (xp_merge n s r m q))) :
    ∀ d i, i + d = n → wX_merge_3 post (nI r) (nI m) (nI q) 228 16 (nI A) (nI (2 ^ A - 1)) (nI mN) (nI mD) (nI n) (nI dc) (nI ca) (nI s.1) (nI s.2.1) (d + 1) (nI i) (nA kd) (nA fs) (nA sn) (nA th) (nA tl) (nA cz) (nA dk) (nA di) (nA dj) (nA (xp_mC i s.2.2.1 r q)) (nA (xp_mP i s.2.2.1 s.2.2.2.1 r m)) (nA s.2.2.2.2.1) (nA bl) (nA s.2.2.2.2.2) := by
  intro d
  induction d with
  | zero =>
    intro i hi
    have e : i = n := by omega
    subst e
    refine br_t (nI_le (Nat.le_refl _) (by omega)) (xw_inverse' rfl hm.1 (And.intro (vp_in_nI hr (by decide)) (xw_image' (m := s.2.2.2.2.1 r) rfl (nA_at (by omega)) (gp_P_iv hm).1 (by omega) ?_)))
    have := gp_im_lt (gp_iv m) (s.2.2.2.2.1 r)
    exact xw_grow (s := (s.1, s.2.1, xp_mC i s.2.2.1 r q, xp_mP i s.2.2.1 s.2.2.2.1 r m, s.2.2.2.2.1, s.2.2.2.2.2)) rfl rfl hq (by omega) h
  | succ d ih =>
    intro i hi
    have hin : i < n := by omega
    have hCi := hC i hin
    have eC : xp_mC i s.2.2.1 r q i = s.2.2.1 i := if_neg fun z => by omega
    have eP : xp_mP i s.2.2.1 s.2.2.2.1 r m i = s.2.2.2.1 i := if_neg fun z => by omega
    have e : nA (xp_mC i s.2.2.1 r q) (nI i).toNatClampNeg = nI (s.2.2.1 i) := by rw [nA_at (by omega), eC]
    have I := ih (i + 1) (by omega)
    refine br_f (nI_ge hin (by omega)) (And.intro (vp_in_nI (by omega) (by decide)) ?_)
    by_cases z : s.2.2.1 i = r
    · have E1 : xp_mC (i + 1) s.2.2.1 r q = ud (xp_mC i s.2.2.1 r q) i q := by
        funext x; unfold xp_mC ud
        by_cases w : x = i
        · subst w; rw [if_pos ⟨by omega, z⟩, if_pos rfl]
        · rw [if_neg w]; dsimp only
          by_cases v : x < i ∧ s.2.2.1 x = r
          · rw [if_pos v, if_pos ⟨by omega, v.2⟩]
          · rw [if_neg v, if_neg fun y => v ⟨by omega, y.2⟩]
      have E2 : xp_mP (i + 1) s.2.2.1 s.2.2.2.1 r m = ud (xp_mP i s.2.2.1 s.2.2.2.1 r m) i (gp_cm (s.2.2.2.1 i) m) := by
        funext x; unfold xp_mP ud
        by_cases w : x = i
        · subst w; rw [if_pos ⟨by omega, z⟩, if_pos rfl]
        · rw [if_neg w]; dsimp only
          by_cases v : x < i ∧ s.2.2.1 x = r
          · rw [if_pos v, if_pos ⟨by omega, v.2⟩]
          · rw [if_neg v, if_neg fun y => v ⟨by omega, y.2⟩]
      rw [E1, E2] at I
      refine br_t (by rw [e, z]) (And.intro (vp_in_nI (by omega) (by decide)) (nm_r (nA_ud (by omega)) (And.intro (vp_in_nI (by omega) (by decide)) (xw_compose' (p := s.2.2.2.1 i) (by rw [nA_at (by omega), eP]) rfl (hP i hin) hm.1 (And.intro (vp_in_nI (by omega) (by decide)) (nm_r (nA_ud (by omega)) (nm_r (nI_1 i) I)))))))
    · have E1 : xp_mC (i + 1) s.2.2.1 r q = xp_mC i s.2.2.1 r q := by
        funext x; unfold xp_mC
        by_cases v : x < i ∧ s.2.2.1 x = r
        · rw [if_pos v, if_pos ⟨by omega, v.2⟩]
        · rw [if_neg v, if_neg fun y => v ⟨Classical.byContradiction fun w => by
            have : x = i := by omega
            exact z (this ▸ y.2), y.2⟩]
      have E2 : xp_mP (i + 1) s.2.2.1 s.2.2.2.1 r m = xp_mP i s.2.2.1 s.2.2.2.1 r m := by
        funext x; unfold xp_mP
        by_cases v : x < i ∧ s.2.2.1 x = r
        · rw [if_pos v, if_pos ⟨by omega, v.2⟩]
        · rw [if_neg v, if_neg fun y => v ⟨Classical.byContradiction fun w => by
            have : x = i := by omega
            exact z (this ▸ y.2), y.2⟩]
      rw [E1, E2] at I
      exact br_f (by rw [e, br_eq (by omega) (by omega)]; exact z) (nm_r (nI_1 i) I)
theorem xw_merge {post : SX → Prop} {r m q : Nat} {x y z : Int32} (ex : x = nI r) (ey : y = nI m) (ez : z = nI q) (hn : n ≤ 16) (hr : r < 32) (hq : q < 32) (hm : gp_P A m) (hC : ∀ x, x < n → s.2.2.1 x < 32) (hP : ∀ x, x < n → s.2.2.2.1 x < 256) (hF : s.2.2.2.2.1 r < 16) (h : post (xt A mN mD n dc ca kd fs sn th tl cz dk di dj bl (xp_merge n s r m q))) : wpX_merge post (xt A mN mD n dc ca kd fs sn th tl cz dk di dj bl s) x y z := by
  subst ex ey ez
  unfold wpX_merge
  have e1 : xp_mC 0 s.2.2.1 r q = s.2.2.1 := by funext x; exact if_neg fun z => by omega
  have e2 : xp_mP 0 s.2.2.1 s.2.2.2.1 r m = s.2.2.2.1 := by funext x; exact if_neg fun z => by omega
  have I := xw_merge_3 hn hr hq hm hC hP hF h n 0 (by omega)
  rw [e1, e2] at I
  exact ⟨n + 1, I⟩
theorem xw_equate {E : Nat → Nat → Nat → Prop} {O : Nat → Nat → Prop} {post : SX → Prop} {t p u : Nat} {x y z : Int32} (ex : x = nI t) (ey : y = nI p) (ez : z = nI u) (hA : A ≤ 4) (hn : n ≤ 16) (V : xs_V n A E O s) (ht : t < n) (hu : u < n) (hp : gp_P A p) (h : post (xt A mN mD n dc ca kd fs sn th tl cz dk di dj bl (xp_equate n s t p u))) : wpX_equate post (xt A mN mD n dc ca kd fs sn th tl cz dk di dj bl s) x y z := by
  subst ex ey ez
  unfold wpX_equate
  have It := V.1 t ht
  have Iu := V.1 u hu
  have c1 : s.2.2.1 t < n := It.1
  have c2 : s.2.2.1 u < n := Iu.1
  have hm : gp_P A (xp_at s t p u) := gp_P_cm (gp_P_cm (gp_P_iv It.2.2.2.1) hp) Iu.2.2.2.1
  have e1 : nA s.2.2.1 (nI t).toNatClampNeg = nI (s.2.2.1 t) := nA_at (by omega)
  have e2 : nA s.2.2.1 (nI u).toNatClampNeg = nI (s.2.2.1 u) := nA_at (by omega)
  refine xw_atRoots rfl rfl rfl (by omega) (by omega) It.2.2.2.1 hp.1 Iu.2.2.2.1.1 (And.intro (vp_in_nI (by omega) (by decide)) (And.intro (vp_in_nI (by omega) (by decide)) ?_))
  unfold xp_equate at h
  by_cases w : s.2.2.1 t = s.2.2.1 u
  · rw [if_pos w] at h
    have := gp_mv_lt (xp_at s t p u)
    exact br_t (by rw [e1, e2, w]) (xw_moved' rfl hm.1 (And.intro (vp_in_nI (by omega) (by decide)) (xw_grow e1 rfl (by omega) (by omega) h)))
  · rw [if_neg w] at h
    have hF := It.2.2.2.2
    have := gp_pw hA
    refine br_f (by rw [e1, e2, br_eq (by omega) (by omega)]; exact w) (And.intro (vp_in_nI (by omega) (by decide)) (And.intro (vp_in_nI (by omega) (by decide)) (xw_merge e1 rfl e2 hn (by omega) (by omega) hm (fun x hx => ?_) (fun x hx => (V.1 x hx).2.2.2.1.1) (by omega) h)))
    have c : s.2.2.1 x < n := (V.1 x hx).1
    omega
end
end
section
/-! a still pass of the component: its facts are closed -/
def xf (n A : Nat) (kd fs sn : Nat → Nat) (C P F : Nat → Nat) : Prop :=
  (∀ t a, t < n → fd_ow A kd fs sn (xr_o C P F) t a → xr_o C P F t a) ∧
  (∀ t a, t < n → (kd t = 4 ∨ kd t = 5) → xr_o C P F t a → fd_ow A kd fs sn (xr_o C P F) t a) ∧
  (∀ t u, u < t → t < n → kd t = kd u → ((∃ c, gp_P A c ∧ fd_sh kd fs sn (xr_e C P F) (xr_o C P F) t u c) ∨ (C t = C u ∧ (kd t = 4 ∨ kd t = 5))) →
    ∃ p, gp_P A p ∧ fd_sh kd fs sn (xr_e C P F) (xr_o C P F) t u p ∧ xr_e C P F t u p)
theorem fd_sh_rg {kd fs sn : Nat → Nat} {E : Nat → Nat → Nat → Prop} {O : Nat → Nat → Prop} {t u c : Nat} (h : fd_sh kd fs sn E O t u c) : fd_rg kd t ∧ fd_rg kd u := by
  obtain ⟨e, h⟩ := h
  unfold fd_rg
  rcases h with ⟨k, _⟩ | ⟨k, _⟩ | ⟨k, _⟩ | ⟨k, _⟩ <;> omega
section
variable {n A : Nat} {kd fs sn th : Nat → Nat} {C P F : Nat → Nat}
theorem xf_Cl (hA : A ≤ 4) (W : fd_wf n A kd fs sn th) (I : xr_I (fun t => t < n) A C P F) (sw : ∀ t, t < n → kd t = 3 → xr_e C P F t (th t) (gp_tr (fs t) (sn t))) (h : xf n A kd fs sn C P F) :
    fd_Cl n A kd fs sn th (xr_e C P F) (xr_o C P F) := by
  obtain ⟨f1, f2, f3⟩ := h
  have G := xr_Gd hA I
  have K : ∀ t, t < n → fd_K (fun t => t < n) A kd fs sn t := fun t ht => fd_wK W ht
  have dg : ∀ t c, t < n → gp_P A c → fd_sh kd fs sn (xr_e C P F) (xr_o C P F) t t c → xr_e C P F t t c := fun t c ht hc z =>
    (fd_st G ht hc).mpr fun a ha hn => f1 t a ht ((fd_sh_st G hA (K t ht) hc (fd_sh_rg z).1).mp z a ha hn)
  have dg' : ∀ t c, t < n → gp_P A c → (kd t = 4 ∨ kd t = 5) → xr_e C P F t t c → fd_sh kd fs sn (xr_e C P F) (xr_o C P F) t t c := fun t c ht hc k z =>
    (fd_sh_st G hA (K t ht) hc (by unfold fd_rg; omega)).mpr fun a ha hn => f2 t a ht k ((fd_st G ht hc).mp z a ha hn)
  have lo : ∀ t u c, u < t → t < n → gp_P A c → fd_sh kd fs sn (xr_e C P F) (xr_o C P F) t u c → xr_e C P F t u c := fun t u c hu ht hc z => by
    have hun : u < n := by omega
    obtain ⟨p, hp, h1, h2⟩ := f3 t u hu ht z.1 (Or.inl ⟨c, hc, z⟩)
    have P1 := gp_P_cm (gp_P_iv hp) hc
    have s1 := fd_sh_ml G hA (K u hun) (K t ht) (K u hun) (gp_P_iv hp) hc (fd_sh_iv G hA (K t ht) (K u hun) hp h1) z
    have s2 := fd_ml G ht hun hun hp P1 h2 (dg u _ hun P1 s1)
    rw [gp_kl hp hc.1] at s2; exact s2
  have lo' : ∀ t u c, u < t → t < n → gp_P A c → (kd t = 4 ∨ kd t = 5) → kd t = kd u → xr_e C P F t u c → fd_sh kd fs sn (xr_e C P F) (xr_o C P F) t u c := fun t u c hu ht hc k e z => by
    have hun : u < n := by omega
    obtain ⟨p, hp, h1, h2⟩ := f3 t u hu ht e (Or.inr ⟨z.1, k⟩)
    have P1 := gp_P_cm (gp_P_iv hp) hc
    have s1 := fd_ml G hun ht hun (gp_P_iv hp) hc (fd_iv G ht hun hp h2) z
    have s2 := fd_sh_ml G hA (K t ht) (K u hun) (K u hun) hp P1 h1 (dg' u _ hun P1 (by omega) s1)
    rw [gp_kl hp hc.1] at s2; exact s2
  refine ⟨G, sw, fun t u c ht hu hc z => ?_, fun t u c ht hu hc k e z => ?_, f1, f2⟩
  · rcases Nat.lt_trichotomy u t with w | w | w
    · exact lo t u c w ht hc z
    · subst w; exact dg u c hu hc z
    · have s1 := lo u t _ w hu (gp_P_iv hc) (fd_sh_iv G hA (K t ht) (K u hu) hc z)
      have s2 := fd_iv G hu ht (gp_P_iv hc) s1
      rw [gp_viv hc] at s2; exact s2
  · rcases Nat.lt_trichotomy u t with w | w | w
    · exact lo' t u c w ht hc k e z
    · subst w; exact dg' u c hu hc k z
    · have s1 := lo' u t _ w hu (gp_P_iv hc) (by omega) e.symm (fd_iv G ht hu hc z)
      have s2 := fd_sh_iv G hA (K u hu) (K t ht) (gp_P_iv hc) s1
      rw [gp_viv hc] at s2; exact s2
/-- agreement with one permutation where atoms are not off -/
theorem xr_bt (hA : A ≤ 4) {D : Nat → Prop} (I : xr_I D A C P F) {x y : Nat} (hx : D x) (hy : D y) (e : C x = C y) : gp_P A (gp_cm (P x) (gp_iv (P y))) ∧ xr_e C P F x y (gp_cm (P x) (gp_iv (P y))) := by
  have Px := (I x hx).2.2.2.1
  have Py := (I y hy).2.2.2.1
  refine ⟨gp_P_cm Px (gp_P_iv Py), e, fun a ha _ => ?_⟩
  rw [gp_cm_ap _ _ _ (gp_ap_lt _ _), gp_iv_l Py ha]
theorem xr_ag (hA : A ≤ 4) {D : Nat → Prop} (I : xr_I D A C P F) {x y c : Nat} (hx : D x) (hy : D y) (e : C x = C y) (hc : gp_P A c) :
    xr_e C P F x y c ↔ ∀ a, a < A → ¬ xr_o C P F y a → gp_ap c a = gp_ap (gp_cm (P x) (gp_iv (P y))) a := by
  have G := xr_Gd hA I
  obtain ⟨b1, b2⟩ := xr_bt hA I hx hy e
  constructor
  · exact fun z a ha hn => fd_sm G hx hy hc b1 z b2 (by omega) hn
  · intro z
    refine fd_ag G hx hy hc b1 b2 fun f hf hn => ?_
    rcases Nat.lt_or_ge f A with w | w
    · exact z f w hn
    · rw [hc.2.2 f hf w, b1.2.2 f hf w]
end
end
section
/-! injections of some atoms -/
def xl_I (A tk : Nat) (L : Nat → Nat) : Prop :=
  tk < 16 ∧ (∀ a, a < 4 → L a = 4294967295 ∨ (a < A ∧ L a < A)) ∧ (∀ a b, a < 4 → b < 4 → L a = L b → L a ≠ 4294967295 → a = b) ∧ (∀ b, b < 4 → (tk.testBit b = true ↔ ∃ a, a < 4 ∧ L a = b))
def xl_X (L : Nat → Nat) (c : Nat) : Prop := ∀ a, a < 4 → L a ≠ 4294967295 → gp_ap c a = L a
def xl_Q (A : Nat) (L : Nat → Nat) (Q : Nat → Prop) (r : Int32) (tk' : Nat) (L' : Nat → Nat) : Prop :=
  (r = 1 ∧ xl_I A tk' L' ∧ ∀ c, gp_P A c → (xl_X L' c ↔ xl_X L c ∧ Q c)) ∨ (r = 0 ∧ ∀ c, gp_P A c → xl_X L c → ¬ Q c)
def xl_f (tk : Nat) (L : Nat → Nat) (a b : Nat) : Nat × Nat × (Nat → Nat) :=
  if L a = 4294967295 then (if tk.testBit b = true then (0, tk, L) else (1, tk ||| 2 ^ b, ud L a b)) else (if L a = b then 1 else 0, tk, L)
theorem xl_f_set {A tk a b : Nat} {L : Nat → Nat} (hA : A ≤ 4) (I : xl_I A tk L) (ha : a < A) (hb : b < A) (h1 : L a = 4294967295) (h2 : tk.testBit b = false) : xl_I A (tk ||| 2 ^ b) (ud L a b) := by
  obtain ⟨i1, i2, i3, i4⟩ := I
  have nb : ∀ i, i < 4 → L i ≠ b := fun i hi z => by
    have := (i4 b (by omega)).mpr ⟨i, hi, z⟩
    rw [h2] at this; exact absurd this (by decide)
  refine ⟨Nat.or_lt_two_pow (n := 4) i1 (Nat.pow_lt_pow_right (by decide) (by omega)), fun i hi => ?_, fun i j hi hj e hn => ?_, fun d hd => ?_⟩
  · by_cases z : i = a
    · rw [z, ud_s]; exact Or.inr ⟨ha, hb⟩
    · rw [ud_n z]; exact i2 i hi
  · by_cases z : i = a
    · by_cases w : j = a
      · omega
      · rw [z, ud_s, ud_n w] at e; exact absurd e.symm (nb j hj)
    · by_cases w : j = a
      · rw [w, ud_s, ud_n z] at e; exact absurd e (nb i hi)
      · rw [ud_n z] at e hn; rw [ud_n w] at e; exact i3 i j hi hj e hn
  · rw [Nat.testBit_or, Bool.or_eq_true, i4 d hd, Nat.testBit_two_pow, decide_eq_true_eq]
    constructor
    · rintro (⟨i, hi, e⟩ | e)
      · refine ⟨i, hi, ?_⟩
        rw [ud_n (fun z => by rw [z, h1] at e; omega)]; exact e
      · exact ⟨a, by omega, by rw [ud_s]; exact e⟩
    · rintro ⟨i, hi, e⟩
      by_cases z : i = a
      · rw [z, ud_s] at e; exact Or.inr e
      · rw [ud_n z] at e; exact Or.inl ⟨i, hi, e⟩
theorem xl_f_Q {A tk a b : Nat} {L : Nat → Nat} (hA : A ≤ 4) (I : xl_I A tk L) (ha : a < A) (hb : b < A) : xl_Q A L (fun c => gp_ap c a = b) (nI (xl_f tk L a b).1) (xl_f tk L a b).2.1 (xl_f tk L a b).2.2 := by
  unfold xl_f
  by_cases h1 : L a = 4294967295
  · rw [if_pos h1]
    by_cases h2 : tk.testBit b = true
    · rw [if_pos h2]
      refine Or.inr ⟨rfl, fun c hc hx z => ?_⟩
      obtain ⟨i, hi, e⟩ := (I.2.2.2 b (by omega)).mp h2
      have e2 := hx i hi (by omega)
      have e3 := gp_inj hc hi (by omega) (e2.trans (e.trans z.symm))
      rw [e3] at e; omega
    · rw [if_neg h2]; dsimp only
      refine Or.inl ⟨rfl, xl_f_set hA I ha hb h1 (gp_nt h2), fun c hc => ⟨fun hx => ⟨fun i hi hn => ?_, ?_⟩, fun hx i hi hn => ?_⟩⟩
      · have z : i ≠ a := fun z => by rw [z] at hn; exact hn h1
        have := hx i hi
        rw [ud_n z] at this; exact this hn
      · have := hx a (by omega)
        rw [ud_s] at this; exact this (by omega)
      · by_cases z : i = a
        · rw [z, ud_s]; exact hx.2
        · rw [ud_n z] at hn ⊢; exact hx.1 i hi hn
  · rw [if_neg h1]
    by_cases h2 : L a = b
    · rw [if_pos h2]
      exact Or.inl ⟨rfl, I, fun c hc => ⟨fun hx => ⟨hx, (hx a (by omega) h1).trans h2⟩, fun hx => hx.1⟩⟩
    · rw [if_neg h2]
      exact Or.inr ⟨rfl, fun c hc hx z => h2 ((hx a (by omega) h1).symm.trans z)⟩
theorem xl_pg {A tk a : Nat} {L : Nat → Nat} (hA : yp_A A) (I : xl_I A tk L) (ha : a < A) (h : L a = 4294967295) (ht : ∀ b, b < A → tk.testBit b = true) : False := by
  obtain ⟨i1, i2, i3, i4⟩ := I
  have hA4 := yp_A4 hA
  have g : ∀ b, b < A → ∃ i, i < A ∧ i ≠ a ∧ L i = b := fun b hb => by
    obtain ⟨i, hi, e⟩ := (i4 b (by omega)).mp (ht b hb)
    refine ⟨i, ?_, fun z => by rw [z] at e; omega, e⟩
    rcases i2 i hi with z | z
    · omega
    · exact z.1
  have ne : ∀ i j b d, L i = b → L j = d → b ≠ d → i ≠ j := fun i j b d h1 h2 h3 z => by rw [z] at h1; omega
  rcases hA with e | e | e <;> subst e
  · obtain ⟨j0, a0, b0, c0⟩ := g 0 (by decide)
    obtain ⟨j1, a1, b1, c1⟩ := g 1 (by decide)
    have n01 := ne _ _ _ _ c0 c1 (by decide)
    omega
  · obtain ⟨j0, a0, b0, c0⟩ := g 0 (by decide)
    obtain ⟨j1, a1, b1, c1⟩ := g 1 (by decide)
    obtain ⟨j2, a2, b2, c2⟩ := g 2 (by decide)
    have n01 := ne _ _ _ _ c0 c1 (by decide)
    have n02 := ne _ _ _ _ c0 c2 (by decide)
    have n12 := ne _ _ _ _ c1 c2 (by decide)
    clear c0 c1 c2 ne g i1 i2 i3 i4 ht h
    omega
  · obtain ⟨j0, a0, b0, c0⟩ := g 0 (by decide)
    obtain ⟨j1, a1, b1, c1⟩ := g 1 (by decide)
    obtain ⟨j2, a2, b2, c2⟩ := g 2 (by decide)
    obtain ⟨j3, a3, b3, c3⟩ := g 3 (by decide)
    have n01 := ne _ _ _ _ c0 c1 (by decide)
    have n02 := ne _ _ _ _ c0 c2 (by decide)
    have n03 := ne _ _ _ _ c0 c3 (by decide)
    have n12 := ne _ _ _ _ c1 c2 (by decide)
    have n13 := ne _ _ _ _ c1 c3 (by decide)
    have n23 := ne _ _ _ _ c2 c3 (by decide)
    clear c0 c1 c2 c3 ne g i1 i2 i3 i4 ht h
    omega
/-- one digit set -/
def xl_sd (p a v : Nat) : Nat := gp_mk (if 0 = a then v else gp_ap p 0) (if 1 = a then v else gp_ap p 1) (if 2 = a then v else gp_ap p 2) (if 3 = a then v else gp_ap p 3)
theorem xl_sd_br : ∀ p, p < 256 → ∀ a, a < 4 → ∀ v, v < 4 → (nI p &&& (((3 : Int32) <<< ((2 * nI a) &&& 31)) ^^^ (-1))) ||| ((nI v &&& 3) <<< ((2 * nI a) &&& 31)) = nI (xl_sd p a v) := by decide +kernel
theorem xl_sd_ap {p a v : Nat} (hv : v < 4) : ∀ i, i < 4 → gp_ap (xl_sd p a v) i = if i = a then v else gp_ap p i := by
  refine gp_mk_f (f := fun i => if i = a then v else gp_ap p i) fun i hi => ?_
  split
  · exact hv
  · exact gp_ap_lt _ _
theorem xl_sd_lt {p a v : Nat} (hv : v < 4) : xl_sd p a v < 256 := by
  refine gp_mk_lt ?_ ?_ ?_ ?_ <;> (split; exact hv; exact gp_ap_lt _ _)
section
variable {A mN mD n dc ca : Nat} {kd fs sn th tl cz dk di dj bl : Nat → Nat}
variable {ch tk : Nat} {C P F L : Nat → Nat}
theorem xw_force {post : Int32 → SX → Prop} {a b : Nat} {x y : Int32} (ex : x = nI a) (ey : y = nI b) (ha : a < 4) (hb : b < 4) (htk : tk < 16) (hL : L a < 4294967296) (h : post (nI (xl_f tk L a b).1) (xt A mN mD n dc ca kd fs sn th tl cz dk di dj bl (ch, (xl_f tk L a b).2.1, C, P, F, (xl_f tk L a b).2.2))) : wpX_force post (xt A mN mD n dc ca kd fs sn th tl cz dk di dj bl (ch, tk, C, P, F, L)) x y := by
  subst ex ey
  unfold wpX_force
  have e : nA L (nI a).toNatClampNeg = nI (L a) := nA_at (by omega)
  refine And.intro (vp_in_nI ha (by decide)) ?_
  unfold xl_f at h
  by_cases h1 : L a = 4294967295
  · rw [if_pos h1] at h
    refine br_t (by show nA L (nI a).toNatClampNeg = -1; rw [e, h1]; exact br_m1.symm) ?_
    by_cases h2 : tk.testBit b = true
    · rw [if_pos h2] at h
      exact br_f (fun z => by rw [(br_bit (m := tk) (by omega) (by omega)).mp z] at h2; exact absurd h2 (by decide)) h
    · rw [if_neg h2] at h
      exact br_t ((br_bit (m := tk) (by omega) (by omega)).mpr (gp_nt h2)) (And.intro (vp_in_nI ha (by decide)) (nm_r (nA_ud (by omega)) (nm_r (by rw [br_1 (by omega)]; exact br_or _ _) h)))
  · rw [if_neg h1] at h
    refine br_f (by show ¬ nA L (nI a).toNatClampNeg = -1; rw [e, br_m1, br_eq hL (by decide)]; exact h1) (And.intro (vp_in_nI ha (by decide)) ?_)
    by_cases h2 : L a = b
    · rw [if_pos h2] at h
      exact br_t (by show nA L (nI a).toNatClampNeg = nI b; rw [e, h2]) h
    · rw [if_neg h2] at h
      exact br_f (by show ¬ nA L (nI a).toNatClampNeg = nI b; rw [e, br_eq hL (by omega)]; exact h2) h
theorem xw_clear {post : SX → Prop} (h : post (xt A mN mD n dc ca kd fs sn th tl cz dk di dj bl (ch, 0, C, P, F, fun i => if i < 4 then 4294967295 else L i))) : wpX_clearLinks post (xt A mN mD n dc ca kd fs sn th tl cz dk di dj bl (ch, tk, C, P, F, L)) := by
  unfold wpX_clearLinks
  refine ⟨5, ?_⟩
  have st : ∀ k j (L' : Nat → Nat), k < 4 → wX_clearLinks_7 post 228 16 (nI A) (nI (2 ^ A - 1)) (nI mN) (nI mD) (nI n) (nI dc) (nI ca) (nI ch) 0 j (nI (k + 1)) (nA kd) (nA fs) (nA sn) (nA th) (nA tl) (nA cz) (nA dk) (nA di) (nA dj) (nA C) (nA P) (nA F) (nA bl) (nA (ud L' k 4294967295)) → wX_clearLinks_7 post 228 16 (nI A) (nI (2 ^ A - 1)) (nI mN) (nI mD) (nI n) (nI dc) (nI ca) (nI ch) 0 (j + 1) (nI k) (nA kd) (nA fs) (nA sn) (nA th) (nA tl) (nA cz) (nA dk) (nA di) (nA dj) (nA C) (nA P) (nA F) (nA bl) (nA L') := fun k j L' hk hh =>
    br_f (nI_ge (b := 4) hk (by decide)) (And.intro (vp_in_nI hk (by decide)) (nm_r (by rw [br_m1]; exact nA_ud (by omega)) (nm_r (nI_1 k) hh)))
  refine st 0 4 L (by decide) (st 1 3 _ (by decide) (st 2 2 _ (by decide) (st 3 1 _ (by decide) (br_t (nI_le (a := 4) (Nat.le_refl _) (by decide)) ?_))))
  have e : ud (ud (ud (ud L 0 4294967295) (0 + 1) 4294967295) (1 + 1) 4294967295) (2 + 1) 4294967295 = fun i => if i < 4 then 4294967295 else L i := by
    funext i
    unfold ud
    by_cases h : i < 4
    · rw [if_pos h]
      rcases (by omega : i = 0 ∨ i = 1 ∨ i = 2 ∨ i = 3) with z | z | z | z <;> subst z <;> rfl
    · rw [if_neg h, if_neg (by omega), if_neg (by omega), if_neg (by omega), if_neg (by omega)]
  rw [e]; exact h
theorem xl_I0 (hA : A ≤ 4) : xl_I A 0 (fun i => if i < 4 then 4294967295 else L i) := by
  refine ⟨by decide, fun a ha => Or.inl (if_pos ha), fun a b ha hb e hn => absurd (if_pos ha) hn, fun b hb => ?_⟩
  rw [Nat.zero_testBit]
  constructor
  · intro h; exact absurd h (by decide)
  · rintro ⟨a, ha, e⟩
    dsimp only at e
    rw [if_pos ha] at e; omega
end
end
section
section
variable {A mN mD n dc ca : Nat} {kd fs sn th tl cz dk di dj bl : Nat → Nat}
variable {ch tk : Nat} {C P F L : Nat → Nat}
theorem xw_fa34 {post : Int32 → SX → Prop} {m w : Nat} (hA : A ≤ 4) (I : xl_I A tk L) (hm : gp_P A m) (hw : w < 16) (h : ∀ r tk' L', xl_Q A L (fun c => ∀ a, a < A → w.testBit a = false → gp_ap c a = gp_ap m a) r tk' L' → post r (xt A mN mD n dc ca kd fs sn th tl cz dk di dj bl (ch, tk', C, P, F, L'))) :
    ∃ n34 : Nat, wX_forceAlong_34 post (nI m) (nI w) n34 0 228 16 (nI A) (nI (2 ^ A - 1)) (nI mN) (nI mD) (nI n) (nI dc) (nI ca) (nI (ch)) (nI (tk)) (nA kd) (nA fs) (nA sn) (nA th) (nA tl) (nA cz) (nA dk) (nA di) (nA dj) (nA (C)) (nA (P)) (nA (F)) (nA bl) (nA (L)) := by
  refine loop_0 (fun k i (st : Nat × (Nat → Nat)) => wX_forceAlong_34 post (nI m) (nI w) k (nI i) 228 16 (nI A) (nI (2 ^ A - 1)) (nI mN) (nI mD) (nI n) (nI dc) (nI ca) (nI (ch)) (nI (st.1)) (nA kd) (nA fs) (nA sn) (nA th) (nA tl) (nA cz) (nA dk) (nA di) (nA dj) (nA (C)) (nA (P)) (nA (F)) (nA bl) (nA (st.2))) (fun i st => xl_I A st.1 st.2 ∧ ∀ c, gp_P A c → (xl_X st.2 c ↔ xl_X L c ∧ ∀ a, a < i → w.testBit a = false → gp_ap c a = gp_ap m a)) A (tk, L) ⟨I, fun c hc => ⟨fun z => ⟨z, fun a ha => by omega⟩, fun z => z.1⟩⟩ ?_ ?_
  · rintro k st ⟨J1, J2⟩
    exact br_t (nI_le (Nat.le_refl _) (by omega)) (h 1 st.1 st.2 (Or.inl ⟨rfl, J1, J2⟩))
  · rintro k i st hi ⟨J1, J2⟩ next
    refine br_f (nI_ge hi (by omega)) (xw_apply' rfl rfl hm.1 (by omega) ?_)
    cases z : w.testBit i
    · have hl : st.2 i < 4294967296 := by
        rcases J1.2.1 i (by omega) with e | e <;> omega
      have Q := xl_f_Q hA J1 hi (gp_ltA hm (by omega) hi)
      refine br_t ((br_bit (m := w) (by omega) (by omega)).mpr z) (xw_force rfl rfl (by omega) (gp_ap_lt _ _) J1.1 hl ?_)
      rcases Q with ⟨e, J1', J2'⟩ | ⟨e, J2'⟩
      · refine br_f (by rw [e]; decide) (nm_r (nI_1 i) (next ((xl_f st.1 st.2 i (gp_ap m i)).2) ⟨J1', fun c hc => ?_⟩))
        rw [J2' c hc, J2 c hc]
        constructor
        · rintro ⟨⟨a1, a2⟩, a3⟩
          refine ⟨a1, fun a ha hf => ?_⟩
          by_cases w' : a = i
          · rw [w']; exact a3
          · exact a2 a (by omega) hf
        · rintro ⟨a1, a2⟩
          exact ⟨⟨a1, fun a ha hf => a2 a (by omega) hf⟩, a2 i (by omega) z⟩
      · exact br_t e (h 0 _ _ (Or.inr ⟨rfl, fun c hc hx hq => J2' c hc ((J2 c hc).mpr ⟨hx, fun a ha hf => hq a (by omega) hf⟩) (hq i hi z)⟩))
    · refine br_f (fun y => by rw [(br_bit (m := w) (by omega) (by omega)).mp y] at z; exact absurd z (by decide)) (nm_r (nI_1 i) (next st ⟨J1, fun c hc => ?_⟩))
      rw [J2 c hc]
      constructor
      · rintro ⟨a1, a2⟩
        refine ⟨a1, fun a ha hf => ?_⟩
        by_cases w' : a = i
        · rw [w', z] at hf; exact absurd hf (by decide)
        · exact a2 a (by omega) hf
      · rintro ⟨a1, a2⟩
        exact ⟨a1, fun a ha hf => a2 a (by omega) hf⟩
theorem xw_forceAlong {D : Nat → Prop} {post : Int32 → SX → Prop} {x y : Nat} {vx vy : Int32} (ex : vx = nI x) (ey : vy = nI y) (hA : A ≤ 4) (hD : ∀ x, D x → x < 32) (R : xr_I D A C P F) (I : xl_I A tk L) (hx : D x) (hy : D y) (h : ∀ r tk' L', xl_Q A L (fun c => xr_e C P F x y c) r tk' L' → post r (xt A mN mD n dc ca kd fs sn th tl cz dk di dj bl (ch, tk', C, P, F, L'))) :
    wpX_forceAlong post (xt A mN mD n dc ca kd fs sn th tl cz dk di dj bl (ch, tk, C, P, F, L)) vx vy := by
  subst ex ey
  unfold wpX_forceAlong
  have Rx := R x hx
  have Ry := R y hy
  have bx := hD x hx
  have bY := hD y hy
  have cx := hD _ Rx.1
  have cy := hD _ Ry.1
  have := gp_pw hA
  have fy := Ry.2.2.2.2
  have e1 : nA C (nI x).toNatClampNeg = nI (C x) := nA_at (by omega)
  have e2 : nA C (nI y).toNatClampNeg = nI (C y) := nA_at (by omega)
  refine And.intro (vp_in_nI bx (by decide)) (And.intro (vp_in_nI bY (by decide)) ?_)
  by_cases e : C x = C y
  · obtain ⟨m1, m2⟩ := xr_bt hA R hx hy e
    refine br_t (by show nA C _ = nA C _; rw [e1, e2, e]) (xw_between rfl rfl bx bY Rx.2.2.2.1.1 Ry.2.2.2.1 (xw_offs rfl bY Ry.2.2.2.1.1 cy (by show F (C y) < _; omega) ?_))
    refine xw_fa34 hA I m1 (gp_im_lt _ _) fun r tk' L' Q => h r tk' L' ?_
    have key : ∀ c, gp_P A c → ((∀ a, a < A → (gp_im (P y) (F (C y))).testBit a = false → gp_ap c a = gp_ap (gp_cm (P x) (gp_iv (P y))) a) ↔ xr_e C P F x y c) := fun c hc => by
      rw [xr_ag hA R hx hy e hc]
      constructor
      · exact fun z a ha hn => z a ha (gp_nt fun w => hn (xr_om.mpr w))
      · exact fun z a ha hn => z a ha fun w => by rw [xr_om.mp w] at hn; exact absurd hn (by decide)
    rcases Q with ⟨q1, q2, q3⟩ | ⟨q1, q2⟩
    · exact Or.inl ⟨q1, q2, fun c hc => by rw [q3 c hc]; exact and_congr_right fun _ => key c hc⟩
    · exact Or.inr ⟨q1, fun c hc hx z => q2 c hc hx ((key c hc).mpr z)⟩
  · exact br_f (by show ¬ nA C _ = nA C _; rw [e1, e2, br_eq (by omega) (by omega)]; exact e) (h 0 tk L (Or.inr ⟨rfl, fun c hc hx z => e z.1⟩))
theorem xw_c16 {post : Int32 → SX → Prop} {J6 : Int32 → Int32 → Int32 → Int32 → Int32 → Int32 → Int32 → Int32 → Int32 → Int32 → Int32 → Int32 → Int32 → (Nat → Int32) → (Nat → Int32) → (Nat → Int32) → (Nat → Int32) → (Nat → Int32) → (Nat → Int32) → (Nat → Int32) → (Nat → Int32) → (Nat → Int32) → (Nat → Int32) → (Nat → Int32) → (Nat → Int32) → (Nat → Int32) → (Nat → Int32) → Prop} {p a : Nat} (hA : yp_A A) (I : xl_I A tk L) (hp : p < 256) (ha : a < A)
    (h : ∀ tk' L', xl_I A tk' L' → (∀ i, i < 4 → L i ≠ 4294967295 → L' i = L i) → L' a ≠ 4294967295 → J6 (nI (xl_sd p a (L' a))) (nI (a + 1)) 228 16 (nI A) (nI (2 ^ A - 1)) (nI mN) (nI mD) (nI n) (nI dc) (nI ca) (nI (ch)) (nI (tk')) (nA kd) (nA fs) (nA sn) (nA th) (nA tl) (nA cz) (nA dk) (nA di) (nA dj) (nA (C)) (nA (P)) (nA (F)) (nA bl) (nA (L'))) :
    ∃ n16 : Nat, wX_complete_16 post J6 (nI p) (nI a) n16 0 228 16 (nI A) (nI (2 ^ A - 1)) (nI mN) (nI mD) (nI n) (nI dc) (nI ca) (nI (ch)) (nI (tk)) (nA kd) (nA fs) (nA sn) (nA th) (nA tl) (nA cz) (nA dk) (nA di) (nA dj) (nA (C)) (nA (P)) (nA (F)) (nA bl) (nA (L)) := by
  have hA4 := yp_A4 hA
  refine loop_0 (fun k i (st : Nat × (Nat → Nat)) => wX_complete_16 post J6 (nI p) (nI a) k (nI i) 228 16 (nI A) (nI (2 ^ A - 1)) (nI mN) (nI mD) (nI n) (nI dc) (nI ca) (nI (ch)) (nI (st.1)) (nA kd) (nA fs) (nA sn) (nA th) (nA tl) (nA cz) (nA dk) (nA di) (nA dj) (nA (C)) (nA (P)) (nA (F)) (nA bl) (nA (st.2))) (fun b st => xl_I A st.1 st.2 ∧ (∀ i, i < 4 → L i ≠ 4294967295 → st.2 i = L i) ∧ (st.2 a ≠ 4294967295 ∨ (L a = 4294967295 ∧ st = (tk, L) ∧ ∀ b', b' < b → tk.testBit b' = true))) A (tk, L) ⟨I, fun _ _ _ => rfl, ?_⟩ ?_ ?_
  · by_cases z : L a = 4294967295
    · exact Or.inr ⟨z, rfl, fun b hb => by omega⟩
    · exact Or.inl z
  · rintro k st ⟨J1, J2, J3⟩
    have J4 : st.2 a ≠ 4294967295 := by
      rcases J3 with z | ⟨z1, z2, z3⟩
      · exact z
      · exact absurd (xl_pg hA I ha z1 z3) id
    have hv : st.2 a < 4 := by
      rcases J1.2.1 a (by omega) with z | z
      · exact absurd z J4
      · omega
    refine br_t (nI_le (Nat.le_refl _) (by omega)) (And.intro (vp_in_nI (by omega) (by decide)) (nm_r ?_ (nm_r (nI_1 a) (h st.1 st.2 J1 J2 J4))))
    rw [nA_at (by omega), xl_sd_br p hp a (by omega) _ hv]
  · rintro k i st hi ⟨J1, J2, J3⟩ next
    have hl : st.2 a < 4294967296 := by
      rcases J1.2.1 a (by omega) with e | e <;> omega
    have e : nA st.2 (nI a).toNatClampNeg = nI (st.2 a) := nA_at (by omega)
    refine br_f (nI_ge hi (by omega)) (And.intro (vp_in_nI (by omega) (by decide)) ?_)
    by_cases z : st.2 a = 4294967295
    · refine br_t (by rw [e, z]; exact br_m1.symm) (xw_force rfl rfl (by omega) (by omega) J1.1 hl (nm_r (nI_1 i) (next (xl_f st.1 st.2 a i).2 ?_)))
      obtain ⟨z1, z2, z3⟩ := J3.resolve_left (fun w => w z)
      unfold xl_f
      rw [if_pos z]
      by_cases w : st.1.testBit i = true
      · rw [if_pos w]
        refine ⟨J1, J2, Or.inr ⟨z1, z2, fun b hb => ?_⟩⟩
        by_cases v : b = i
        · rw [v]; rw [z2] at w; exact w
        · exact z3 b (by omega)
      · rw [if_neg w]
        refine ⟨xl_f_set hA4 J1 ha hi z (gp_nt w), fun j hj hn => ?_, Or.inl ?_⟩
        · show ud st.2 a i j = L j
          rw [ud_n (fun v => by rw [v] at hn; exact hn z1)]; exact J2 j hj hn
        · show ud st.2 a i a ≠ _
          rw [ud_s]; omega
    · exact br_f (by rw [e, br_m1, br_eq hl (by decide)]; exact z) (nm_r (nI_1 i) (next st ⟨J1, J2, Or.inl z⟩))
theorem xw_complete {post : Int32 → SX → Prop} (hA : yp_A A) (I : xl_I A tk L) (h : ∀ c tk' L', gp_P A c → xl_X L c → post (nI c) (xt A mN mD n dc ca kd fs sn th tl cz dk di dj bl (ch, tk', C, P, F, L'))) : wpX_complete post (xt A mN mD n dc ca kd fs sn th tl cz dk di dj bl (ch, tk, C, P, F, L)) := by
  have hA4 := yp_A4 hA
  unfold wpX_complete
  refine loop_0 (fun k i (st : Nat × Nat × (Nat → Nat)) => wX_complete_6 post k (nI st.1) (nI i) 228 16 (nI A) (nI (2 ^ A - 1)) (nI mN) (nI mD) (nI n) (nI dc) (nI ca) (nI (ch)) (nI (st.2.1)) (nA kd) (nA fs) (nA sn) (nA th) (nA tl) (nA cz) (nA dk) (nA di) (nA dj) (nA (C)) (nA (P)) (nA (F)) (nA bl) (nA (st.2.2))) (fun a st => st.1 < 256 ∧ xl_I A st.2.1 st.2.2 ∧ (∀ i, i < 4 → L i ≠ 4294967295 → st.2.2 i = L i) ∧ (∀ i, i < 4 → gp_ap st.1 i = if i < a then st.2.2 i else i) ∧ (∀ i, i < a → st.2.2 i ≠ 4294967295)) A (228, tk, L) ⟨(by decide : 228 < 256), I, fun _ _ _ => rfl, fun i hi => ?_, fun i hi => by omega⟩ ?_ ?_
  · rw [if_neg (by omega)]; exact gp_id_ap i hi
  · rintro k ⟨p, tk', L'⟩ ⟨J1, J2, J3, J4, J5⟩
    refine br_t (nI_le (Nat.le_refl _) (by omega)) (h p tk' L' ⟨J1, fun a ha b hb e => ?_, fun a ha hAa => ?_⟩ fun a ha hn => ?_)
    · have Ja := J4 a ha
      have Jb := J4 b hb
      dsimp only at Ja Jb J5
      by_cases w : a < A
      · rw [if_pos w] at Ja
        have wa := (J2.2.1 a ha).resolve_left (J5 a w)
        by_cases v : b < A
        · rw [if_pos v] at Jb
          exact J2.2.2.1 a b ha hb (by dsimp only; rw [← Ja, ← Jb, e]) (J5 a w)
        · rw [if_neg v] at Jb
          dsimp only at wa
          omega
      · rw [if_neg w] at Ja
        by_cases v : b < A
        · rw [if_pos v] at Jb
          have wb := (J2.2.1 b hb).resolve_left (J5 b v)
          dsimp only at wb
          omega
        · rw [if_neg v] at Jb
          omega
    · have Ja := J4 a ha
      dsimp only at Ja
      rw [if_neg (by omega)] at Ja; exact Ja
    · have Ja := J4 a ha
      dsimp only at Ja
      rcases J2.2.1 a ha with w | w
      · rw [J3 a ha hn] at w; exact absurd w hn
      · rw [if_pos w.1] at Ja; rw [Ja]; exact J3 a ha hn
  · rintro k a ⟨p, tk', L'⟩ hi ⟨J1, J2, J3, J4, J5⟩ next
    refine br_f (nI_ge hi (by omega)) (xw_c16 hA J2 J1 hi fun tk2 L2 K1 K2 K3 => next (xl_sd p a (L2 a), tk2, L2) ?_)
    have hv : L2 a < 4 := by
      rcases K1.2.1 a (by omega) with z | z
      · exact absurd z K3
      · omega
    refine ⟨xl_sd_lt hv, K1, fun i hi hn => ?_, fun i hi => ?_, fun i hi => ?_⟩
    · have := J3 i hi hn
      dsimp only at this ⊢
      rw [K2 i hi (by dsimp only; rw [this]; exact hn)]; exact this
    · dsimp only
      rw [xl_sd_ap hv i hi]
      by_cases w : i = a
      · rw [if_pos w, if_pos (by omega), w]
      · have := J4 i hi
        dsimp only at this
        rw [if_neg w, this]
        by_cases v : i < a
        · rw [if_pos v, if_pos (by omega)]
          exact (K2 i hi (J5 i v)).symm
        · rw [if_neg v, if_neg (by omega)]
    · dsimp only
      by_cases w : i = a
      · rw [w]; exact K3
      · have := J5 i (by omega)
        dsimp only at this
        rw [K2 i (by omega) this]; exact this
end
end
section
theorem br_aq {f : Nat → Nat} {i j : Nat} {v : Int32} (hv : v = nI j) (hi : i < 2147483648) (hf : f i < 4294967296) (hj : j < 4294967296) : nA f (nI i).toNatClampNeg = v ↔ f i = j := by
  rw [nA_at hi, hv, br_eq hf hj]
theorem br_aa {f g : Nat → Nat} {i j : Nat} (hi : i < 2147483648) (hj : j < 2147483648) (hf : f i < 4294967296) (hg : g j < 4294967296) : nA f (nI i).toNatClampNeg = nA g (nI j).toNatClampNeg ↔ f i = g j := by
  rw [nA_at hi, nA_at hj, br_eq hf hg]
/-- the facts of the slots from b on -/
def xm_e (b : Nat) (C P F : Nat → Nat) : Nat → Nat → Nat → Prop := fun x y c => xr_e C P F (b + x) (b + y) c
def xm_o (b : Nat) (C P F : Nat → Nat) : Nat → Nat → Prop := fun x a => xr_o C P F (b + x) a
theorem xm_e0 {C P F : Nat → Nat} : xm_e 0 C P F = xr_e C P F := by
  funext x y c; unfold xm_e; rw [Nat.zero_add, Nat.zero_add]
theorem xm_o0 {C P F : Nat → Nat} : xm_o 0 C P F = xr_o C P F := by
  funext x a; unfold xm_o; rw [Nat.zero_add]
theorem xm_Gd {D : Nat → Prop} {A b : Nat} {C P F : Nat → Nat} (hA : A ≤ 4) (R : xr_I D A C P F) : fd_Gd (fun t => D (b + t)) A (xm_e b C P F) (xm_o b C P F) := fd_shift (xr_Gd hA R) b
theorem xl_X0 {L : Nat → Nat} (c : Nat) : xl_X (fun i => if i < 4 then 4294967295 else L i) c := fun a ha hn => absurd (if_pos ha) hn
theorem xm_abs {D : Nat → Prop} {A b : Nat} {C P F kd fs sn : Nat → Nat} (hA : A ≤ 4) (R : xr_I D A C P F) {t u : Nat} (kt : kd t = 4) (ku : kd u = 4) (Kt : fd_K (fun x => D (b + x)) A kd fs sn t) (Ku : fd_K (fun x => D (b + x)) A kd fs sn u) :
    (∀ q, gp_P A q → gp_ap q (fs u) = fs t → xr_e C P F (b + sn t) (b + sn u) q → fd_sh kd fs sn (xm_e b C P F) (xm_o b C P F) t u q) ∧
    (∀ c, gp_P A c → fd_sh kd fs sn (xm_e b C P F) (xm_o b C P F) t u c → ∃ q, gp_P A q ∧ gp_ap q (fs u) = fs t ∧ xr_e C P F (b + sn t) (b + sn u) q) := by
  have T := Kt.2.1 kt
  have U := Ku.2.1 ku
  have G := xm_Gd (b := b) hA R
  refine ⟨fun q hq h1 h2 => ⟨by omega, Or.inr (Or.inr (Or.inl ⟨kt, ?_⟩))⟩, fun c hc h => ?_⟩
  · exact (fd_q G hA T.2 U.2 T.1 U.1 hq).mpr ⟨q, hq, h2, h1, fun _ _ _ _ => rfl⟩
  · obtain ⟨_, ⟨z, _⟩ | ⟨z, _⟩ | ⟨_, z⟩ | ⟨z, _⟩⟩ := h
    · omega
    · omega
    · obtain ⟨q, hq, h1, h2, _⟩ := (fd_q G hA T.2 U.2 T.1 U.1 hc).mp z
      exact ⟨q, hq, h2, h1⟩
    · omega
section
variable {A mN mD n dc ca : Nat} {kd fs sn th tl cz dk di dj bl : Nat → Nat}
variable {ch tk : Nat} {C P F L : Nat → Nat}
theorem xw_match {D : Nat → Prop} {post : Int32 → SX → Prop} {t u b : Nat} {x y z : Int32} (ex : x = nI t) (ey : y = nI u) (ez : z = nI b) (hA : yp_A A) (hn : n ≤ 16) (W : fd_wf n A kd fs sn th) (hD : ∀ x, D x → x < 32) (R : xr_I D A C P F) (ht : t < n) (hu : u < n) (Kt : fd_K (fun x => D (b + x)) A kd fs sn t) (Ku : fd_K (fun x => D (b + x)) A kd fs sn u)
    (h : ∀ r tk' L', ((r = -1 ∧ ∀ c, gp_P A c → ¬ fd_sh kd fs sn (xm_e b C P F) (xm_o b C P F) t u c) ∨ ∃ c, gp_P A c ∧ fd_sh kd fs sn (xm_e b C P F) (xm_o b C P F) t u c ∧ r = nI c) → post r (xt A mN mD n dc ca kd fs sn th tl cz dk di dj bl (ch, tk', C, P, F, L'))) : wpX_match post (xt A mN mD n dc ca kd fs sn th tl cz dk di dj bl (ch, tk, C, P, F, L)) x y z := by
  subst ex ey ez
  have hA4 := yp_A4 hA
  obtain ⟨kt, kt1, kt2, kt3, kt4, kt5⟩ := W t ht
  obtain ⟨ku, ku1, ku2, ku3, ku4, ku5⟩ := W u hu
  have vt : vp_in (nI t) 16 := vp_in_nI (by omega) (by decide)
  have vu : vp_in (nI u) 16 := vp_in_nI (by omega) (by decide)
  have q : ∀ (j : Nat) (v : Int32), v = nI j → j < 4294967296 → (nA kd (nI t).toNatClampNeg = v ↔ kd t = j) := fun j v hv hj => br_aq hv (by omega) (by omega) hj
  unfold wpX_match
  refine And.intro vt (And.intro vu ?_)
  by_cases ek : kd t = kd u
  · refine br_t ((br_aa (by omega) (by omega) (by omega) (by omega)).mpr ek) (And.intro vt ?_)
    by_cases k1 : kd t = 1
    · have := kt1 k1
      have := ku1 (by omega)
      refine br_t ((q 1 1 rfl (by decide)).mpr k1) (And.intro vt (And.intro vu (xw_trans' (nA_at (by omega)) (nA_at (by omega)) (by omega) (by omega) (h _ tk L (Or.inr ⟨_, gp_P_tr hA4 (by assumption) (by assumption), ⟨ek, Or.inl ⟨k1, ?_⟩⟩, rfl⟩)))))
      rw [gp_tr_ap (by omega) (by omega) _ (by omega), gp_sw_r]
    · refine br_f (fun w => k1 ((q 1 1 rfl (by decide)).mp w)) (And.intro vt ?_)
      by_cases k2 : kd t = 2
      · have := kt2 k2
        have := ku2 (by omega)
        refine br_t ((q 2 2 rfl (by decide)).mpr k2) (And.intro vt (And.intro vu ?_))
        by_cases e : fs t = fs u
        · exact br_t ((br_aa (by omega) (by omega) (by omega) (by omega)).mpr e) (h _ tk L (Or.inr ⟨228, gp_P_id A, ⟨ek, Or.inr (Or.inl ⟨k2, e⟩)⟩, rfl⟩))
        · refine br_f (fun w => e ((br_aa (by omega) (by omega) (by omega) (by omega)).mp w)) (h _ tk L (Or.inl ⟨rfl, fun c hc hs => ?_⟩))
          obtain ⟨_, ⟨z, _⟩ | ⟨_, z⟩ | ⟨z, _⟩ | ⟨z, _⟩⟩ := hs
          · omega
          · exact e z
          · omega
          · omega
      · refine br_f (fun w => k2 ((q 2 2 rfl (by decide)).mp w)) (xw_clear (And.intro vt ?_))
        have I0 : xl_I A 0 (fun i => if i < 4 then 4294967295 else L i) := xl_I0 hA4
        by_cases k4 : kd t = 4
        · have T := Kt.2.1 k4
          have U := Ku.2.1 (by omega)
          have bt := hD _ T.2
          have bu := hD _ U.2
          obtain ⟨m1, m2⟩ := xm_abs (b := b) hA4 R k4 (by omega) Kt Ku
          refine br_t ((q 4 4 rfl (by decide)).mpr k4) (And.intro vu (And.intro vt (xw_force (a := fs u) (b := fs t) (nA_at (by omega)) (nA_at (by omega)) (by omega) (by omega) I0.1 (by rw [if_pos (by omega)]; decide) ?_)))
          rcases xl_f_Q hA4 I0 U.1 T.1 with ⟨e, J1, J2⟩ | ⟨e, J2⟩
          · refine br_f (by rw [e]; decide) (And.intro vt (And.intro vu (xw_forceAlong (x := b + sn t) (y := b + sn u) (by rw [nA_at (by omega), nI_add]) (by rw [nA_at (by omega), nI_add]) hA4 hD R J1 T.2 U.2 fun r tk' L' Q => ?_)))
            rcases Q with ⟨q1, q2, q3⟩ | ⟨q1, q2⟩
            · refine br_f (by rw [q1]; decide) (br_f (by decide) (xw_complete hA q2 fun c tk2 L2 hc hx => h _ tk2 L2 (Or.inr ⟨c, hc, ?_, rfl⟩)))
              have z1 := (q3 c hc).mp hx
              have z2 := (J2 c hc).mp z1.1
              exact m1 c hc z2.2 z1.2
            · refine br_t q1 (br_t rfl (h _ tk' L' (Or.inl ⟨rfl, fun c hc hs => ?_⟩)))
              obtain ⟨q0, g1, g2, g3⟩ := m2 c hc hs
              exact q2 q0 g1 ((J2 q0 g1).mpr ⟨xl_X0 q0, g2⟩) g3
          · refine br_t e (br_t rfl (h _ _ _ (Or.inl ⟨rfl, fun c hc hs => ?_⟩)))
            obtain ⟨q0, g1, g2, g3⟩ := m2 c hc hs
            exact J2 q0 g1 (xl_X0 q0) g2
        · refine br_f (fun w => k4 ((q 4 4 rfl (by decide)).mp w)) (And.intro vt ?_)
          by_cases k5 : kd t = 5
          · have T := Kt.2.2 k5
            have U := Ku.2.2 (by omega)
            have bt1 := hD _ T.1
            have bu1 := hD _ U.1
            have bt := hD _ T.2
            have bu := hD _ U.2
            have nos : ∀ c, fd_sh kd fs sn (xm_e b C P F) (xm_o b C P F) t u c → xr_e C P F (b + fs t) (b + fs u) c ∧ xr_e C P F (b + sn t) (b + sn u) c := fun c hs => by
              obtain ⟨_, ⟨z, _⟩ | ⟨z, _⟩ | ⟨z, _⟩ | ⟨_, z⟩⟩ := hs
              · omega
              · omega
              · omega
              · exact z
            refine br_t ((q 5 5 rfl (by decide)).mpr k5) (And.intro vt (And.intro vu (xw_forceAlong (x := b + fs t) (y := b + fs u) (by rw [nA_at (by omega), nI_add]) (by rw [nA_at (by omega), nI_add]) hA4 hD R I0 T.1 U.1 fun r tk' L' Q => ?_)))
            rcases Q with ⟨q1, q2, q3⟩ | ⟨q1, q2⟩
            · refine br_f (by rw [q1]; decide) (And.intro vt (And.intro vu (xw_forceAlong (x := b + sn t) (y := b + sn u) (by rw [nA_at (by omega), nI_add]) (by rw [nA_at (by omega), nI_add]) hA4 hD R q2 T.2 U.2 fun r2 tk2 L2 Q2 => ?_)))
              rcases Q2 with ⟨p1, p2, p3⟩ | ⟨p1, p2⟩
              · refine br_f (by rw [p1]; decide) (br_f (by decide) (xw_complete hA p2 fun c tk3 L3 hc hx => h _ tk3 L3 (Or.inr ⟨c, hc, ⟨ek, Or.inr (Or.inr (Or.inr ⟨k5, ?_⟩))⟩, rfl⟩)))
                have z1 := (p3 c hc).mp hx
                have z2 := (q3 c hc).mp z1.1
                exact ⟨z2.2, z1.2⟩
              · refine br_t p1 (br_t rfl (h _ tk2 L2 (Or.inl ⟨rfl, fun c hc hs => ?_⟩)))
                exact p2 c hc ((q3 c hc).mpr ⟨xl_X0 c, (nos c hs).1⟩) (nos c hs).2
            · refine br_t q1 (br_t rfl (h _ tk' L' (Or.inl ⟨rfl, fun c hc hs => ?_⟩)))
              exact q2 c hc (xl_X0 c) (nos c hs).1
          · refine br_f (fun w => k5 ((q 5 5 rfl (by decide)).mp w)) (br_t rfl (h _ _ _ (Or.inl ⟨rfl, fun c hc hs => ?_⟩)))
            rcases (fd_sh_rg hs).1 with z | z | z | z <;> omega
  · refine br_f (fun w => ek ((br_aa (by omega) (by omega) (by omega) (by omega)).mp w)) (h _ tk L (Or.inl ⟨rfl, fun c hc hs => ek hs.1⟩))
end
end
section
theorem br_all {A : Nat} : ∀ i, (2 ^ A - 1).testBit i = decide (i < A) := fun i => Nat.testBit_two_pow_sub_one A i
theorem br_nl (m k : Nat) : gp_nd m k ≤ m := Nat.le_of_testBit fun i h => by
  rw [gp_nd_bit] at h
  cases hm : m.testBit i
  · rw [hm] at h; exact absurd h (by simp)
  · rfl
theorem fd_ow_mono {A : Nat} {kd fs sn : Nat → Nat} {O O' : Nat → Nat → Prop} {t a : Nat} (hO : ∀ x, (kd t = 4 ∧ x = sn t) ∨ (kd t = 5 ∧ (x = fs t ∨ x = sn t)) → O x a → O' x a) (h : fd_ow A kd fs sn O t a) : fd_ow A kd fs sn O' t a := by
  refine ⟨h.1, ?_⟩
  rcases h.2 with z | z | ⟨k, z⟩ | ⟨k, z⟩
  · exact Or.inl z
  · exact Or.inr (Or.inl z)
  · exact Or.inr (Or.inr (Or.inl ⟨k, z.imp id (hO _ (Or.inl ⟨k, rfl⟩))⟩))
  · exact Or.inr (Or.inr (Or.inr ⟨k, hO _ (Or.inr ⟨k, Or.inl rfl⟩) z.1, hO _ (Or.inr ⟨k, Or.inr rfl⟩) z.2⟩))
section
variable {A mN mD n dc ca : Nat} {kd fs sn th tl cz dk di dj bl : Nat → Nat}
variable {s : XS}
theorem xw_ownFresh {D : Nat → Prop} {post : Int32 → Prop} {t b : Nat} {x y : Int32} (ex : x = nI t) (ey : y = nI b) (hA : A ≤ 4) (hn : n ≤ 16) (W : fd_wf n A kd fs sn th) (hD : ∀ x, D x → x < 32) (R : xr_I D A s.2.2.1 s.2.2.2.1 s.2.2.2.2.1) (ht : t < n) (Kt : fd_K (fun x => D (b + x)) A kd fs sn t)
    (h : ∀ w, w < 2 ^ A → (∀ a, w.testBit a = true ↔ fd_ow A kd fs sn (xm_o b s.2.2.1 s.2.2.2.1 s.2.2.2.2.1) t a) → post (nI w)) : wpX_ownFresh post (xt A mN mD n dc ca kd fs sn th tl cz dk di dj bl s) x y := by
  subst ex ey
  obtain ⟨kt, kt1, kt2, kt3, kt4, kt5⟩ := W t ht
  have vt : vp_in (nI t) 16 := vp_in_nI (by omega) (by decide)
  have pw := gp_pw hA
  have pp := Nat.two_pow_pos A
  have q : ∀ (j : Nat) (v : Int32), v = nI j → j < 4294967296 → (nA kd (nI t).toNatClampNeg = v ↔ kd t = j) := fun j v hv hj => br_aq hv (by omega) (by omega) hj
  have G := xm_Gd (b := b) hA R
  have of : ∀ (x : Nat) (v : Int32) (post : Int32 → Prop), v = nI (b + x) → D (b + x) → (∀ w, w < 2 ^ A → (∀ a, w.testBit a = true ↔ xm_o b s.2.2.1 s.2.2.2.1 s.2.2.2.2.1 x a) → post (nI w)) → wpX_offs post (xt A mN mD n dc ca kd fs sn th tl cz dk di dj bl s) v := fun x v post ev dx hh => by
    have Rx := R _ dx
    have := Rx.2.2.2.2
    refine xw_offs ev (hD _ dx) Rx.2.2.2.1.1 (hD _ Rx.1) (by omega) (hh _ (xr_lt2 fun a ha => fd_bd G dx (xr_om.mpr ha)) fun a => xr_om.symm)
  unfold wpX_ownFresh
  refine And.intro vt ?_
  by_cases k1 : kd t = 1
  · have := kt1 k1
    refine br_t ((q 1 1 rfl (by decide)).mpr k1) (And.intro vt ?_)
    have e : nI (2 ^ A - 1) &&& (((1 : Int32) <<< (nA fs (nI t).toNatClampNeg &&& 31)) ^^^ (-1)) = nI (gp_nd (2 ^ A - 1) (2 ^ fs t)) := by
      rw [nA_at (by omega), br_1 (by omega), br_nd (by omega)]
    show post (nI (2 ^ A - 1) &&& (((1 : Int32) <<< (nA fs (nI t).toNatClampNeg &&& 31)) ^^^ (-1)))
    rw [e]
    have := br_nl (2 ^ A - 1) (2 ^ fs t)
    refine h _ (by omega) fun a => ?_
    rw [gp_nd_bit, br_all, Nat.testBit_two_pow]
    simp only [Bool.and_eq_true, decide_eq_true_eq, Bool.not_eq_true', decide_eq_false_iff_not]
    constructor
    · rintro ⟨h1, h2⟩
      exact ⟨h1, Or.inl ⟨k1, fun z => h2 z.symm⟩⟩
    · rintro ⟨h1, ⟨_, z⟩ | z | ⟨z, _⟩ | ⟨z, _⟩⟩
      · exact ⟨h1, fun w => z w.symm⟩
      all_goals omega
  · refine br_f (fun w => k1 ((q 1 1 rfl (by decide)).mp w)) (And.intro vt ?_)
    by_cases k2 : kd t = 2
    · refine br_t ((q 2 2 rfl (by decide)).mpr k2) (h _ (by omega) fun a => ?_)
      rw [br_all, decide_eq_true_eq]
      exact ⟨fun z => ⟨z, Or.inr (Or.inl k2)⟩, fun z => z.1⟩
    · refine br_f (fun w => k2 ((q 2 2 rfl (by decide)).mp w)) (And.intro vt ?_)
      by_cases k4 : kd t = 4
      · have T := Kt.2.1 k4
        refine br_t ((q 4 4 rfl (by decide)).mpr k4) (And.intro vt (And.intro vt (of (sn t) _ _ (by rw [nA_at (by omega), nI_add]) T.2 fun w hw hb => ?_)))
        show post (((1 : Int32) <<< (nA fs (nI t).toNatClampNeg &&& 31)) ||| nI w)
        rw [nA_at (by omega), br_1 (by omega), br_or]
        refine h _ (Nat.or_lt_two_pow (Nat.pow_lt_pow_right (by decide) T.1) hw) fun a => ?_
        rw [Nat.testBit_or, Bool.or_eq_true, Nat.testBit_two_pow, decide_eq_true_eq, hb]
        constructor
        · rintro (z | z)
          · exact ⟨by omega, Or.inr (Or.inr (Or.inl ⟨k4, Or.inl z.symm⟩))⟩
          · exact ⟨fd_bd G T.2 z, Or.inr (Or.inr (Or.inl ⟨k4, Or.inr z⟩))⟩
        · rintro ⟨_, ⟨z, _⟩ | z | ⟨_, z⟩ | ⟨z, _⟩⟩
          · omega
          · omega
          · exact z.imp (fun w => w.symm) id
          · omega
      · refine br_f (fun w => k4 ((q 4 4 rfl (by decide)).mp w)) (And.intro vt ?_)
        by_cases k5 : kd t = 5
        · have T := Kt.2.2 k5
          refine br_t ((q 5 5 rfl (by decide)).mpr k5) (And.intro vt (of (fs t) _ _ (by rw [nA_at (by omega), nI_add]) T.1 fun w hw hb => And.intro vt (of (sn t) _ _ (by rw [nA_at (by omega), nI_add]) T.2 fun w' hw' hb' => ?_)))
          show post (nI w &&& nI w')
          rw [nx_and]
          refine h _ (Nat.and_lt_two_pow _ hw') fun a => ?_
          rw [Nat.testBit_and, Bool.and_eq_true, hb, hb']
          constructor
          · rintro ⟨z, z'⟩
            exact ⟨fd_bd G T.1 z, Or.inr (Or.inr (Or.inr ⟨k5, z, z'⟩))⟩
          · rintro ⟨_, ⟨z, _⟩ | z | ⟨z, _⟩ | ⟨_, z⟩⟩
            · omega
            · omega
            · omega
            · exact z
        · refine br_f (fun w => k5 ((q 5 5 rfl (by decide)).mp w)) (h 0 (Nat.two_pow_pos A) fun a => ?_)
          rw [Nat.zero_testBit]
          constructor
          · intro z; exact absurd z (by decide)
          · rintro ⟨_, ⟨z, _⟩ | z | ⟨z, _⟩ | ⟨z, _⟩⟩ <;> omega
end
theorem xs_R_oe {n A : Nat} {s s' : XS} (h : xs_eq s s') : xs_e s' = xs_e s ∧ xs_o s' = xs_o s := by
  unfold xs_e xs_o; rw [h.2.1, h.2.2.1, h.2.2.2]; exact ⟨rfl, rfl⟩
/-- what spread looks at -/
def xf_s (A : Nat) (kd fs sn : Nat → Nat) (t : Nat) (s : XS) : Prop :=
  (∀ a, fd_ow A kd fs sn (xs_o s) t a → xs_o s t a) ∧ ((kd t = 4 ∨ kd t = 5) → ∀ a, xs_o s t a → fd_ow A kd fs sn (xs_o s) t a)
def xf_r (A : Nat) (kd fs sn : Nat → Nat) (t u : Nat) (s : XS) : Prop :=
  kd t = kd u → ((∃ c, gp_P A c ∧ fd_sh kd fs sn (xs_e s) (xs_o s) t u c) ∨ (s.2.2.1 t = s.2.2.1 u ∧ (kd t = 4 ∨ kd t = 5))) →
    ∃ p, gp_P A p ∧ fd_sh kd fs sn (xs_e s) (xs_o s) t u p ∧ xs_e s t u p
section
variable {A mN mD n dc ca : Nat} {kd fs sn th tl cz dk di dj bl : Nat → Nat}
variable {s : XS} {E : Nat → Nat → Nat → Prop} {O : Nat → Nat → Prop}
theorem xw_spread {post : SX → Prop} {t : Nat} {x : Int32} (ex : x = nI t) (hA : A ≤ 4) (hn : n ≤ 16) (W : fd_wf n A kd fs sn th) (Cl : fd_Cl n A kd fs sn th E O) (V : xs_V n A E O s) (ht : t < n)
    (h : ∀ s', xs_V n A E O s' → xs_R n A s s' → (s'.1 = 0 → xf_s A kd fs sn t s') → post (xt A mN mD n dc ca kd fs sn th tl cz dk di dj bl s')) : wpX_spread post (xt A mN mD n dc ca kd fs sn th tl cz dk di dj bl s) x := by
  subst ex
  have G := Cl.1
  obtain ⟨kt, kt1, kt2, kt3, kt4, kt5⟩ := W t ht
  have vt : vp_in (nI t) 16 := vp_in_nI (by omega) (by decide)
  have pw := gp_pw hA
  have pp := Nat.two_pow_pos A
  have q : ∀ (j : Nat) (v : Int32), v = nI j → j < 4294967296 → (nA kd (nI t).toNatClampNeg = v ↔ kd t = j) := fun j v hv hj => br_aq hv (by omega) (by omega) hj
  have bC : ∀ (s : XS) x, xs_V n A E O s → x < n → s.2.2.1 x < 32 := fun s x V hx => by
    have c : s.2.2.1 x < n := (V.1 x hx).1
    omega
  have bF : ∀ (s : XS) x, xs_V n A E O s → x < n → s.2.2.2.2.1 (s.2.2.1 x) < 16 := fun s x V hx => by
    have c := (V.1 x hx).2.2.2.2
    omega
  have Kt : fd_K (fun x => (fun t => t < n) (0 + x)) A kd fs sn t := by
    have := fd_wK W ht
    unfold fd_K at this ⊢
    simpa only [Nat.zero_add] using this
  unfold wpX_spread
  refine xw_ownFresh (D := fun t => t < n) (b := 0) rfl rfl hA hn W (fun x hx => by have : x < n := hx; omega) V.1 ht Kt fun w hw hb => ?_
  rw [xm_o0] at hb
  have owO : ∀ a, fd_ow A kd fs sn (xs_o s) t a → O t a := fun a z => Cl.2.2.2.2.1 t a ht (fd_ow_mono (fun x hx hz => by
    have hxn : x < n := by
      rcases hx with ⟨k, e⟩ | ⟨k, e | e⟩
      · have := kt4 k; omega
      · have := kt5 k; omega
      · have := kt5 k; omega
    exact xr_inO G V.1 V.2 hxn hz) z)
  obtain ⟨V1, R1, N1, C1, P1⟩ := xp_addOff_ok (t := t) (m := w) hA G V ht fun a ha => owO a ((hb a).mp ha)
  refine xw_addOff rfl rfl (by omega) (bC s t V ht) (V.1 t ht).2.2.2.1 (by omega) ?_
  refine xw_offs (s := xp_addOff s t w) rfl (by omega) (V1.1 t ht).2.2.2.1.1 (bC _ t V1 ht) (by have := bF _ t V1 ht; omega) (And.intro vt ?_)
  have f1 : ∀ s', xs_R n A (xp_addOff s t w) s' → s'.1 = 0 → ∀ a, fd_ow A kd fs sn (xs_o s') t a → xs_o s' t a := fun s' R' z a hz => by
    have e' := xs_R_0 (xs_R_tr R1 R') z
    rw [(xs_R_oe (n := n) (A := A) e').2] at hz
    exact R'.1.2 t a ht (N1 a ((hb a).mpr hz))
  have inO : ∀ a, (gp_im ((xp_addOff s t w).2.2.2.1 t) ((xp_addOff s t w).2.2.2.2.1 ((xp_addOff s t w).2.2.1 t))).testBit a = true → O t a := fun a ha => xr_inO G V1.1 V1.2 ht (xr_om.mpr ha)
  by_cases k4 : kd t = 4
  · have T := kt4 k4
    have hsn : sn t < n := by omega
    refine br_t ((q 4 4 rfl (by decide)).mpr k4) (And.intro vt (And.intro vt ?_))
    have ol := gp_im_lt ((xp_addOff s t w).2.2.2.1 t) ((xp_addOff s t w).2.2.2.2.1 ((xp_addOff s t w).2.2.1 t))
    have ol2 := br_nl (gp_im ((xp_addOff s t w).2.2.2.1 t) ((xp_addOff s t w).2.2.2.2.1 ((xp_addOff s t w).2.2.1 t))) (2 ^ fs t)
    obtain ⟨V2, R2, N2, C2, P2⟩ := xp_addOff_ok (t := sn t) (m := gp_nd (gp_im ((xp_addOff s t w).2.2.2.1 t) ((xp_addOff s t w).2.2.2.2.1 ((xp_addOff s t w).2.2.1 t))) (2 ^ fs t)) hA G V1 hsn fun a ha => by
      rw [gp_nd_bit, Nat.testBit_two_pow] at ha
      simp only [Bool.and_eq_true, Bool.not_eq_true', decide_eq_false_iff_not] at ha
      obtain ⟨_, ⟨z, _⟩ | z | ⟨_, z⟩ | ⟨z, _⟩⟩ := Cl.2.2.2.2.2 t a ht (Or.inl k4) (inO a ha.1)
      · omega
      · omega
      · exact z.resolve_left fun y => ha.2 y.symm
      · omega
    refine xw_addOff (t := sn t) (nA_at (by omega)) ?_ (by omega) (bC _ _ V1 hsn) (V1.1 _ hsn).2.2.2.1 (by omega) (h _ V2 (xs_R_tr R1 R2) fun z => ⟨f1 _ R2 z, fun _ a ha => ?_⟩)
    · rw [nA_at (by omega), br_1 (by omega), br_nd (by omega)]
    · have e2 := xs_R_0 R2 z
      refine ⟨fd_bd G ht (xr_inO G V2.1 V2.2 ht ha), Or.inr (Or.inr (Or.inl ⟨k4, ?_⟩))⟩
      by_cases y : a = fs t
      · exact Or.inl y
      · refine Or.inr (N2 a ?_)
        rw [(xs_R_oe (n := n) (A := A) e2).2] at ha
        rw [gp_nd_bit, xr_om.mp ha, Nat.testBit_two_pow]
        simp only [Bool.true_and, Bool.not_eq_true', decide_eq_false_iff_not]
        exact fun v => y v.symm
  · refine br_f (fun w => k4 ((q 4 4 rfl (by decide)).mp w)) (And.intro vt ?_)
    by_cases k5 : kd t = 5
    · have T := kt5 k5
      have hfs : fs t < n := by omega
      have hsn : sn t < n := by omega
      have ol := gp_im_lt ((xp_addOff s t w).2.2.2.1 t) ((xp_addOff s t w).2.2.2.2.1 ((xp_addOff s t w).2.2.1 t))
      have both : ∀ a, (gp_im ((xp_addOff s t w).2.2.2.1 t) ((xp_addOff s t w).2.2.2.2.1 ((xp_addOff s t w).2.2.1 t))).testBit a = true → O (fs t) a ∧ O (sn t) a := fun a ha => by
        obtain ⟨_, ⟨z, _⟩ | z | ⟨z, _⟩ | ⟨_, z⟩⟩ := Cl.2.2.2.2.2 t a ht (Or.inr k5) (inO a ha)
        · omega
        · omega
        · omega
        · exact z
      obtain ⟨V2, R2, N2, C2, P2⟩ := xp_addOff_ok (t := fs t) hA G V1 hfs fun a ha => (both a ha).1
      obtain ⟨V3, R3, N3, C3, P3⟩ := xp_addOff_ok (t := sn t) hA G V2 hsn fun a ha => (both a ha).2
      refine br_t ((q 5 5 rfl (by decide)).mpr k5) (And.intro vt (xw_addOff (t := fs t) (nA_at (by omega)) rfl (by omega) (bC _ _ V1 hfs) (V1.1 _ hfs).2.2.2.1 (by omega) (And.intro vt (xw_addOff (t := sn t) (nA_at (by omega)) rfl (by omega) (bC _ _ V2 hsn) (V2.1 _ hsn).2.2.2.1 (by omega) (h _ V3 (xs_R_tr R1 (xs_R_tr R2 R3)) fun z => ⟨f1 _ (xs_R_tr R2 R3) z, fun _ a ha => ?_⟩)))))
      have e2 := xs_R_0 (xs_R_tr R2 R3) z
      have hb2 := fd_bd G ht (xr_inO G V3.1 V3.2 ht ha)
      rw [(xs_R_oe (n := n) (A := A) e2).2] at ha
      exact ⟨hb2, Or.inr (Or.inr (Or.inr ⟨k5, R3.1.2 _ _ hfs (N2 a (xr_om.mp ha)), N3 a (xr_om.mp ha)⟩))⟩
    · exact br_f (fun w => k5 ((q 5 5 rfl (by decide)).mp w)) (h _ V1 R1 fun z => ⟨f1 _ (xs_R_rf _) z, fun y => by omega⟩)
end
end
section
theorem fd_sh_mP {D : Nat → Prop} {A : Nat} {kd fs sn : Nat → Nat} {E E' : Nat → Nat → Nat → Prop} {O O' : Nat → Nat → Prop} {t u c : Nat} (hA : A ≤ 4) (hc : gp_P A c) (Kt : fd_K D A kd fs sn t) (Ku : fd_K D A kd fs sn u) (hE : ∀ x y d, D x → D y → gp_P A d → E x y d → E' x y d) (hO : ∀ x a, D x → O x a → O' x a)
    (h : fd_sh kd fs sn E O t u c) : fd_sh kd fs sn E' O' t u c := by
  obtain ⟨e, h⟩ := h
  refine ⟨e, ?_⟩
  rcases h with h | h | ⟨k, h, h'⟩ | ⟨k, h, h'⟩
  · exact Or.inl h
  · exact Or.inr (Or.inl h)
  · have T := Kt.2.1 k
    have U := Ku.2.1 (by omega)
    exact Or.inr (Or.inr (Or.inl ⟨k, hE _ _ _ T.2 U.2 (gp_P_cm (gp_P_tr hA T.1 (gp_ltA hc (by have := U.1; omega) U.1)) hc) h, h'.imp id (hO _ _ U.2)⟩))
  · have T := Kt.2.2 k
    have U := Ku.2.2 (by omega)
    exact Or.inr (Or.inr (Or.inr ⟨k, hE _ _ _ T.1 U.1 hc h, hE _ _ _ T.2 U.2 hc h'⟩))
section
variable {A mN mD n dc ca : Nat} {kd fs sn th tl cz dk di dj bl : Nat → Nat}
variable {s : XS} {E : Nat → Nat → Nat → Prop} {O : Nat → Nat → Prop}
theorem xw_open {post : SX → Prop} {t u : Nat} {x y : Int32} (ex : x = nI t) (ey : y = nI u) (hA : A ≤ 4) (hn : n ≤ 16) (W : fd_wf n A kd fs sn th) (Cl : fd_Cl n A kd fs sn th E O) (V : xs_V n A E O s) (ht : t < n) (hu : u < n) (eC : s.2.2.1 t = s.2.2.1 u) (kt : kd t = 4) (ku : kd u = 4)
    (h : ∀ s', xs_V n A E O s' → xs_R n A s s' → (s'.1 = 0 → xf_r A kd fs sn t u s') → post (xt A mN mD n dc ca kd fs sn th tl cz dk di dj bl s')) : wpX_openAbstractions post (xt A mN mD n dc ca kd fs sn th tl cz dk di dj bl s) x y := by
  subst ex ey
  have G := Cl.1
  have T := (fd_wK W ht).2.1 kt
  have U := (fd_wK W hu).2.1 ku
  have hst : sn t < n := T.2
  have hsu : sn u < n := U.2
  have ft := T.1
  have fu := U.1
  have It := V.1 t ht
  have Iu := V.1 u hu
  obtain ⟨b1, b2⟩ := xr_bt hA V.1 ht hu eC
  have vt : vp_in (nI t) 16 := vp_in_nI (by omega) (by decide)
  have vu : vp_in (nI u) 16 := vp_in_nI (by omega) (by decide)
  generalize ep : gp_cm (s.2.2.2.1 t) (gp_iv (s.2.2.2.1 u)) = p at b1 b2
  have cA : gp_ap p (fs u) < A := gp_ltA b1 (by omega) fu
  have hq : gp_P A (gp_cm (gp_tr (fs t) (gp_ap p (fs u))) p) := gp_P_cm (gp_P_tr hA ft cA) b1
  have Etu : E t u p := xr_inE hA G V.1 V.2 ht hu b1 b2
  have sh : E (sn t) (sn u) (gp_cm (gp_tr (fs t) (gp_ap p (fs u))) p) ∧ (fs t = gp_ap p (fs u) ∨ O (sn u) (gp_ap (gp_iv p) (fs t))) := by
    obtain ⟨_, ⟨z, _⟩ | ⟨z, _⟩ | ⟨_, z⟩ | ⟨z, _⟩⟩ := Cl.2.2.2.1 t u p ht hu b1 (Or.inl kt) (by omega) Etu
    · omega
    · omega
    · exact z
    · omega
  obtain ⟨V1, R1, N1⟩ := xp_equate_ok hA G V hst hsu hq sh.1
  unfold wpX_openAbstractions
  refine xw_between rfl rfl (by omega) (by omega) It.2.2.2.1.1 Iu.2.2.2.1 ?_
  rw [ep]
  refine And.intro vt (nm_r (nA_at (by omega)) (And.intro vu (xw_apply' rfl (nA_at (by omega)) b1.1 (by omega) (xw_trans' rfl rfl (by omega) (gp_ap_lt _ _) (xw_compose' rfl rfl (gp_P_tr hA ft cA).1 b1.1 (And.intro vt (And.intro vu (xw_equate (nA_at (by omega)) rfl (nA_at (by omega)) hA hn V hst hsu hq ?_))))))))
  by_cases z : fs t = gp_ap p (fs u)
  · refine br_t (by rw [← z]) (h _ V1 R1 fun z0 _ _ => ?_)
    exact ⟨p, b1, ⟨by omega, Or.inr (Or.inr (Or.inl ⟨kt, N1, Or.inl z⟩))⟩, R1.1.1 t u p ht hu b1 b2⟩
  · have hO := sh.2.resolve_left z
    have hd4 : gp_ap (gp_iv p) (fs t) < 4 := gp_ap_lt _ _
    obtain ⟨V2, R2, N2, C2, P2⟩ := xp_addOff_ok (t := sn u) (m := 2 ^ gp_ap (gp_iv p) (fs t)) hA G V1 hsu fun a ha => by
      rw [Nat.testBit_two_pow, decide_eq_true_eq] at ha
      rw [← ha]; exact hO
    have p4 : 2 ^ gp_ap (gp_iv p) (fs t) < 2 ^ 4 := Nat.pow_lt_pow_right (by decide) hd4
    have cc : (xp_equate n s (sn t) (gp_cm (gp_tr (fs t) (gp_ap p (fs u))) p) (sn u)).2.2.1 (sn u) < n := (V1.1 _ hsu).1
    refine br_f (by rw [br_eq (by omega) (by omega)]; exact z) (xw_inverse' rfl b1.1 (xw_apply' rfl rfl (gp_P_iv b1).1 (by omega) (And.intro vu (xw_addOff (nA_at (by omega)) (br_1 (by omega)) (by omega) (by omega) (V1.1 _ hsu).2.2.2.1 (by omega) (h _ V2 (xs_R_tr R1 R2) fun z0 _ _ => ?_)))))
    exact ⟨p, b1, ⟨by omega, Or.inr (Or.inr (Or.inl ⟨kt, R2.1.1 _ _ _ hst hsu hq N1, Or.inr (N2 _ (by rw [Nat.testBit_two_pow]; simp))⟩))⟩, (xs_R_tr R1 R2).1.1 t u p ht hu b1 b2⟩
theorem xw_rel119 {post : SX → Prop} {t u : Nat} (hA : yp_A A) (hn : n ≤ 16) (W : fd_wf n A kd fs sn th) (Cl : fd_Cl n A kd fs sn th E O) (V : xs_V n A E O s) (ht : t < n) (hu : u < n) (no : ¬ (s.2.2.1 t = s.2.2.1 u ∧ (kd t = 4 ∨ kd t = 5)))
    (h : ∀ s', xs_V n A E O s' → xs_R n A s s' → (s'.1 = 0 → xf_r A kd fs sn t u s') → post (xt A mN mD n dc ca kd fs sn th tl cz dk di dj bl s')) : wX_relate_119 post (nI t) (nI u) 228 16 (nI A) (nI (2 ^ A - 1)) (nI mN) (nI mD) (nI n) (nI dc) (nI ca) (nI (s.1)) (nI (s.2.1)) (nA kd) (nA fs) (nA sn) (nA th) (nA tl) (nA cz) (nA dk) (nA di) (nA dj) (nA (s.2.2.1)) (nA (s.2.2.2.1)) (nA (s.2.2.2.2.1)) (nA bl) (nA (s.2.2.2.2.2)) := by
  have hA4 := yp_A4 hA
  have G := Cl.1
  have K : ∀ t, t < n → fd_K (fun x => (fun t => t < n) (0 + x)) A kd fs sn t := fun t ht => by
    have := fd_wK W ht
    unfold fd_K at this ⊢
    simpa only [Nat.zero_add] using this
  unfold wX_relate_119
  refine xw_match (D := fun t => t < n) (b := 0) (C := s.2.2.1) (P := s.2.2.2.1) (F := s.2.2.2.2.1) rfl rfl rfl hA hn W (fun x hx => by have : x < n := hx; omega) V.1 ht hu (K t ht) (K u hu) fun r tk' L' hr => ?_
  rw [xm_e0, xm_o0] at hr
  have Ve : xs_eq s (s.1, tk', s.2.2.1, s.2.2.2.1, s.2.2.2.2.1, L') := ⟨rfl, rfl, rfl, rfl⟩
  rcases hr with ⟨e, hr⟩ | ⟨c, hc, hr, e⟩
  · refine br_t e (h _ (xs_V_eq Ve V) (xs_R_eq Ve) fun z0 ek hh => ?_)
    rcases hh with ⟨c, hc, hs⟩ | hh
    · exact absurd hs (hr c hc)
    · exact absurd hh no
  · have Etu : E t u c := Cl.2.2.1 t u c ht hu hc (fd_sh_mP hA4 hc (fd_wK W ht) (fd_wK W hu) (fun x y d hx hy hd hz => xr_inE hA4 G V.1 V.2 hx hy hd hz) (fun x a hx hz => xr_inO G V.1 V.2 hx hz) hr)
    obtain ⟨V1, R1, N1⟩ := xp_equate_ok hA4 G (xs_V_eq Ve V) ht hu hc Etu
    refine br_f (by rw [e, br_m1, br_eq (by have := hc.1; omega) (by decide)]; have := hc.1; omega) (xw_equate rfl e rfl hA4 hn (xs_V_eq Ve V) ht hu hc (h _ V1 (xs_R_tr (xs_R_eq Ve) R1) fun z0 _ _ => ⟨c, hc, ?_, N1⟩))
    have e2 := xs_R_0 (xs_R_tr (xs_R_eq Ve) R1) z0
    rw [(xs_R_oe (n := n) (A := A) e2).1, (xs_R_oe (n := n) (A := A) e2).2]
    exact hr
theorem xw_relate {post : SX → Prop} {t u : Nat} {x y : Int32} (ex : x = nI t) (ey : y = nI u) (hA : yp_A A) (hn : n ≤ 16) (W : fd_wf n A kd fs sn th) (Cl : fd_Cl n A kd fs sn th E O) (V : xs_V n A E O s) (ht : t < n) (hu : u < n)
    (h : ∀ s', xs_V n A E O s' → xs_R n A s s' → (s'.1 = 0 → xf_r A kd fs sn t u s') → post (xt A mN mD n dc ca kd fs sn th tl cz dk di dj bl s')) : wpX_relate post (xt A mN mD n dc ca kd fs sn th tl cz dk di dj bl s) x y := by
  subst ex ey
  have hA4 := yp_A4 hA
  have G := Cl.1
  have wt := (W t ht).1
  have wu := (W u hu).1
  have It := V.1 t ht
  have Iu := V.1 u hu
  have c1 : s.2.2.1 t < n := It.1
  have c2 : s.2.2.1 u < n := Iu.1
  have vt : vp_in (nI t) 16 := vp_in_nI (by omega) (by decide)
  have vu : vp_in (nI u) 16 := vp_in_nI (by omega) (by decide)
  have vt2 : vp_in (nI t) 32 := vp_in_nI (by omega) (by decide)
  have vu2 : vp_in (nI u) 32 := vp_in_nI (by omega) (by decide)
  have q : ∀ (j : Nat) (v : Int32), v = nI j → j < 4294967296 → (nA kd (nI t).toNatClampNeg = v ↔ kd t = j) := fun j v hv hj => br_aq hv (by omega) (by omega) hj
  have qC : nA s.2.2.1 (nI t).toNatClampNeg = nA s.2.2.1 (nI u).toNatClampNeg ↔ s.2.2.1 t = s.2.2.1 u := br_aa (by omega) (by omega) (by omega) (by omega)
  unfold wpX_relate
  refine And.intro vt (And.intro vu ?_)
  by_cases ek : kd t = kd u
  · refine br_t ((br_aa (by omega) (by omega) (by omega) (by omega)).mpr ek) (And.intro vt2 (And.intro vu2 ?_))
    by_cases eC : s.2.2.1 t = s.2.2.1 u
    · refine br_t (qC.mpr eC) (And.intro vt ?_)
      by_cases k5 : kd t = 5
      · obtain ⟨b1, b2⟩ := xr_bt hA4 V.1 ht hu eC
        have T := (fd_wK W ht).2.2 k5
        have U := (fd_wK W hu).2.2 (by omega)
        have t1 : fs t < n := T.1
        have t2 : sn t < n := T.2
        have u1 : fs u < n := U.1
        have u2 : sn u < n := U.2
        have sh : E (fs t) (fs u) (gp_cm (s.2.2.2.1 t) (gp_iv (s.2.2.2.1 u))) ∧ E (sn t) (sn u) (gp_cm (s.2.2.2.1 t) (gp_iv (s.2.2.2.1 u))) := by
          obtain ⟨_, ⟨z, _⟩ | ⟨z, _⟩ | ⟨z, _⟩ | ⟨_, z⟩⟩ := Cl.2.2.2.1 t u _ ht hu b1 (Or.inr k5) ek (xr_inE hA4 G V.1 V.2 ht hu b1 b2)
          · omega
          · omega
          · omega
          · exact z
        obtain ⟨V1, R1, N1⟩ := xp_equate_ok hA4 G V t1 u1 b1 sh.1
        obtain ⟨V2, R2, N2⟩ := xp_equate_ok hA4 G V1 t2 u2 b1 sh.2
        refine br_t ((q 5 5 rfl (by decide)).mpr k5) (xw_between rfl rfl (by omega) (by omega) It.2.2.2.1.1 Iu.2.2.2.1 (And.intro vt (And.intro vu (xw_equate (nA_at (by omega)) rfl (nA_at (by omega)) hA4 hn V t1 u1 b1 (And.intro vt (And.intro vu (xw_equate (nA_at (by omega)) rfl (nA_at (by omega)) hA4 hn V1 t2 u2 b1 (h _ V2 (xs_R_tr R1 R2) fun z0 _ _ => ?_))))))))
        exact ⟨_, b1, ⟨ek, Or.inr (Or.inr (Or.inr ⟨k5, R2.1.1 _ _ _ t1 u1 b1 N1, N2⟩))⟩, (xs_R_tr R1 R2).1.1 t u _ ht hu b1 b2⟩
      · refine br_f (fun w => k5 ((q 5 5 rfl (by decide)).mp w)) (And.intro vt2 (And.intro vu2 (br_t (qC.mpr eC) (And.intro vt ?_))))
        by_cases k4 : kd t = 4
        · exact br_t ((q 4 4 rfl (by decide)).mpr k4) (xw_open rfl rfl hA4 hn W Cl V ht hu eC k4 (by omega) h)
        · exact br_f (fun w => k4 ((q 4 4 rfl (by decide)).mp w)) (xw_rel119 hA hn W Cl V ht hu (fun z => by omega) h)
    · refine br_f (fun w => eC (qC.mp w)) (And.intro vt2 (And.intro vu2 (br_f (fun w => eC (qC.mp w)) (xw_rel119 hA hn W Cl V ht hu (fun z => eC z.1) h))))
  · exact br_f (fun w => ek ((br_aa (by omega) (by omega) (by omega) (by omega)).mp w)) (h s V (xs_R_rf s) fun _ z => absurd z ek)
end
end
section
theorem xf_r_eq {A : Nat} {kd fs sn : Nat → Nat} {t u : Nat} {s s' : XS} (e : xs_eq s s') (h : xf_r A kd fs sn t u s) : xf_r A kd fs sn t u s' := by
  unfold xf_r at h ⊢
  rw [(xs_R_oe (n := 0) (A := A) e).1, (xs_R_oe (n := 0) (A := A) e).2, e.2.1]; exact h
theorem xf_s_eq {A : Nat} {kd fs sn : Nat → Nat} {t : Nat} {s s' : XS} (e : xs_eq s s') (h : xf_s A kd fs sn t s) : xf_s A kd fs sn t s' := by
  unfold xf_s at h ⊢
  rw [(xs_R_oe (n := 0) (A := A) e).2]; exact h
theorem xs_mu_le {n : Nat} (hn : n ≤ 16) (s : XS) : xs_mu n s ≤ 80 := by
  have := cn_le_n (xr_bit s.2.2.1 s.2.2.2.1 s.2.2.2.2.1) (5 * n)
  unfold xs_mu xr_mu; omega
section
variable {A mN mD n dc ca : Nat} {kd fs sn th tl cz dk di dj bl : Nat → Nat}
variable {s : XS} {E : Nat → Nat → Nat → Prop} {O : Nat → Nat → Prop}
theorem xw_s59 {post : SX → Prop} {J7 J49 : Int32 → Int32 → Int32 → Int32 → Int32 → Int32 → Int32 → Int32 → Int32 → Int32 → Int32 → Int32 → (Nat → Int32) → (Nat → Int32) → (Nat → Int32) → (Nat → Int32) → (Nat → Int32) → (Nat → Int32) → (Nat → Int32) → (Nat → Int32) → (Nat → Int32) → (Nat → Int32) → (Nat → Int32) → (Nat → Int32) → (Nat → Int32) → (Nat → Int32) → Prop} {x1 : Int32} {t : Nat} (hA : yp_A A) (hn : n ≤ 16) (W : fd_wf n A kd fs sn th) (Cl : fd_Cl n A kd fs sn th E O) (V : xs_V n A E O s) (ht : t < n)
    (h : ∀ s' : XS, xs_V n A E O s' → xs_R n A s s' → (s'.1 = 0 → ∀ u, u < t → xf_r A kd fs sn t u s') → J49 (nI (t + 1)) 228 16 (nI A) (nI (2 ^ A - 1)) (nI mN) (nI mD) (nI n) (nI dc) (nI ca) (nI (s'.1)) (nI (s'.2.1)) (nA kd) (nA fs) (nA sn) (nA th) (nA tl) (nA cz) (nA dk) (nA di) (nA dj) (nA (s'.2.2.1)) (nA (s'.2.2.2.1)) (nA (s'.2.2.2.2.1)) (nA bl) (nA (s'.2.2.2.2.2))) :
    ∃ n59 : Nat, wX_saturate_59 post J7 J49 x1 (nI t) n59 0 228 16 (nI A) (nI (2 ^ A - 1)) (nI mN) (nI mD) (nI n) (nI dc) (nI ca) (nI (s.1)) (nI (s.2.1)) (nA kd) (nA fs) (nA sn) (nA th) (nA tl) (nA cz) (nA dk) (nA di) (nA dj) (nA (s.2.2.1)) (nA (s.2.2.2.1)) (nA (s.2.2.2.2.1)) (nA bl) (nA (s.2.2.2.2.2)) := by
  refine loop_0 (fun k i (st : XS) => wX_saturate_59 post J7 J49 x1 (nI t) k (nI i) 228 16 (nI A) (nI (2 ^ A - 1)) (nI mN) (nI mD) (nI n) (nI dc) (nI ca) (nI (st.1)) (nI (st.2.1)) (nA kd) (nA fs) (nA sn) (nA th) (nA tl) (nA cz) (nA dk) (nA di) (nA dj) (nA (st.2.2.1)) (nA (st.2.2.2.1)) (nA (st.2.2.2.2.1)) (nA bl) (nA (st.2.2.2.2.2))) (fun i st => xs_V n A E O st ∧ xs_R n A s st ∧ (st.1 = 0 → ∀ u, u < i → xf_r A kd fs sn t u st)) t s ⟨V, xs_R_rf s, fun _ u hu => by omega⟩ ?_ ?_
  · rintro k st ⟨I1, I2, I3⟩
    exact br_t (nI_le (Nat.le_refl _) (by omega)) (nm_r (nI_1 t) (h st I1 I2 I3))
  · rintro k i st hi ⟨I1, I2, I3⟩ next
    refine br_f (nI_ge hi (by omega)) (xw_relate rfl rfl hA hn W Cl I1 ht (by omega) fun s' V' R' f' => nm_r (nI_1 i) (next s' ⟨V', xs_R_tr I2 R', fun z u hu => ?_⟩))
    by_cases w : u = i
    · rw [w]; exact f' z
    · have e := xs_R_0 R' z
      exact xf_r_eq e (I3 (by rw [← e.1]; exact z) u (by omega))
theorem xw_s49 {post : SX → Prop} {J7 : Int32 → Int32 → Int32 → Int32 → Int32 → Int32 → Int32 → Int32 → Int32 → Int32 → Int32 → Int32 → (Nat → Int32) → (Nat → Int32) → (Nat → Int32) → (Nat → Int32) → (Nat → Int32) → (Nat → Int32) → (Nat → Int32) → (Nat → Int32) → (Nat → Int32) → (Nat → Int32) → (Nat → Int32) → (Nat → Int32) → (Nat → Int32) → (Nat → Int32) → Prop} {p : Nat} (hA : yp_A A) (hn : n ≤ 16) (W : fd_wf n A kd fs sn th) (Cl : fd_Cl n A kd fs sn th E O) (V : xs_V n A E O s)
    (h : ∀ s' : XS, xs_V n A E O s' → xs_R n A s s' → (s'.1 = 0 → ∀ t, t < n → ∀ u, u < t → xf_r A kd fs sn t u s') → J7 (nI (p + 1)) 228 16 (nI A) (nI (2 ^ A - 1)) (nI mN) (nI mD) (nI n) (nI dc) (nI ca) (nI (s'.1)) (nI (s'.2.1)) (nA kd) (nA fs) (nA sn) (nA th) (nA tl) (nA cz) (nA dk) (nA di) (nA dj) (nA (s'.2.2.1)) (nA (s'.2.2.2.1)) (nA (s'.2.2.2.2.1)) (nA bl) (nA (s'.2.2.2.2.2))) :
    ∃ n49 : Nat, wX_saturate_49 post J7 (nI p) n49 0 228 16 (nI A) (nI (2 ^ A - 1)) (nI mN) (nI mD) (nI n) (nI dc) (nI ca) (nI (s.1)) (nI (s.2.1)) (nA kd) (nA fs) (nA sn) (nA th) (nA tl) (nA cz) (nA dk) (nA di) (nA dj) (nA (s.2.2.1)) (nA (s.2.2.2.1)) (nA (s.2.2.2.2.1)) (nA bl) (nA (s.2.2.2.2.2)) := by
  refine loop_0 (fun k i (st : XS) => wX_saturate_49 post J7 (nI p) k (nI i) 228 16 (nI A) (nI (2 ^ A - 1)) (nI mN) (nI mD) (nI n) (nI dc) (nI ca) (nI (st.1)) (nI (st.2.1)) (nA kd) (nA fs) (nA sn) (nA th) (nA tl) (nA cz) (nA dk) (nA di) (nA dj) (nA (st.2.2.1)) (nA (st.2.2.2.1)) (nA (st.2.2.2.2.1)) (nA bl) (nA (st.2.2.2.2.2))) (fun i st => xs_V n A E O st ∧ xs_R n A s st ∧ (st.1 = 0 → ∀ t, t < i → ∀ u, u < t → xf_r A kd fs sn t u st)) n s ⟨V, xs_R_rf s, fun _ u hu => by omega⟩ ?_ ?_
  · rintro k st ⟨I1, I2, I3⟩
    exact br_t (nI_le (Nat.le_refl _) (by omega)) (nm_r (nI_1 p) (h st I1 I2 I3))
  · rintro k i st hi ⟨I1, I2, I3⟩ next
    refine br_f (nI_ge hi (by omega)) (xw_s59 hA hn W Cl I1 hi fun s' V' R' f' => next s' ⟨V', xs_R_tr I2 R', fun z t ht => ?_⟩)
    by_cases w : t = i
    · rw [w]; exact f' z
    · have e := xs_R_0 R' z
      exact fun u hu => xf_r_eq e (I3 (by rw [← e.1]; exact z) t (by omega) u hu)
theorem xw_s28 {post : SX → Prop} {J7 : Int32 → Int32 → Int32 → Int32 → Int32 → Int32 → Int32 → Int32 → Int32 → Int32 → Int32 → Int32 → (Nat → Int32) → (Nat → Int32) → (Nat → Int32) → (Nat → Int32) → (Nat → Int32) → (Nat → Int32) → (Nat → Int32) → (Nat → Int32) → (Nat → Int32) → (Nat → Int32) → (Nat → Int32) → (Nat → Int32) → (Nat → Int32) → (Nat → Int32) → Prop} {p : Nat} (hA : yp_A A) (hn : n ≤ 16) (W : fd_wf n A kd fs sn th) (Cl : fd_Cl n A kd fs sn th E O) (V : xs_V n A E O s)
    (h : ∀ s' : XS, xs_V n A E O s' → xs_R n A s s' → (s'.1 = 0 → xf n A kd fs sn s'.2.2.1 s'.2.2.2.1 s'.2.2.2.2.1) → J7 (nI (p + 1)) 228 16 (nI A) (nI (2 ^ A - 1)) (nI mN) (nI mD) (nI n) (nI dc) (nI ca) (nI (s'.1)) (nI (s'.2.1)) (nA kd) (nA fs) (nA sn) (nA th) (nA tl) (nA cz) (nA dk) (nA di) (nA dj) (nA (s'.2.2.1)) (nA (s'.2.2.2.1)) (nA (s'.2.2.2.2.1)) (nA bl) (nA (s'.2.2.2.2.2))) :
    ∃ n28 : Nat, wX_saturate_28 post J7 (nI p) n28 0 228 16 (nI A) (nI (2 ^ A - 1)) (nI mN) (nI mD) (nI n) (nI dc) (nI ca) (nI (s.1)) (nI (s.2.1)) (nA kd) (nA fs) (nA sn) (nA th) (nA tl) (nA cz) (nA dk) (nA di) (nA dj) (nA (s.2.2.1)) (nA (s.2.2.2.1)) (nA (s.2.2.2.2.1)) (nA bl) (nA (s.2.2.2.2.2)) := by
  refine loop_0 (fun k i (st : XS) => wX_saturate_28 post J7 (nI p) k (nI i) 228 16 (nI A) (nI (2 ^ A - 1)) (nI mN) (nI mD) (nI n) (nI dc) (nI ca) (nI (st.1)) (nI (st.2.1)) (nA kd) (nA fs) (nA sn) (nA th) (nA tl) (nA cz) (nA dk) (nA di) (nA dj) (nA (st.2.2.1)) (nA (st.2.2.2.1)) (nA (st.2.2.2.2.1)) (nA bl) (nA (st.2.2.2.2.2))) (fun i st => xs_V n A E O st ∧ xs_R n A s st ∧ (st.1 = 0 → ∀ t, t < i → xf_s A kd fs sn t st)) n s ⟨V, xs_R_rf s, fun _ u hu => by omega⟩ ?_ ?_
  · rintro k st ⟨I1, I2, I3⟩
    refine br_t (nI_le (Nat.le_refl _) (by omega)) (xw_s49 hA hn W Cl I1 fun s' V' R' f' => h s' V' (xs_R_tr I2 R') fun z => ?_)
    have e := xs_R_0 R' z
    have g1 := f' z
    have g2 := fun t ht => xf_s_eq e (I3 (by rw [← e.1]; exact z) t ht)
    exact ⟨fun t a ht hz => (g2 t ht).1 a hz, fun t a ht k hz => (g2 t ht).2 k a hz, fun t u hu ht ek hh => g1 t ht u hu ek hh⟩
  · rintro k i st hi ⟨I1, I2, I3⟩ next
    refine br_f (nI_ge hi (by omega)) (xw_spread rfl (yp_A4 hA) hn W Cl I1 hi fun s' V' R' f' => nm_r (nI_1 i) (next s' ⟨V', xs_R_tr I2 R', fun z t ht => ?_⟩))
    by_cases w : t = i
    · rw [w]; exact f' z
    · have e := xs_R_0 R' z
      exact xf_s_eq e (I3 (by rw [← e.1]; exact z) t (by omega))
theorem xw_saturate {post : SX → Prop} (hA : yp_A A) (hn : n ≤ 16) (W : fd_wf n A kd fs sn th) (Cl : fd_Cl n A kd fs sn th E O) (V : xs_V n A E O s)
    (h : ∀ s' : XS, xs_V n A E O s' → xr_le n A s.2.2.1 s.2.2.2.1 s.2.2.2.2.1 s'.2.2.1 s'.2.2.2.1 s'.2.2.2.2.1 → xf n A kd fs sn s'.2.2.1 s'.2.2.2.1 s'.2.2.2.2.1 → post (xt A mN mD n dc ca kd fs sn th tl cz dk di dj bl s')) : wpX_saturate post (xt A mN mD n dc ca kd fs sn th tl cz dk di dj bl s) := by
  unfold wpX_saturate
  refine loop_0 (fun k i (st : XS) => wX_saturate_7 post k (nI i) 228 16 (nI A) (nI (2 ^ A - 1)) (nI mN) (nI mD) (nI n) (nI dc) (nI ca) (nI (st.1)) (nI (st.2.1)) (nA kd) (nA fs) (nA sn) (nA th) (nA tl) (nA cz) (nA dk) (nA di) (nA dj) (nA (st.2.2.1)) (nA (st.2.2.2.1)) (nA (st.2.2.2.2.1)) (nA bl) (nA (st.2.2.2.2.2))) (fun i st => xs_V n A E O st ∧ xr_le n A s.2.2.1 s.2.2.2.1 s.2.2.2.2.1 st.2.2.1 st.2.2.2.1 st.2.2.2.2.1 ∧ ((st.1 = 0 ∧ xf n A kd fs sn st.2.2.1 st.2.2.2.1 st.2.2.2.2.1) ∨ (st.1 = 1 ∧ i ≤ xs_mu n st))) 128 (1, s.2) ⟨V, ⟨fun _ _ _ _ _ _ z => z, fun _ _ _ z => z⟩, Or.inr ⟨rfl, Nat.zero_le _⟩⟩ ?_ ?_
  · rintro k st ⟨I1, I2, I3⟩
    refine br_t (nI_le (a := 128) (Nat.le_refl _) (by omega)) ?_
    rcases I3 with z | z
    · exact h st I1 I2 z.2
    · have := xs_mu_le hn st
      omega
  · rintro k i st hi ⟨I1, I2, I3⟩ next
    refine br_f (nI_ge (b := 128) hi (by omega)) ?_
    rcases I3 with z | z
    · exact br_t (by rw [z.1]; rfl) (h st I1 I2 z.2)
    · refine br_f (by rw [z.1]; decide) (xw_s28 (s := (0, st.2)) hA hn W Cl I1 fun s' V' R' f' => next s' ⟨V', ?_, ?_⟩)
      · exact ⟨fun x y c hx hy hc w => R'.1.1 x y c hx hy hc (I2.1 x y c hx hy hc w), fun x a hx w => R'.1.2 x a hx (I2.2 x a hx w)⟩
      · rcases R'.2 with e | e
        · exact Or.inl ⟨e.1, f' e.1⟩
        · have e2 : xs_mu n st < xs_mu n s' := e.2
          exact Or.inr ⟨e.1, by omega⟩
end
end
section
/-! contradictions -/
def ct_l (A : Nat) (E : Nat → Nat → Nat → Prop) (t u : Nat) : Prop := ∃ c, gp_P A c ∧ E t u c
def ct_ch (kd fs sn : Nat → Nat) (v w : Nat) : Prop := (kd v = 5 ∧ w = fs v) ∨ ((kd v = 5 ∨ kd v = 4) ∧ w = sn v)
def ct_ov (n A : Nat) (kd fs sn : Nat → Nat) (E : Nat → Nat → Nat → Prop) (t u : Nat) : Prop := t < n ∧ u < n ∧ ∃ v w, v < n ∧ ct_l A E t v ∧ ct_ch kd fs sn v w ∧ ct_l A E w u
def ct_df (kd fs : Nat → Nat) (t u : Nat) : Prop := fd_rg kd t ∧ fd_rg kd u ∧ (kd t ≠ kd u ∨ (kd t = 2 ∧ fs t ≠ fs u))
def ct_rg (n A : Nat) (kd fs sn : Nat → Nat) (E : Nat → Nat → Nat → Prop) : Prop := ∃ t, Relation.TransGen (ct_ov n A kd fs sn E) t t
def ct (n A : Nat) (kd fs sn : Nat → Nat) (E : Nat → Nat → Nat → Prop) (O : Nat → Nat → Prop) : Prop :=
  (∃ t, t < n ∧ kd t = 1 ∧ O t (fs t)) ∨ (∃ t u, t < n ∧ u < n ∧ ct_l A E t u ∧ ct_df kd fs t u) ∨ ct_rg n A kd fs sn E
theorem ct_df_s {kd fs : Nat → Nat} {t u : Nat} (h : ct_df kd fs t u) : ct_df kd fs u t :=
  ⟨h.2.1, h.1, by rcases h.2.2 with z | z
                  · exact Or.inl fun w => z w.symm
                  · by_cases e : kd t = kd u
                    · exact Or.inr ⟨by omega, fun w => z.2 w.symm⟩
                    · exact Or.inl fun w => e w.symm⟩
theorem ct_ext {n A : Nat} {kd fs sn th : Nat → Nat} {E E' : Nat → Nat → Nat → Prop} {O O' : Nat → Nat → Prop} (W : fd_wf n A kd fs sn th) (hE : ∀ t u c, t < n → u < n → gp_P A c → (E t u c ↔ E' t u c)) (hO : ∀ t a, t < n → a < A → (O t a ↔ O' t a)) (h : ct n A kd fs sn E O) : ct n A kd fs sn E' O' := by
  have hl : ∀ t u, t < n → u < n → ct_l A E t u → ct_l A E' t u := fun t u ht hu ⟨c, hc, z⟩ => ⟨c, hc, (hE t u c ht hu hc).mp z⟩
  rcases h with ⟨t, ht, k, h⟩ | ⟨t, u, ht, hu, h, h'⟩ | ⟨t, h⟩
  · exact Or.inl ⟨t, ht, k, (hO t _ ht ((W t ht).2.1 k)).mp h⟩
  · exact Or.inr (Or.inl ⟨t, u, ht, hu, hl t u ht hu h, h'⟩)
  · refine Or.inr (Or.inr ⟨t, ?_⟩)
    have key : ∀ a b, ct_ov n A kd fs sn E a b → ct_ov n A kd fs sn E' a b := by
      rintro a b ⟨ha, hb, v, w, hv, h1, h2, h3⟩
      have hw : w < n := by
        have := W v hv
        rcases h2 with ⟨k, e⟩ | ⟨k | k, e⟩
        · have := (this.2.2.2.2.2 k).1; omega
        · have := (this.2.2.2.2.2 k).2; omega
        · have := (this.2.2.2.2.1 k).2; omega
      exact ⟨ha, hb, v, w, hv, hl _ _ ha hv h1, h2, hl _ _ hw hb h3⟩
    have : ∀ a b, Relation.TransGen (ct_ov n A kd fs sn E) a b → Relation.TransGen (ct_ov n A kd fs sn E') a b := by
      intro a b z
      induction z with
      | single z => exact .single (key _ _ z)
      | tail _ z ih => exact .tail ih (key _ _ z)
    exact this t t h
theorem tg_head {r : Nat → Nat → Prop} {a b : Nat} (h : Relation.TransGen r a b) : ∃ y, r a y ∧ (y = b ∨ Relation.TransGen r y b) := by
  induction h with
  | single z => exact ⟨_, z, Or.inl rfl⟩
  | tail _ z ih =>
    obtain ⟨y, h1, h2⟩ := ih
    refine ⟨y, h1, Or.inr ?_⟩
    rcases h2 with e | e
    · rw [e]; exact .single z
    · exact .tail e z
theorem pg_n : ∀ n (f : Nat → Nat), (∀ i, i ≤ n → f i < n) → ∃ i j, i < j ∧ j ≤ n ∧ f i = f j := by
  intro n
  induction n with
  | zero => intro f h; exact absurd (h 0 (Nat.le_refl _)) (by omega)
  | succ n ih =>
    intro f h
    by_cases z : ∃ i, i ≤ n ∧ f i = f (n + 1)
    · obtain ⟨i, hi, e⟩ := z
      exact ⟨i, n + 1, by omega, Nat.le_refl _, e⟩
    · have hne : ∀ i, i ≤ n → f i ≠ f (n + 1) := fun i hi e => z ⟨i, hi, e⟩
      have hv := h (n + 1) (Nat.le_refl _)
      obtain ⟨i, j, h1, h2, h3⟩ := ih (fun i => if f i = n then f (n + 1) else f i) fun i hi => by
        have h1 := h i (by omega)
        have h2 := hne i hi
        split <;> omega
      refine ⟨i, j, h1, by omega, ?_⟩
      have h4 := hne i (by omega)
      have h5 := hne j h2
      split at h3 <;> split at h3 <;> omega
/-- every member of a set of numbers below n has a next one in the set: there is a ring -/
theorem tg_ring {n : Nat} {r : Nat → Nat → Prop} {S : Nat → Prop} (hS : ∀ x, S x → x < n ∧ ∃ y, S y ∧ r x y) (h : ∃ x, S x) : ∃ t, Relation.TransGen r t t := by
  obtain ⟨x0, h0⟩ := h
  have nx : ∀ x : {x // S x}, ∃ y : {x // S x}, r x.1 y.1 := fun x => by
    obtain ⟨_, y, h1, h2⟩ := hS x.1 x.2
    exact ⟨⟨y, h1⟩, h2⟩
  let g : {x // S x} → {x // S x} := fun x => Classical.choose (nx x)
  have hg : ∀ x, r x.1 (g x).1 := fun x => Classical.choose_spec (nx x)
  let f : Nat → {x // S x} := fun i => Nat.rec ⟨x0, h0⟩ (fun _ y => g y) i
  have hf : ∀ i, r (f i).1 (f (i + 1)).1 := fun i => hg (f i)
  have path : ∀ d i, Relation.TransGen r (f i).1 (f (i + d + 1)).1 := by
    intro d
    induction d with
    | zero => intro i; exact .single (hf i)
    | succ d ih => intro i; exact .tail (ih i) (hf (i + d + 1))
  obtain ⟨i, j, h1, _, h3⟩ := pg_n n (fun i => (f i).1) fun i _ => (hS _ (f i).2).1
  have p := path (j - i - 1) i
  have e : i + (j - i - 1) + 1 = j := by omega
  rw [e] at p
  have h3' : (f i).1 = (f j).1 := h3
  rw [← h3'] at p
  exact ⟨_, p⟩
/-! stripping: m is the set of classes left, b r the classes below r -/
def st_self (b : Nat → Nat) (S : Nat → Prop) : Prop := ∀ r, S r → ∃ q, S q ∧ (b r).testBit q = true
def st_stuck (b : Nat → Nat) (m : Nat) : Prop := st_self b (fun r => m.testBit r = true)
theorem st_ne0 {a b : Nat} : a &&& b ≠ 0 ↔ ∃ q, a.testBit q = true ∧ b.testBit q = true := by
  constructor
  · intro h
    obtain ⟨q, hq⟩ := Nat.exists_testBit_of_ne_zero h
    rw [Nat.testBit_and, Bool.and_eq_true] at hq
    exact ⟨q, hq⟩
  · rintro ⟨q, h1, h2⟩ z
    have : (a &&& b).testBit q = true := by rw [Nat.testBit_and, h1, h2]; rfl
    rw [z, Nat.zero_testBit] at this; exact absurd this (by decide)
def st_s (b : Nat → Nat) : Nat → Nat → Nat
  | 0, m => m
  | k + 1, m => if b k &&& st_s b k m = 0 then gp_nd (st_s b k m) (2 ^ k) else st_s b k m
theorem st_nd {l k r : Nat} : (gp_nd l (2 ^ k)).testBit r = true ↔ l.testBit r = true ∧ k ≠ r := by
  rw [gp_nd_bit, Nat.testBit_two_pow]
  simp only [Bool.and_eq_true, Bool.not_eq_true', decide_eq_false_iff_not]

theorem st_1 {b : Nat → Nat} {k m r : Nat} (h : (st_s b (k + 1) m).testBit r = true) : (st_s b k m).testBit r = true := by
  unfold st_s at h
  split at h
  · exact (st_nd.mp h).1
  · exact h
theorem st_sub {b : Nat → Nat} {m r : Nat} : ∀ k, (st_s b k m).testBit r = true → m.testBit r = true := by
  intro k
  induction k with
  | zero => exact fun h => h
  | succ k ih => exact fun h => ih (st_1 h)
theorem st_keep {b : Nat → Nat} {m : Nat} {S : Nat → Prop} (hS : st_self b S) (hm : ∀ r, S r → m.testBit r = true) : ∀ k r, S r → (st_s b k m).testBit r = true := by
  intro k
  induction k with
  | zero => exact hm
  | succ k ih =>
    intro r hr
    unfold st_s
    split
    · rename_i z
      refine st_nd.mpr ⟨ih r hr, fun e => ?_⟩
      subst e
      obtain ⟨q, h1, h2⟩ := hS k hr
      exact absurd z (st_ne0.mpr ⟨q, h2, ih q h1⟩)
    · exact ih r hr
theorem st_eq {b : Nat → Nat} {m : Nat} : ∀ k, st_s b k m = m → ∀ r, r < k → m.testBit r = true → ∃ q, m.testBit q = true ∧ (b r).testBit q = true := by
  intro k
  induction k with
  | zero => intro _ r hr; omega
  | succ k ih =>
    intro h r hr hm
    have e : st_s b k m = m := by
      refine Nat.eq_of_testBit_eq fun i => ?_
      cases z : m.testBit i
      · exact gp_nt fun w => by rw [st_sub k w] at z; exact absurd z (by decide)
      · rw [← h] at z; exact st_1 z
    by_cases z : r = k
    · subst z
      unfold st_s at h
      split at h
      · rw [← h] at hm; exact absurd rfl (st_nd.mp hm).2
      · rename_i w
        rw [e] at w
        obtain ⟨q, h1, h2⟩ := st_ne0.mp w
        exact ⟨q, h2, h1⟩
    · exact ih e r (by omega) hm
theorem st_fix {b : Nat → Nat} {m : Nat} (h : st_stuck b m) (k : Nat) : st_s b k m = m := by
  refine Nat.eq_of_testBit_eq fun i => ?_
  cases z : m.testBit i
  · exact gp_nt fun w => by rw [st_sub k w] at z; exact absurd z (by decide)
  · exact st_keep h (fun _ h => h) k i z
theorem st_cn {b : Nat → Nat} {m n : Nat} (hm : ∀ r, m.testBit r = true → r < n) (h : st_s b n m ≠ m) : cn (fun i => (st_s b n m).testBit i) n < cn (fun i => m.testBit i) n := by
  refine cn_lt n (fun i _ z => st_sub n z) ?_
  obtain ⟨i, hi⟩ := Nat.exists_testBit_ne_of_ne h
  cases z : m.testBit i
  · exact absurd (z ▸ gp_nt fun w => by rw [st_sub n w] at z; exact absurd z (by decide)) hi
  · refine ⟨i, hm i z, gp_nt fun w => ?_, z⟩
    rw [w, z] at hi; exact hi rfl
theorem cn_0 {f : Nat → Bool} : ∀ n, cn f n = 0 → ∀ i, i < n → f i = false := by
  intro n
  induction n with
  | zero => intro _ i hi; omega
  | succ n ih =>
    intro h i hi
    have h2 : cn f n + (if f n then 1 else 0) = 0 := h
    by_cases e : i = n
    · rw [e]
      cases z : f n
      · rfl
      · rw [z] at h2; simp only [if_true] at h2; omega
    · exact ih (by omega) i (by omega)
end
section
section
variable {A mN mD n dc ca : Nat} {kd fs sn th tl cz dk di dj bl : Nat → Nat}
variable {s : XS}
theorem xw_same {D : Nat → Prop} {post : Int32 → Prop} {x y p : Nat} {vx vp vy : Int32} (ex : vx = nI x) (ep : vp = nI p) (ey : vy = nI y) (hA : A ≤ 4) (hD : ∀ x, D x → x < 32) (R : xr_I D A s.2.2.1 s.2.2.2.1 s.2.2.2.2.1) (hx : D x) (hy : D y) (hp : gp_P A p) (h1 : xs_e s x y p → post 1) (h0 : ¬ xs_e s x y p → post 0) : wpX_same post (xt A mN mD n dc ca kd fs sn th tl cz dk di dj bl s) vx vp vy := by
  subst ex ep ey
  have Rx := R x hx
  have Ry := R y hy
  have bx := hD x hx
  have bY := hD y hy
  have cx := hD _ Rx.1
  have cy := hD _ Ry.1
  have pw := gp_pw hA
  have fx := Rx.2.2.2.2
  have e1 : nA s.2.2.1 (nI x).toNatClampNeg = nI (s.2.2.1 x) := nA_at (by omega)
  unfold wpX_same
  refine And.intro (vp_in_nI bx (by decide)) (And.intro (vp_in_nI bY (by decide)) ?_)
  by_cases e : s.2.2.1 x = s.2.2.1 y
  · have hm : gp_P A (xp_at s x p y) := gp_P_cm (gp_P_cm (gp_P_iv Rx.2.2.2.1) hp) Ry.2.2.2.1
    have ml := gp_mv_lt (xp_at s x p y)
    refine br_t ((br_aa (by omega) (by omega) (by omega) (by omega)).mpr e) (xw_atRoots rfl rfl rfl bx bY Rx.2.2.2.1 hp.1 Ry.2.2.2.1.1 (xw_moved' rfl hm.1 (And.intro (vp_in_nI bx (by decide)) (And.intro (by rw [e1]; exact vp_in_nI cx (by decide)) ?_))))
    have key : gp_nd (gp_mv (xp_at s x p y)) (s.2.2.2.2.1 (s.2.2.1 x)) = 0 ↔ xs_e s x y p := by
      rw [gp_nd_0]
      constructor
      · intro z
        refine ⟨e, fun a ha hf => ?_⟩
        have : gp_ap (xp_at s x p y) a = a := Classical.byContradiction fun no => by
          rw [z a (gp_mv_bit.mpr ⟨ha, no⟩)] at hf; exact absurd hf (by decide)
        rw [xp_at_ap ha] at this
        rw [← gp_iv_r Rx.2.2.2.1 (gp_ap_lt p _), this]
      · rintro ⟨_, z⟩ a ha
        obtain ⟨h1, h2⟩ := gp_mv_bit.mp ha
        refine gp_nf fun no => h2 ?_
        rw [xp_at_ap h1, z a h1 no, gp_iv_l Rx.2.2.2.1 h1]
    have e2 : (nI (gp_mv (xp_at s x p y)) &&& (nA s.2.2.2.2.1 (nA s.2.2.1 (nI x).toNatClampNeg).toNatClampNeg ^^^ (-1)) = 0) ↔ gp_nd (gp_mv (xp_at s x p y)) (s.2.2.2.2.1 (s.2.2.1 x)) = 0 := by
      rw [e1, nA_at (by omega)]; exact br_nd0 (by omega)
    exact br_c (fun w => h1 (key.mp (e2.mp w))) (fun w => h0 fun z => w (e2.mpr (key.mpr z)))
  · exact br_f (fun w => e ((br_aa (by omega) (by omega) (by omega) (by omega)).mp w)) (h0 fun z => e z.1)
theorem xw_holds {D : Nat → Prop} {post : Int32 → Prop} {k i j b : Nat} {vk vi vj vb : Int32} (ek : vk = nI k) (ei : vi = nI i) (ej : vj = nI j) (eb : vb = nI b) (hA : A ≤ 4) (hD : ∀ x, D x → x < 32) (R : xr_I D A s.2.2.1 s.2.2.2.1 s.2.2.2.2.1) (hk : k < 4294967296) (hj : D (b + j)) (hi : k = 0 → D (b + i)) (hi' : k ≠ 0 → i < A) (h1 : (k = 0 → xs_e s (b + i) (b + j) 228) → (k ≠ 0 → xs_o s (b + j) i) → post 1) (h0 : ¬ ((k = 0 → xs_e s (b + i) (b + j) 228) ∧ (k ≠ 0 → xs_o s (b + j) i)) → post 0) : wpX_holds post (xt A mN mD n dc ca kd fs sn th tl cz dk di dj bl s) vk vi vj vb := by
  subst ek ei ej eb
  have pw := gp_pw hA
  unfold wpX_holds
  by_cases z : k = 0
  · refine br_t (by rw [z]; rfl) (xw_same (x := b + i) (y := b + j) (p := 228) (nI_add _ _) rfl (nI_add _ _) hA hD R (hi z) hj (gp_P_id A) (fun w => ⟨rfl, h1 (fun _ => w) (fun y => absurd z y)⟩) (fun w => ⟨rfl, h0 fun y => w (y.1 z)⟩))
  · have Rj := R _ hj
    have fj := Rj.2.2.2.2
    have hi2 := hi' z
    have il := gp_im_lt (s.2.2.2.1 (b + j)) (s.2.2.2.2.1 (s.2.2.1 (b + j)))
    refine br_f (by rw [show (0 : Int32) = nI 0 from rfl, br_eq hk (by decide)]; exact z) (xw_offs (t := b + j) (nI_add _ _) (hD _ hj) Rj.2.2.2.1.1 (hD _ Rj.1) (by omega) ?_)
    refine br_c (fun w => h0 fun y => ?_) (fun w => h1 (fun y => absurd y z) fun _ => ?_)
    · have := xr_om.mp (y.2 z)
      rw [(br_bit (by omega) (by omega)).mp w] at this; exact absurd this (by decide)
    · exact xr_om.mpr (gp_nf fun y => w ((br_bit (by omega) (by omega)).mpr y))
theorem xw_rigid {post : Int32 → Prop} {t : Nat} {x : Int32} (ex : x = nI t) (hn : n ≤ 16) (W : fd_wf n A kd fs sn th) (ht : t < n) (h1 : fd_rg kd t → post 1) (h0 : ¬ fd_rg kd t → post 0) : wpX_rigid post (xt A mN mD n dc ca kd fs sn th tl cz dk di dj bl s) x := by
  subst ex
  have wt := (W t ht).1
  have vt : vp_in (nI t) 16 := vp_in_nI (by omega) (by decide)
  have q : ∀ (j : Nat) (v : Int32), v = nI j → j < 4294967296 → (nA kd (nI t).toNatClampNeg = v ↔ kd t = j) := fun j v hv hj => br_aq hv (by omega) (by omega) hj
  unfold wpX_rigid
  unfold fd_rg at h1 h0
  refine And.intro vt (br_c (fun w => h0 ?_) (fun w => And.intro vt (br_c (fun v => h0 ?_) (fun v => h1 ?_))))
  · have := (q 0 0 rfl (by decide)).mp w; omega
  · have := (q 3 3 rfl (by decide)).mp v; omega
  · have z1 : kd t ≠ 0 := fun z => w ((q 0 0 rfl (by decide)).mpr z)
    have z2 : kd t ≠ 3 := fun z => v ((q 3 3 rfl (by decide)).mpr z)
    omega
theorem xw_differ {post : Int32 → Prop} {t u : Nat} {x y : Int32} (ex : x = nI t) (ey : y = nI u) (hA : A ≤ 4) (hn : n ≤ 16) (W : fd_wf n A kd fs sn th) (ht : t < n) (hu : u < n) (h1 : ct_df kd fs t u → post 1) (h0 : ¬ ct_df kd fs t u → post 0) : wpX_differ post (xt A mN mD n dc ca kd fs sn th tl cz dk di dj bl s) x y := by
  subst ex ey
  have wt := W t ht
  have wu := W u hu
  have vt : vp_in (nI t) 16 := vp_in_nI (by omega) (by decide)
  have vu : vp_in (nI u) 16 := vp_in_nI (by omega) (by decide)
  unfold wpX_differ
  refine xw_rigid rfl hn W ht (fun rt => br_f (by decide) (xw_rigid rfl hn W hu (fun ru => br_f (by decide) (And.intro vt (And.intro vu ?_))) (fun ru => br_t rfl (h0 fun z => ru z.2.1)))) (fun rt => br_t rfl (h0 fun z => rt z.1))
  by_cases ek : kd t = kd u
  · refine br_t ((br_aa (by omega) (by omega) (by omega) (by omega)).mpr ek) (And.intro vt ?_)
    by_cases k2 : kd t = 2
    · have := wt.2.2.1 k2
      have := wu.2.2.1 (by omega)
      refine br_t ((br_aq (j := 2) rfl (by omega) (by omega) (by decide)).mpr k2) (And.intro vt (And.intro vu ?_))
      by_cases e : fs t = fs u
      · exact br_t ((br_aa (by omega) (by omega) (by omega) (by omega)).mpr e) (h0 fun z => by rcases z.2.2 with w | w <;> omega)
      · exact br_f (fun w => e ((br_aa (by omega) (by omega) (by omega) (by omega)).mp w)) (h1 ⟨rt, ru, Or.inr ⟨k2, e⟩⟩)
    · exact br_f (fun w => k2 ((br_aq (j := 2) rfl (by omega) (by omega) (by decide)).mp w)) (h0 fun z => by rcases z.2.2 with w | w <;> omega)
  · exact br_f (fun w => ek ((br_aa (by omega) (by omega) (by omega) (by omega)).mp w)) (h1 ⟨rt, ru, Or.inl ek⟩)
theorem xw_strip {post : Int32 → Prop} {m : Nat} {x : Int32} (ex : x = nI m) (hn : n ≤ 16) (hm : m < 65536) (hb : ∀ r, r < n → bl r < 65536) (h : post (nI (st_s bl n m))) : wpX_strip post (xt A mN mD n dc ca kd fs sn th tl cz dk di dj bl s) x := by
  subst ex
  unfold wpX_strip
  refine loop_0 (fun k i (l : Nat) => wX_strip_4 post 228 16 (nI A) (nI (2 ^ A - 1)) (nI mN) (nI mD) (nI n) (nI dc) (nI ca) (nI (s.1)) (nI (s.2.1)) (nA kd) (nA fs) (nA sn) (nA th) (nA tl) (nA cz) (nA dk) (nA di) (nA dj) (nA (s.2.2.1)) (nA (s.2.2.2.1)) (nA (s.2.2.2.2.1)) (nA bl) (nA (s.2.2.2.2.2)) k (nI l) (nI i)) (fun i l => l = st_s bl i m ∧ l < 65536) n m ⟨rfl, hm⟩ ?_ ?_
  · rintro k l ⟨I1, I2⟩
    exact br_t (nI_le (Nat.le_refl _) (by omega)) (by rw [I1]; exact h)
  · rintro k i l hi ⟨I1, I2⟩ next
    have := hb i hi
    have e : nA bl (nI i).toNatClampNeg &&& nI l = nI (bl i &&& l) := by rw [nA_at (by omega), nx_and]
    have lt : bl i &&& l < 65536 := Nat.and_lt_two_pow (n := 16) _ I2
    refine br_f (nI_ge hi (by omega)) (And.intro (vp_in_nI (by omega) (by decide)) ?_)
    have q : (nA bl (nI i).toNatClampNeg &&& nI l = 0) ↔ bl i &&& l = 0 := by
      rw [e, show (0 : Int32) = nI 0 from rfl, br_eq (by omega) (by decide)]
    refine br_c (fun w => nm_r (e' := nI (gp_nd l (2 ^ i))) ?_ (nm_r (nI_1 i) (next _ ⟨?_, ?_⟩))) (fun w => nm_r (nI_1 i) (next l ⟨?_, I2⟩))
    · rw [br_1 (by omega), br_nd (by omega)]
    · unfold st_s; rw [← I1, if_pos (q.mp w)]
    · have := br_nl l (2 ^ i); omega
    · unfold st_s; rw [← I1, if_neg (fun z => w (q.mpr z))]
end
end
section
section
variable {n A : Nat} {kd fs sn th : Nat → Nat} {C P F b : Nat → Nat} {m0 : Nat}
theorem xr_l (hA : A ≤ 4) (R : xr_I (fun t => t < n) A C P F) {x y : Nat} (hx : x < n) (hy : y < n) : ct_l A (xr_e C P F) x y ↔ C x = C y :=
  ⟨fun ⟨_, _, z⟩ => z.1, fun e => ⟨_, xr_bt hA R hx hy e⟩⟩
theorem ct_ch_lt (W : fd_wf n A kd fs sn th) {v w : Nat} (hv : v < n) (h : ct_ch kd fs sn v w) : w < n := by
  have := W v hv
  rcases h with ⟨k, e⟩ | ⟨k | k, e⟩
  · have := (this.2.2.2.2.2 k).1; omega
  · have := (this.2.2.2.2.2 k).2; omega
  · have := (this.2.2.2.2.1 k).2; omega
theorem xr_ov (hA : A ≤ 4) (W : fd_wf n A kd fs sn th) (R : xr_I (fun t => t < n) A C P F) {t u : Nat} : ct_ov n A kd fs sn (xr_e C P F) t u ↔ t < n ∧ u < n ∧ ∃ v w, v < n ∧ C t = C v ∧ ct_ch kd fs sn v w ∧ C w = C u := by
  constructor
  · rintro ⟨ht, hu, v, w, hv, h1, h2, h3⟩
    exact ⟨ht, hu, v, w, hv, (xr_l hA R ht hv).mp h1, h2, (xr_l hA R (ct_ch_lt W hv h2) hu).mp h3⟩
  · rintro ⟨ht, hu, v, w, hv, h1, h2, h3⟩
    exact ⟨ht, hu, v, w, hv, (xr_l hA R ht hv).mpr h1, h2, (xr_l hA R (ct_ch_lt W hv h2) hu).mpr h3⟩
theorem xr_ringA (hA : A ≤ 4) (W : fd_wf n A kd fs sn th) (R : xr_I (fun t => t < n) A C P F) (hm : ∀ r, m0.testBit r = true ↔ ∃ t, t < n ∧ C t = r) (hb : ∀ r q, r < n → ((b r).testBit q = true ↔ ∃ v, v < n ∧ C v = r ∧ ∃ w, ct_ch kd fs sn v w ∧ C w = q))
    {m : Nat} (hs : ∀ r, m.testBit r = true → m0.testBit r = true) (st : st_stuck b m) (h0 : m ≠ 0) : ct_rg n A kd fs sn (xr_e C P F) := by
  have root : ∀ r, m.testBit r = true → r < n ∧ C r = r := fun r hr => by
    obtain ⟨t, ht, e⟩ := (hm r).mp (hs r hr)
    rw [← e]; exact ⟨(R t ht).1, (R t ht).2.1⟩
  refine tg_ring (n := n) (S := fun r => m.testBit r = true) (fun x hx => ⟨(root x hx).1, ?_⟩) (Nat.exists_testBit_of_ne_zero h0)
  obtain ⟨q, h1, h2⟩ := st x hx
  obtain ⟨v, hv, e1, w, hw, e2⟩ := (hb x q (root x hx).1).mp h2
  exact ⟨q, h1, (xr_ov hA W R).mpr ⟨(root x hx).1, (root q h1).1, v, w, hv, by rw [(root x hx).2, e1], hw, by rw [(root q h1).2, e2]⟩⟩
theorem xr_ringB (hA : A ≤ 4) (W : fd_wf n A kd fs sn th) (R : xr_I (fun t => t < n) A C P F) (hm : ∀ r, m0.testBit r = true ↔ ∃ t, t < n ∧ C t = r) (hb : ∀ r q, r < n → ((b r).testBit q = true ↔ ∃ v, v < n ∧ C v = r ∧ ∃ w, ct_ch kd fs sn v w ∧ C w = q))
    (h : ct_rg n A kd fs sn (xr_e C P F)) : ∃ S : Nat → Prop, st_self b S ∧ (∀ r, S r → m0.testBit r = true) ∧ ∃ r, S r := by
  obtain ⟨t, ht⟩ := h
  refine ⟨fun r => ∃ x, x < n ∧ C x = r ∧ Relation.TransGen (ct_ov n A kd fs sn (xr_e C P F)) t x ∧ Relation.TransGen (ct_ov n A kd fs sn (xr_e C P F)) x t, ?_, ?_, ?_⟩
  · rintro r ⟨x, hx, e, h1, h2⟩
    obtain ⟨y, g1, g2⟩ := tg_head h2
    have g3 := (xr_ov hA W R).mp g1
    obtain ⟨_, hy, v, w, hv, e1, hw, e2⟩ := g3
    have hr : r < n := by rw [← e]; exact (R x hx).1
    refine ⟨C y, ⟨y, hy, rfl, .tail h1 g1, ?_⟩, (hb r _ hr).mpr ⟨v, hv, by rw [← e1, e], w, hw, e2⟩⟩
    rcases g2 with z | z
    · rw [z]; exact ht
    · exact z
  · rintro r ⟨x, hx, e, _⟩
    exact (hm r).mpr ⟨x, hx, e⟩
  · obtain ⟨y, g1, g2⟩ := tg_head ht
    have g3 := (xr_ov hA W R).mp g1
    exact ⟨C t, t, g3.1, rfl, ht, ht⟩
end
section
variable {A mN mD n dc ca : Nat} {kd fs sn th tl cz dk di dj bl : Nat → Nat}
variable {s : XS}
theorem xw_r138 {post : Int32 → SX → Prop} {m0 : Nat} (hA : A ≤ 4) (hn : n ≤ 16) (W : fd_wf n A kd fs sn th) (R : xr_I (fun t => t < n) A s.2.2.1 s.2.2.2.1 s.2.2.2.2.1) (hm0 : m0 < 65536) (hbl : ∀ r, r < n → bl r < 65536) (hm : ∀ r, m0.testBit r = true ↔ ∃ t, t < n ∧ s.2.2.1 t = r) (hb : ∀ r q, r < n → ((bl r).testBit q = true ↔ ∃ v, v < n ∧ s.2.2.1 v = r ∧ ∃ w, ct_ch kd fs sn v w ∧ s.2.2.1 w = q))
    (h1 : ct_rg n A kd fs sn (xs_e s) → post 1 (xt A mN mD n dc ca kd fs sn th tl cz dk di dj bl s)) (h0 : ¬ ct_rg n A kd fs sn (xs_e s) → post 0 (xt A mN mD n dc ca kd fs sn th tl cz dk di dj bl s)) : ∃ n138 : Nat, wX_ring_138 post 228 16 (nI A) (nI (2 ^ A - 1)) (nI mN) (nI mD) (nI n) (nI dc) (nI ca) (nI (s.1)) (nI (s.2.1)) (nA kd) (nA fs) (nA sn) (nA th) (nA tl) (nA cz) (nA dk) (nA di) (nA dj) (nA (s.2.2.1)) (nA (s.2.2.2.1)) (nA (s.2.2.2.2.1)) (nA bl) (nA (s.2.2.2.2.2)) n138 (nI m0) 0 := by
  have lt0 : ∀ m : Nat, (∀ r, m.testBit r = true → m0.testBit r = true) → ∀ r, m.testBit r = true → r < n := fun m hs r hr => by
    obtain ⟨t, ht, e⟩ := (hm r).mp (hs r hr)
    rw [← e]; exact (R t ht).1
  have no : ∀ m : Nat, (∀ S : Nat → Prop, st_self bl S → (∀ r, S r → m0.testBit r = true) → ∀ r, S r → m.testBit r = true) → m = 0 → ¬ ct_rg n A kd fs sn (xs_e s) := fun m hh e hr => by
    obtain ⟨S, g1, g2, r, g3⟩ := xr_ringB hA W R hm hb hr
    have := hh S g1 g2 r g3
    rw [e, Nat.zero_testBit] at this; exact absurd this (by decide)
  refine loop_0 (fun k i (m : Nat) => wX_ring_138 post 228 16 (nI A) (nI (2 ^ A - 1)) (nI mN) (nI mD) (nI n) (nI dc) (nI ca) (nI (s.1)) (nI (s.2.1)) (nA kd) (nA fs) (nA sn) (nA th) (nA tl) (nA cz) (nA dk) (nA di) (nA dj) (nA (s.2.2.1)) (nA (s.2.2.2.1)) (nA (s.2.2.2.2.1)) (nA bl) (nA (s.2.2.2.2.2)) k (nI m) (nI i)) (fun i m => m < 65536 ∧ (∀ r, m.testBit r = true → m0.testBit r = true) ∧ (∀ S : Nat → Prop, st_self bl S → (∀ r, S r → m0.testBit r = true) → ∀ r, S r → m.testBit r = true) ∧ (cn (fun j => m.testBit j) n + i ≤ n ∨ st_stuck bl m)) n m0 ⟨hm0, fun _ z => z, fun S _ z => z, Or.inl (cn_le_n _ _)⟩ ?_ ?_
  · rintro k m ⟨I1, I2, I3, I4⟩
    have q : (nI m = 0) ↔ m = 0 := by rw [show (0 : Int32) = nI 0 from rfl, br_eq (by omega) (by decide)]
    refine br_t (nI_le (Nat.le_refl _) (by omega)) (br_c (fun w => h0 (no m I3 (q.mp w))) (fun w => h1 ?_))
    have w' : m ≠ 0 := fun z => w (q.mpr z)
    rcases I4 with z | z
    · have z0 : cn (fun j => m.testBit j) n = 0 := by omega
      obtain ⟨i, hi⟩ := Nat.exists_testBit_of_ne_zero w'
      have := cn_0 n z0 i (lt0 m I2 i hi)
      rw [hi] at this; exact absurd this (by decide)
    · exact xr_ringA hA W R hm hb I2 z w'
  · rintro k i m hi ⟨I1, I2, I3, I4⟩ next
    have q : (nI m = 0) ↔ m = 0 := by rw [show (0 : Int32) = nI 0 from rfl, br_eq (by omega) (by decide)]
    refine br_f (nI_ge hi (by omega)) (br_c (fun w => br_t w (h0 (no m I3 (q.mp w)))) (fun w => xw_strip rfl hn I1 hbl (nm_r (nI_1 i) (next _ ⟨?_, ?_, ?_, ?_⟩))))
    · exact Nat.lt_of_le_of_lt (Nat.le_of_testBit fun r hr => st_sub n hr) I1
    · exact fun r hr => I2 r (st_sub n hr)
    · exact fun S g1 g2 r hr => st_keep g1 (I3 S g1 g2) n r hr
    · by_cases z : st_s bl n m = m
      · exact Or.inr (by rw [z]; exact fun r hr => st_eq n z r (lt0 m I2 r hr) hr)
      · rcases I4 with y | y
        · have := st_cn (lt0 m I2) z
          exact Or.inl (by omega)
        · exact absurd (st_fix y n) z
end
end
section
section
variable {A mN mD n dc ca : Nat} {kd fs sn th tl cz dk di dj bl : Nat → Nat}
variable {s : XS}
theorem xw_r27 {post : Int32 → SX → Prop} (hA : A ≤ 4) (hn : n ≤ 16) (W : fd_wf n A kd fs sn th) (R : xr_I (fun t => t < n) A s.2.2.1 s.2.2.2.1 s.2.2.2.2.1) (hz : ∀ r, r < n → bl r = 0)
    (h1 : ∀ bl', ct_rg n A kd fs sn (xs_e s) → post 1 (xt A mN mD n dc ca kd fs sn th tl cz dk di dj (bl') s)) (h0 : ∀ bl', ¬ ct_rg n A kd fs sn (xs_e s) → post 0 (xt A mN mD n dc ca kd fs sn th tl cz dk di dj (bl') s)) : ∃ n27 : Nat, wX_ring_27 post 228 16 (nI A) (nI (2 ^ A - 1)) (nI mN) (nI mD) (nI n) (nI dc) (nI ca) (nI (s.1)) (nI (s.2.1)) n27 0 0 (nA kd) (nA fs) (nA sn) (nA th) (nA tl) (nA cz) (nA dk) (nA di) (nA dj) (nA (s.2.2.1)) (nA (s.2.2.2.1)) (nA (s.2.2.2.2.1)) (nA bl) (nA (s.2.2.2.2.2)) := by
  have bC : ∀ t, t < n → s.2.2.1 t < n := fun t ht => (R t ht).1
  refine loop_0 (fun k i (st : Nat × (Nat → Nat)) => wX_ring_27 post 228 16 (nI A) (nI (2 ^ A - 1)) (nI mN) (nI mD) (nI n) (nI dc) (nI ca) (nI (s.1)) (nI (s.2.1)) k (nI st.1) (nI i) (nA kd) (nA fs) (nA sn) (nA th) (nA tl) (nA cz) (nA dk) (nA di) (nA dj) (nA (s.2.2.1)) (nA (s.2.2.2.1)) (nA (s.2.2.2.2.1)) (nA (st.2)) (nA (s.2.2.2.2.2))) (fun i st => (∀ r, st.1.testBit r = true ↔ ∃ t, t < i ∧ s.2.2.1 t = r) ∧ (∀ r q, r < n → ((st.2 r).testBit q = true ↔ ∃ v, v < i ∧ s.2.2.1 v = r ∧ ∃ w, ct_ch kd fs sn v w ∧ s.2.2.1 w = q))) n (0, bl) ⟨fun r => ?_, fun r q hr => ?_⟩ ?_ ?_
  · rw [Nat.zero_testBit]
    exact ⟨fun z => absurd z (by decide), fun ⟨t, ht, _⟩ => by omega⟩
  · show (bl r).testBit q = true ↔ _
    rw [hz r hr, Nat.zero_testBit]
    exact ⟨fun z => absurd z (by decide), fun ⟨t, ht, _⟩ => by omega⟩
  · rintro k ⟨m, b⟩ ⟨I1, I2⟩
    have lm : m < 65536 := xr_lt2 (A := 16) fun r hr => by
      obtain ⟨t, ht, e⟩ := (I1 r).mp hr
      have := bC t ht
      omega
    have lb : ∀ r, r < n → b r < 65536 := fun r hr => xr_lt2 (A := 16) fun q hq => by
      obtain ⟨v, hv, _, w, hw, e⟩ := (I2 r q hr).mp hq
      have := bC w (ct_ch_lt W hv hw)
      omega
    exact br_t (nI_le (Nat.le_refl _) (by omega)) (xw_r138 (bl := b) hA hn W R lm lb I1 I2 (h1 b) (h0 b))
  · rintro k i ⟨m, b⟩ hi ⟨I1, I2⟩ next
    have ci := bC i hi
    have wi := W i hi
    have vi : vp_in (nI i) 16 := vp_in_nI (by omega) (by decide)
    have vi2 : vp_in (nI i) 32 := vp_in_nI (by omega) (by decide)
    have eC : nA s.2.2.1 (nI i).toNatClampNeg = nI (s.2.2.1 i) := nA_at (by omega)
    have vc : vp_in (nA s.2.2.1 (nI i).toNatClampNeg) 16 := by rw [eC]; exact vp_in_nI (by omega) (by decide)
    have q : ∀ (j : Nat) (v : Int32), v = nI j → j < 4294967296 → (nA kd (nI i).toNatClampNeg = v ↔ kd i = j) := fun j v hv hj => br_aq hv (by omega) (by omega) hj
    have eA : nI m ||| ((1 : Int32) <<< (nA s.2.2.1 (nI i).toNatClampNeg &&& 31)) = nI (m ||| 2 ^ s.2.2.1 i) := by
      rw [eC, br_1 (by omega), br_or]
    have J1 : ∀ r, (m ||| 2 ^ s.2.2.1 i).testBit r = true ↔ ∃ t, t < i + 1 ∧ s.2.2.1 t = r := fun r => by
      have I1' : m.testBit r = true ↔ ∃ t, t < i ∧ s.2.2.1 t = r := I1 r
      rw [Nat.testBit_or, Bool.or_eq_true, Nat.testBit_two_pow, decide_eq_true_eq, I1']
      constructor
      · rintro (⟨t, ht, e⟩ | e)
        · exact ⟨t, by omega, e⟩
        · exact ⟨i, by omega, e⟩
      · rintro ⟨t, ht, e⟩
        by_cases z : t = i
        · rw [z] at e; exact Or.inr e
        · exact Or.inl ⟨t, by omega, e⟩
    -- one child more below the root of i
    have add : ∀ (b1 : Nat → Nat) (w : Nat), w < n → ud b1 (s.2.2.1 i) (b1 (s.2.2.1 i) ||| 2 ^ s.2.2.1 w) = fun r => if r = s.2.2.1 i then b1 r ||| 2 ^ s.2.2.1 w else b1 r := fun b1 w _ => by
      funext r; unfold ud; split
      · rename_i e; rw [e]
      · rfl
    have upd1 : ∀ (b1 : Nat → Nat) (w : Nat) (x : Int32), w < n → x = nI w → upd (nA b1) (nA s.2.2.1 (nI i).toNatClampNeg).toNatClampNeg ((nA b1 (nA s.2.2.1 (nI i).toNatClampNeg).toNatClampNeg) ||| ((1 : Int32) <<< ((nA s.2.2.1 x.toNatClampNeg) &&& 31))) = nA (ud b1 (s.2.2.1 i) (b1 (s.2.2.1 i) ||| 2 ^ s.2.2.1 w)) := fun b1 w x hw ex => by
      have := bC w hw
      rw [ex, eC, nA_at (by omega), nA_at (by omega), br_1 (by omega), br_or, nA_ud (by omega)]
    have bits : ∀ (b1 : Nat → Nat) (w r q : Nat), (ud b1 (s.2.2.1 i) (b1 (s.2.2.1 i) ||| 2 ^ s.2.2.1 w) r).testBit q = true ↔ (b1 r).testBit q = true ∨ (s.2.2.1 i = r ∧ s.2.2.1 w = q) := fun b1 w r q => by
      unfold ud
      split
      · rename_i e
        rw [Nat.testBit_or, Bool.or_eq_true, Nat.testBit_two_pow, decide_eq_true_eq, e]
        exact or_congr Iff.rfl ⟨fun z => ⟨rfl, z⟩, fun z => z.2⟩
      · rename_i e
        exact ⟨Or.inl, fun z => z.resolve_right fun y => e y.1.symm⟩
    have fin : ∀ b2 : Nat → Nat, (∀ r q, r < n → ((b2 r).testBit q = true ↔ (b r).testBit q = true ∨ (s.2.2.1 i = r ∧ ∃ w, ct_ch kd fs sn i w ∧ s.2.2.1 w = q))) → wX_ring_27 post 228 16 (nI A) (nI (2 ^ A - 1)) (nI mN) (nI mD) (nI n) (nI dc) (nI ca) (nI (s.1)) (nI (s.2.1)) k (nI (m ||| 2 ^ s.2.2.1 i)) (nI (i + 1)) (nA kd) (nA fs) (nA sn) (nA th) (nA tl) (nA cz) (nA dk) (nA di) (nA dj) (nA (s.2.2.1)) (nA (s.2.2.2.1)) (nA (s.2.2.2.2.1)) (nA (b2)) (nA (s.2.2.2.2.2)) := fun b2 hb => by
      refine next (m ||| 2 ^ s.2.2.1 i, b2) ⟨J1, fun r q hr => ?_⟩
      have I2' : (b r).testBit q = true ↔ ∃ v, v < i ∧ s.2.2.1 v = r ∧ ∃ w, ct_ch kd fs sn v w ∧ s.2.2.1 w = q := I2 r q hr
      show (b2 r).testBit q = true ↔ _
      rw [hb r q hr, I2']
      constructor
      · rintro (⟨v, hv, z⟩ | z)
        · exact ⟨v, by omega, z⟩
        · exact ⟨i, by omega, z⟩
      · rintro ⟨v, hv, z⟩
        by_cases e : v = i
        · rw [e] at z; exact Or.inr z
        · exact Or.inl ⟨v, by omega, z⟩
    refine br_f (nI_ge hi (by omega)) (And.intro vi2 (nm_r eA (And.intro vi ?_)))
    by_cases k5 : kd i = 5
    · have f5 := wi.2.2.2.2.2 k5
      refine br_t ((q 5 5 rfl (by decide)).mpr k5) (And.intro vi2 (And.intro vc (And.intro vi (And.intro (by rw [nA_at (by omega)]; exact vp_in_nI (by omega) (by decide)) (And.intro vc (nm_r (upd1 b (fs i) _ (by omega) (nA_at (by omega))) ?_))))))
      refine And.intro vi (br_t ((q 5 5 rfl (by decide)).mpr k5) (And.intro vi2 (And.intro vc (And.intro vi (And.intro (by rw [nA_at (by omega)]; exact vp_in_nI (by omega) (by decide)) (And.intro vc (nm_r (upd1 _ (sn i) _ (by omega) (nA_at (by omega))) (nm_r (nI_1 i) (fin _ fun r q hr => ?_)))))))))
      rw [bits, bits]
      constructor
      · rintro ((z | z) | z)
        · exact Or.inl z
        · exact Or.inr ⟨z.1, fs i, Or.inl ⟨k5, rfl⟩, z.2⟩
        · exact Or.inr ⟨z.1, sn i, Or.inr ⟨Or.inl k5, rfl⟩, z.2⟩
      · rintro (z | ⟨z, w, ⟨_, e⟩ | ⟨_, e⟩, z'⟩)
        · exact Or.inl (Or.inl z)
        · rw [e] at z'; exact Or.inl (Or.inr ⟨z, z'⟩)
        · rw [e] at z'; exact Or.inr ⟨z, z'⟩
    · refine br_f (fun w => k5 ((q 5 5 rfl (by decide)).mp w)) (And.intro vi (br_f (fun w => k5 ((q 5 5 rfl (by decide)).mp w)) (And.intro vi ?_)))
      by_cases k4 : kd i = 4
      · have f4 := wi.2.2.2.2.1 k4
        refine br_t ((q 4 4 rfl (by decide)).mpr k4) (And.intro vi2 (And.intro vc (And.intro vi (And.intro (by rw [nA_at (by omega)]; exact vp_in_nI (by omega) (by decide)) (And.intro vc (nm_r (upd1 b (sn i) _ (by omega) (nA_at (by omega))) (nm_r (nI_1 i) (fin _ fun r q hr => ?_))))))))
        rw [bits]
        constructor
        · rintro (z | z)
          · exact Or.inl z
          · exact Or.inr ⟨z.1, sn i, Or.inr ⟨Or.inr k4, rfl⟩, z.2⟩
        · rintro (z | ⟨z, w, ⟨y, e⟩ | ⟨_, e⟩, z'⟩)
          · exact Or.inl z
          · omega
          · rw [e] at z'; exact Or.inr ⟨z, z'⟩
      · refine br_f (fun w => k4 ((q 4 4 rfl (by decide)).mp w)) (nm_r (nI_1 i) (fin b fun r q hr => ⟨Or.inl, ?_⟩))
        rintro (z | ⟨z, w, ⟨y, e⟩ | ⟨y, e⟩, z'⟩)
        · exact z
        · omega
        · omega
theorem xw_ring {post : Int32 → SX → Prop} (hA : A ≤ 4) (hn : n ≤ 16) (W : fd_wf n A kd fs sn th) (R : xr_I (fun t => t < n) A s.2.2.1 s.2.2.2.1 s.2.2.2.2.1)
    (h1 : ∀ bl', ct_rg n A kd fs sn (xs_e s) → post 1 (xt A mN mD n dc ca kd fs sn th tl cz dk di dj (bl') s)) (h0 : ∀ bl', ¬ ct_rg n A kd fs sn (xs_e s) → post 0 (xt A mN mD n dc ca kd fs sn th tl cz dk di dj (bl') s)) : wpX_ring post (xt A mN mD n dc ca kd fs sn th tl cz dk di dj bl s) := by
  unfold wpX_ring
  refine loop_0 (fun k i (b : Nat → Nat) => wX_ring_4 post 0 228 16 (nI A) (nI (2 ^ A - 1)) (nI mN) (nI mD) (nI n) (nI dc) (nI ca) (nI (s.1)) (nI (s.2.1)) k (nI i) (nA kd) (nA fs) (nA sn) (nA th) (nA tl) (nA cz) (nA dk) (nA di) (nA dj) (nA (s.2.2.1)) (nA (s.2.2.2.1)) (nA (s.2.2.2.2.1)) (nA (b)) (nA (s.2.2.2.2.2))) (fun i b => ∀ r, r < i → b r = 0) n bl (fun r hr => by omega) ?_ ?_
  · rintro k b I
    exact br_t (nI_le (Nat.le_refl _) (by omega)) (xw_r27 (bl := b) hA hn W R I h1 h0)
  · rintro k i b hi I next
    refine br_f (nI_ge hi (by omega)) (And.intro (vp_in_nI (by omega) (by decide)) (nm_r (nA_ud (f := b) (i := i) (x := 0) (by omega)) (nm_r (nI_1 i) (next _ fun r hr => ?_))))
    by_cases e : r = i
    · rw [e, ud_s]
    · rw [ud_n e]; exact I r (by omega)
theorem xw_ct40 {post : Int32 → SX → Prop} {J2 : Int32 → Prop} {t : Nat} (hA : A ≤ 4) (hn : n ≤ 16) (W : fd_wf n A kd fs sn th) (R : xr_I (fun t => t < n) A s.2.2.1 s.2.2.2.1 s.2.2.2.2.1) (ht : t < n)
    (h1 : ∀ u, u < t → s.2.2.1 t = s.2.2.1 u → ct_df kd fs t u → post 1 (xt A mN mD n dc ca kd fs sn th tl cz dk di dj bl s)) (h0 : (∀ u, u < t → s.2.2.1 t = s.2.2.1 u → ¬ ct_df kd fs t u) → J2 (nI (t + 1))) : ∃ n40 : Nat, wX_contradictory_40 post J2 (nI t) 228 16 (nI A) (nI (2 ^ A - 1)) (nI mN) (nI mD) (nI n) (nI dc) (nI ca) (nI (s.1)) (nI (s.2.1)) (nA kd) (nA fs) (nA sn) (nA th) (nA tl) (nA cz) (nA dk) (nA di) (nA dj) (nA (s.2.2.1)) (nA (s.2.2.2.1)) (nA (s.2.2.2.2.1)) (nA bl) (nA (s.2.2.2.2.2)) n40 0 := by
  have bC : ∀ t, t < n → s.2.2.1 t < n := fun t ht => (R t ht).1
  refine loop_0 (fun k i (_ : Unit) => wX_contradictory_40 post J2 (nI t) 228 16 (nI A) (nI (2 ^ A - 1)) (nI mN) (nI mD) (nI n) (nI dc) (nI ca) (nI (s.1)) (nI (s.2.1)) (nA kd) (nA fs) (nA sn) (nA th) (nA tl) (nA cz) (nA dk) (nA di) (nA dj) (nA (s.2.2.1)) (nA (s.2.2.2.1)) (nA (s.2.2.2.2.1)) (nA bl) (nA (s.2.2.2.2.2)) k (nI i)) (fun i _ => ∀ u, u < i → s.2.2.1 t = s.2.2.1 u → ¬ ct_df kd fs t u) t () (fun u hu => by omega) ?_ ?_
  · rintro k _ I
    exact br_t (nI_le (Nat.le_refl _) (by omega)) (nm_r (nI_1 t) (h0 I))
  · rintro k i _ hi I next
    have c1 := bC t ht
    have c2 := bC i (by omega)
    have step : (s.2.2.1 t = s.2.2.1 i → ¬ ct_df kd fs t i) → ∀ u, u < i + 1 → s.2.2.1 t = s.2.2.1 u → ¬ ct_df kd fs t u := fun z u hu => by
      by_cases e : u = i
      · rw [e]; exact z
      · exact I u (by omega)
    refine br_f (nI_ge hi (by omega)) (And.intro (vp_in_nI (by omega) (by decide)) (And.intro (vp_in_nI (by omega) (by decide)) (br_c (fun w => ?_) (fun w => nm_r (nI_1 i) (next () (step fun e => absurd ((br_aa (by omega) (by omega) (by omega) (by omega)).mpr e) w))))))
    have e := (br_aa (by omega) (by omega) (by omega) (by omega)).mp w
    exact xw_differ rfl rfl hA hn W ht (by omega) (fun z => br_f (by decide) (h1 i hi e z)) (fun z => br_t rfl (nm_r (nI_1 i) (next () (step fun _ => z))))
theorem xw_contra {post : Int32 → SX → Prop} (hA : A ≤ 4) (hn : n ≤ 16) (W : fd_wf n A kd fs sn th) (R : xr_I (fun t => t < n) A s.2.2.1 s.2.2.2.1 s.2.2.2.2.1)
    (h1 : ∀ bl', ct n A kd fs sn (xs_e s) (xs_o s) → post 1 (xt A mN mD n dc ca kd fs sn th tl cz dk di dj (bl') s)) (h0 : ∀ bl', ¬ ct n A kd fs sn (xs_e s) (xs_o s) → post 0 (xt A mN mD n dc ca kd fs sn th tl cz dk di dj (bl') s)) : wpX_contradictory post (xt A mN mD n dc ca kd fs sn th tl cz dk di dj bl s) := by
  unfold wpX_contradictory
  refine loop_0 (fun k i (_ : Unit) => wX_contradictory_2 post 228 16 (nI A) (nI (2 ^ A - 1)) (nI mN) (nI mD) (nI n) (nI dc) (nI ca) (nI (s.1)) (nI (s.2.1)) (nA kd) (nA fs) (nA sn) (nA th) (nA tl) (nA cz) (nA dk) (nA di) (nA dj) (nA (s.2.2.1)) (nA (s.2.2.2.1)) (nA (s.2.2.2.2.1)) (nA bl) (nA (s.2.2.2.2.2)) k (nI i)) (fun i _ => (∀ t, t < i → kd t = 1 → ¬ xs_o s t (fs t)) ∧ ∀ t, t < i → ∀ u, u < t → s.2.2.1 t = s.2.2.1 u → ¬ ct_df kd fs t u) n () ⟨fun u hu => by omega, fun u hu => by omega⟩ ?_ ?_
  · rintro k _ ⟨I1, I2⟩
    refine br_t (nI_le (Nat.le_refl _) (by omega)) (xw_ring hA hn W R (fun bl' z => ⟨rfl, h1 bl' (Or.inr (Or.inr z))⟩) (fun bl' z => ⟨rfl, h0 bl' ?_⟩))
    rintro (⟨t, ht, k1, y⟩ | ⟨t, u, ht, hu, y, y'⟩ | y)
    · exact I1 t ht k1 y
    · have e := (xr_l hA R ht hu).mp y
      rcases Nat.lt_trichotomy u t with w | w | w
      · exact I2 t ht u w e y'
      · subst w; rcases y'.2.2 with v | v
        · exact v rfl
        · exact v.2 rfl
      · exact I2 u hu t w e.symm (ct_df_s y')
    · exact z y
  · rintro k i _ hi ⟨I1, I2⟩ next
    have wi := W i hi
    have vi : vp_in (nI i) 16 := vp_in_nI (by omega) (by decide)
    have q : (nA kd (nI i).toNatClampNeg = 1 ↔ kd i = 1) := br_aq (j := 1) rfl (by omega) (by omega) (by decide)
    have go : (kd i = 1 → ¬ xs_o s i (fs i)) → ∃ n40 : Nat, wX_contradictory_40 post (wX_contradictory_2 post 228 16 (nI A) (nI (2 ^ A - 1)) (nI mN) (nI mD) (nI n) (nI dc) (nI ca) (nI (s.1)) (nI (s.2.1)) (nA kd) (nA fs) (nA sn) (nA th) (nA tl) (nA cz) (nA dk) (nA di) (nA dj) (nA (s.2.2.1)) (nA (s.2.2.2.1)) (nA (s.2.2.2.2.1)) (nA bl) (nA (s.2.2.2.2.2)) k) (nI i) 228 16 (nI A) (nI (2 ^ A - 1)) (nI mN) (nI mD) (nI n) (nI dc) (nI ca) (nI (s.1)) (nI (s.2.1)) (nA kd) (nA fs) (nA sn) (nA th) (nA tl) (nA cz) (nA dk) (nA di) (nA dj) (nA (s.2.2.1)) (nA (s.2.2.2.1)) (nA (s.2.2.2.2.1)) (nA bl) (nA (s.2.2.2.2.2)) n40 0 := fun z =>
      xw_ct40 hA hn W R hi (fun u hu e y => h1 bl (Or.inr (Or.inl ⟨i, u, hi, by omega, (xr_l hA R hi (by omega)).mpr e, y⟩))) (fun y => next () ⟨fun t ht => by
        by_cases e : t = i
        · rw [e]; exact z
        · exact I1 t (by omega), fun t ht => by
        by_cases e : t = i
        · rw [e]; exact y
        · exact I2 t (by omega)⟩)
    refine br_f (nI_ge hi (by omega)) (And.intro vi (br_c (fun w => And.intro vi ?_) (fun w => go fun z => absurd (q.mpr z) w)))
    have k1 := q.mp w
    have f1 := wi.2.1 k1
    refine xw_holds (D := fun t => t < n) (k := 1) (i := fs i) (j := i) (b := 0) rfl (nA_at (by omega)) rfl rfl hA (fun x hx => by have : x < n := hx; omega) R (by decide) (by rw [Nat.zero_add]; exact hi) (fun z => absurd z (by decide)) (fun _ => f1) (fun _ z => ?_) (fun z => ?_)
    · have := z (by decide)
      rw [Nat.zero_add] at this
      exact br_f (by decide) (h1 bl (Or.inl ⟨i, hi, k1, this⟩))
    · refine br_t rfl (go fun _ y => z ⟨fun v => absurd v (by decide), fun _ => ?_⟩)
      rw [Nat.zero_add]; exact y
end
end
section
/-! the reference's numbers of permutations -/
def yp_l : Nat → List Nat
  | 2 => [228, 225]
  | 3 => [228, 216, 225, 201, 210, 198]
  | _ => [228, 180, 216, 120, 156, 108, 225, 177, 201, 57, 141, 45, 210, 114, 198, 54, 78, 30, 147, 99, 135, 39, 75, 27]
def yp_c (A p : Nat) : Nat := (yp_l A).getD p 0
def yp_np (A : Nat) : Nat := (yp_l A).length
def yp_ix (A c : Nat) : Nat := (yp_l A).idxOf c
theorem yp_c2 : ∀ p, p < 2 → yp_c 2 p < 256 ∧ gp_I (yp_c 2 p) ∧ (∀ a, a < 4 → 2 ≤ a → gp_ap (yp_c 2 p) a = a) ∧ yp_ix 2 (yp_c 2 p) = p := by decide +kernel
theorem yp_c3 : ∀ p, p < 6 → yp_c 3 p < 256 ∧ gp_I (yp_c 3 p) ∧ (∀ a, a < 4 → 3 ≤ a → gp_ap (yp_c 3 p) a = a) ∧ yp_ix 3 (yp_c 3 p) = p := by decide +kernel
theorem yp_c4 : ∀ p, p < 24 → yp_c 4 p < 256 ∧ gp_I (yp_c 4 p) ∧ (∀ a, a < 4 → 4 ≤ a → gp_ap (yp_c 4 p) a = a) ∧ yp_ix 4 (yp_c 4 p) = p := by decide +kernel
theorem yp_i2 : ∀ c, c < 256 → gp_I c → (∀ a, a < 4 → 2 ≤ a → gp_ap c a = a) → yp_ix 2 c < 2 ∧ yp_c 2 (yp_ix 2 c) = c := by decide +kernel
theorem yp_i3 : ∀ c, c < 256 → gp_I c → (∀ a, a < 4 → 3 ≤ a → gp_ap c a = a) → yp_ix 3 c < 6 ∧ yp_c 3 (yp_ix 3 c) = c := by decide +kernel
theorem yp_i4 : ∀ c, c < 256 → gp_I c → (∀ a, a < 4 → 4 ≤ a → gp_ap c a = a) → yp_ix 4 c < 24 ∧ yp_c 4 (yp_ix 4 c) = c := by decide +kernel
theorem yp_cP {A p : Nat} (hA : yp_A A) (hp : p < yp_np A) : gp_P A (yp_c A p) ∧ yp_ix A (yp_c A p) = p := by
  rcases hA with e | e | e <;> subst e
  · obtain ⟨h1, h2, h3, h4⟩ := yp_c2 p hp; exact ⟨⟨h1, h2, h3⟩, h4⟩
  · obtain ⟨h1, h2, h3, h4⟩ := yp_c3 p hp; exact ⟨⟨h1, h2, h3⟩, h4⟩
  · obtain ⟨h1, h2, h3, h4⟩ := yp_c4 p hp; exact ⟨⟨h1, h2, h3⟩, h4⟩
theorem yp_iP {A c : Nat} (hA : yp_A A) (hc : gp_P A c) : yp_ix A c < yp_np A ∧ yp_c A (yp_ix A c) = c := by
  rcases hA with e | e | e <;> subst e
  · exact yp_i2 c hc.1 hc.2.1 hc.2.2
  · exact yp_i3 c hc.1 hc.2.1 hc.2.2
  · exact yp_i4 c hc.1 hc.2.1 hc.2.2
theorem yp_n24 {A : Nat} (hA : yp_A A) : 0 < yp_np A ∧ yp_np A ≤ 24 := by
  rcases hA with e | e | e <;> subst e <;> decide
theorem yp_0 {A : Nat} (hA : yp_A A) : yp_ix A 228 = 0 ∧ yp_c A 0 = 228 := by
  rcases hA with e | e | e <;> subst e <;> decide
theorem yp_inj {A c d : Nat} (hA : yp_A A) (hc : gp_P A c) (hd : gp_P A d) (h : yp_ix A c = yp_ix A d) : c = d := by
  rw [← (yp_iP hA hc).2, ← (yp_iP hA hd).2, h]
/-! the reference's tables as facts -/
def ye (A : Nat) (eq : Nat → Nat) (t u c : Nat) : Prop := (eq (t * 16 + u)).testBit (yp_ix A c) = true
def yo (off : Nat → Nat) (t a : Nat) : Prop := (off t).testBit a = true
/-- what a pass that changes nothing has looked at -/
def yr (n A : Nat) (kd fs sn th : Nat → Nat) (E : Nat → Nat → Nat → Prop) (O : Nat → Nat → Prop) : Prop :=
  (∀ t, t < n → E t t 228) ∧
  (∀ t, t < n → kd t = 3 → E t (th t) (gp_tr (fs t) (sn t))) ∧
  (∀ t a, t < n → fd_ow A kd fs sn O t a → O t a) ∧
  (∀ t a, t < n → (kd t = 4 ∨ kd t = 5) → O t a → fd_ow A kd fs sn O t a) ∧
  (∀ t a b, t < n → a < A → b < A → O t a → O t b → E t t (gp_tr a b)) ∧
  (∀ t u c, t < n → u < n → gp_P A c → fd_sh kd fs sn E O t u c → E t u c) ∧
  (∀ t u c, t < n → u < n → gp_P A c → (kd t = 4 ∨ kd t = 5) → kd t = kd u → E t u c → fd_sh kd fs sn E O t u c) ∧
  (∀ t u c, t < n → u < n → gp_P A c → E t u c → E u t (gp_iv c)) ∧
  (∀ t u c a, t < n → u < n → gp_P A c → a < A → E t u c → O u a → O t (gp_ap c a)) ∧
  (∀ t c a, t < n → gp_P A c → a < A → E t t c → gp_ap c a ≠ a → O t a) ∧
  (∀ t v c d, t < n → v < n → gp_P A c → gp_P A d → E t t c → E t v d → E t v (gp_cm c d)) ∧
  (∀ t u c, t < n → u < n → t ≠ u → gp_P A c → E t u c → ∃ c0, gp_P A c0 ∧ E t u c0 ∧ ∀ v d, v < n → gp_P A d → E u v d → E t v (gp_cm c0 d)) ∧
  (∀ t a, t < n → O t a → a < A)
theorem yr_Cl {n A : Nat} {kd fs sn th : Nat → Nat} {E : Nat → Nat → Nat → Prop} {O : Nat → Nat → Prop} (hA : A ≤ 4) (h : yr n A kd fs sn th E O) : fd_Cl n A kd fs sn th E O := by
  obtain ⟨h1, h2, h3, h4, h5, h6, h7, h8, h9, h10, h11, h12, h13⟩ := h
  have ml : ∀ t u v c d, t < n → u < n → v < n → gp_P A c → gp_P A d → E t u c → E u v d → E t v (gp_cm c d) := by
    intro t u v c d ht hu hv hc hd z z'
    by_cases e : t = u
    · subst e; exact h11 t v c d ht hv hc hd z z'
    · obtain ⟨c0, p0, z0, w0⟩ := h12 t u c ht hu e hc z
      obtain ⟨c1, p1, z1, w1⟩ := h12 u t (gp_iv c0) hu ht (fun x => e x.symm) (gp_P_iv p0) (h8 t u c0 ht hu p0 z0)
      have a1 := w1 u c0 hu p0 z0
      have a2 := w1 u c hu hc z
      have P1 := gp_P_cm p1 p0
      have P2 := gp_P_cm p1 hc
      have a3 := h11 u u _ _ hu hu (gp_P_iv P1) P2 (h8 u u _ hu hu P1 a1) a2
      have P3 := gp_P_cm (gp_P_iv P1) P2
      have a4 := h11 u v _ _ hu hv P3 hd a3 z'
      have a5 := w0 v _ hv (gp_P_cm P3 hd) a4
      have e1 : gp_cm (gp_cm c1 c0) (gp_cm (gp_iv (gp_cm c1 c0)) (gp_cm c1 c)) = gp_cm c1 c := gp_kl P1 (gp_cm_lt _ _)
      rw [gp_assoc] at e1
      have e2 := congrArg (gp_cm (gp_iv c1)) e1
      rw [gp_kv p1 (gp_cm_lt _ _), gp_kv p1 hc.1] at e2
      rw [← gp_assoc, e2] at a5; exact a5
  refine ⟨⟨h1, h8, ml, h9, fun t c ht hc => ⟨fun z a ha hn => h10 t c a ht hc (gp_mvA hc ha hn) z hn, fun z => ?_⟩, h13⟩, h2, h6, h7, h3, h4⟩
  exact gp_gen hA (M := fun a => O t a) (S := fun c => E t t c) (h1 t ht) (fun a b ha hb => h5 t a b ht ha hb) (fun c d hc hd => ml t t t c d ht ht ht hc hd) 4 0 rfl c hc (fun a ha => by omega) z
/-! the solver's state of the reference: changed, eq, off -/
abbrev YS : Type := Nat × (Nat → Nat) × (Nat → Nat)
def yb_bit (s : YS) (i : Nat) : Bool := if i < 6144 then (s.2.1 (i / 24)).testBit (i % 24) else (s.2.2 ((i - 6144) / 4)).testBit ((i - 6144) % 4)
def yb_mu (s : YS) : Nat := cn (yb_bit s) 6208
def ys_V (n A : Nat) (E : Nat → Nat → Nat → Prop) (O : Nat → Nat → Prop) (s : YS) : Prop :=
  (∀ i, s.2.1 i < 2 ^ yp_np A) ∧ (∀ i, s.2.2 i < 2 ^ A) ∧ (∀ t u c, t < n → u < n → gp_P A c → ye A s.2.1 t u c → E t u c) ∧ (∀ t a, t < n → yo s.2.2 t a → O t a)
def ys_le (s s' : YS) : Prop := (∀ i j, (s.2.1 i).testBit j = true → (s'.2.1 i).testBit j = true) ∧ (∀ i j, (s.2.2 i).testBit j = true → (s'.2.2 i).testBit j = true)
def ys_R (s s' : YS) : Prop := ys_le s s' ∧ (s' = s ∨ (s'.1 = 1 ∧ yb_mu s < yb_mu s'))
theorem ys_rf (s : YS) : ys_R s s := ⟨⟨fun _ _ h => h, fun _ _ h => h⟩, Or.inl rfl⟩
theorem ys_tr {s s' s'' : YS} (h : ys_R s s') (h' : ys_R s' s'') : ys_R s s'' := by
  refine ⟨⟨fun i j z => h'.1.1 i j (h.1.1 i j z), fun i j z => h'.1.2 i j (h.1.2 i j z)⟩, ?_⟩
  rcases h.2 with e | e
  · rw [← e]; exact h'.2
  · rcases h'.2 with e' | e'
    · rw [e']; exact Or.inr e
    · exact Or.inr ⟨e'.1, by omega⟩
theorem ys_0 {s s' : YS} (h : ys_R s s') (z : s'.1 = 0) : s' = s := by
  rcases h.2 with e | e
  · exact e
  · omega
def yp_link (s : YS) (t u set : Nat) : YS := if gp_nd set (s.2.1 (t * 16 + u)) = 0 then s else (1, ud s.2.1 (t * 16 + u) (s.2.1 (t * 16 + u) ||| set), s.2.2)
def yp_spread (s : YS) (t set : Nat) : YS := if gp_nd set (s.2.2 t) = 0 then s else (1, s.2.1, ud s.2.2 t (s.2.2 t ||| set))
section
variable {n A : Nat} {E : Nat → Nat → Nat → Prop} {O : Nat → Nat → Prop} {s : YS} {t u set : Nat}
theorem yp_link_ok (hA : yp_A A) (hn : n ≤ 16) (V : ys_V n A E O s) (ht : t < n) (hu : u < n) (hs : set < 2 ^ yp_np A) (hE : ∀ c, gp_P A c → set.testBit (yp_ix A c) = true → E t u c) :
    ys_V n A E O (yp_link s t u set) ∧ ys_R s (yp_link s t u set) ∧ ∀ j, set.testBit j = true → ((yp_link s t u set).2.1 (t * 16 + u)).testBit j = true := by
  unfold yp_link
  by_cases z : gp_nd set (s.2.1 (t * 16 + u)) = 0
  · rw [if_pos z]; exact ⟨V, ys_rf s, fun j hj => gp_nd_0.mp z j hj⟩
  · rw [if_neg z]
    obtain ⟨v1, v2, v3, v4⟩ := V
    have L : ys_le s (1, ud s.2.1 (t * 16 + u) (s.2.1 (t * 16 + u) ||| set), s.2.2) := ⟨fun i j h => xr_ut i j h, fun i j h => h⟩
    refine ⟨⟨fun i => ?_, v2, fun x y c hx hy hc h => ?_, v4⟩, ⟨L, Or.inr ⟨rfl, ?_⟩⟩, fun j hj => ?_⟩
    · show ud s.2.1 (t * 16 + u) (s.2.1 (t * 16 + u) ||| set) i < _
      by_cases e : i = t * 16 + u
      · rw [e, ud_s]; exact Nat.or_lt_two_pow (v1 _) hs
      · rw [ud_n e]; exact v1 i
    · have h' : (ud s.2.1 (t * 16 + u) (s.2.1 (t * 16 + u) ||| set) (x * 16 + y)).testBit (yp_ix A c) = true := h
      by_cases e : x * 16 + y = t * 16 + u
      · have e1 : x = t := by omega
        have e2 : y = u := by omega
        rw [e, ud_s, Nat.testBit_or, Bool.or_eq_true] at h'
        rcases h' with h' | h'
        · rw [← e] at h'; exact v3 x y c hx hy hc h'
        · rw [e1, e2]; exact hE c hc h'
      · rw [ud_n e] at h'; exact v3 x y c hx hy hc h'
    · obtain ⟨j, hj1, hj2⟩ := xr_nd z
      have hj : j < 24 := Nat.lt_of_lt_of_le (gp_bit_lt hs hj1) (yp_n24 hA).2
      have ei : (24 * (t * 16 + u) + j) / 24 = t * 16 + u := by omega
      have em : (24 * (t * 16 + u) + j) % 24 = j := by omega
      refine cn_lt _ (fun i hi h => ?_) ⟨24 * (t * 16 + u) + j, by omega, ?_, ?_⟩
      · unfold yb_bit at h ⊢
        split at h
        · rename_i w; rw [if_pos w]; exact L.1 _ _ h
        · rename_i w; rw [if_neg w]; exact h
      · unfold yb_bit; rw [if_pos (by omega), ei, em]; exact hj2
      · unfold yb_bit; rw [if_pos (by omega), ei, em]
        show (ud s.2.1 (t * 16 + u) (s.2.1 (t * 16 + u) ||| set) (t * 16 + u)).testBit j = true
        rw [ud_s, Nat.testBit_or, hj1, Bool.or_true]
    · show (ud s.2.1 (t * 16 + u) (s.2.1 (t * 16 + u) ||| set) (t * 16 + u)).testBit j = true
      rw [ud_s, Nat.testBit_or, hj, Bool.or_true]
theorem yp_spread_ok (hA : A ≤ 4) (hn : n ≤ 16) (V : ys_V n A E O s) (ht : t < n) (hs : set < 2 ^ A) (hO : ∀ a, set.testBit a = true → O t a) :
    ys_V n A E O (yp_spread s t set) ∧ ys_R s (yp_spread s t set) ∧ ∀ j, set.testBit j = true → ((yp_spread s t set).2.2 t).testBit j = true := by
  unfold yp_spread
  by_cases z : gp_nd set (s.2.2 t) = 0
  · rw [if_pos z]; exact ⟨V, ys_rf s, fun j hj => gp_nd_0.mp z j hj⟩
  · rw [if_neg z]
    obtain ⟨v1, v2, v3, v4⟩ := V
    have L : ys_le s (1, s.2.1, ud s.2.2 t (s.2.2 t ||| set)) := ⟨fun i j h => h, fun i j h => xr_ut i j h⟩
    refine ⟨⟨v1, fun i => ?_, v3, fun x a hx h => ?_⟩, ⟨L, Or.inr ⟨rfl, ?_⟩⟩, fun j hj => ?_⟩
    · show ud s.2.2 t (s.2.2 t ||| set) i < _
      by_cases e : i = t
      · rw [e, ud_s]; exact Nat.or_lt_two_pow (v2 _) hs
      · rw [ud_n e]; exact v2 i
    · have h' : (ud s.2.2 t (s.2.2 t ||| set) x).testBit a = true := h
      by_cases e : x = t
      · rw [e, ud_s, Nat.testBit_or, Bool.or_eq_true] at h'
        rcases h' with h' | h'
        · rw [← e] at h'; exact v4 x a hx h'
        · rw [e]; exact hO a h'
      · rw [ud_n e] at h'; exact v4 x a hx h'
    · obtain ⟨j, hj1, hj2⟩ := xr_nd z
      have hj : j < 4 := Nat.lt_of_lt_of_le (gp_bit_lt hs hj1) hA
      have ei : (6144 + 4 * t + j - 6144) / 4 = t := by omega
      have em : (6144 + 4 * t + j - 6144) % 4 = j := by omega
      refine cn_lt _ (fun i hi h => ?_) ⟨6144 + 4 * t + j, by omega, ?_, ?_⟩
      · unfold yb_bit at h ⊢
        split at h
        · rename_i w; rw [if_pos w]; exact h
        · rename_i w; rw [if_neg w]; exact L.2 _ _ h
      · unfold yb_bit; rw [if_neg (by omega), ei, em]; exact hj2
      · unfold yb_bit; rw [if_neg (by omega), ei, em]
        show (ud s.2.2 t (s.2.2 t ||| set) t).testBit j = true
        rw [ud_s, Nat.testBit_or, hj1, Bool.or_true]
    · show (ud s.2.2 t (s.2.2 t ||| set) t).testBit j = true
      rw [ud_s, Nat.testBit_or, hj, Bool.or_true]
end
end
section
/-! the component's state holds exactly the facts of the first m demands -/
def xq (n A : Nat) (kd fs sn th dk di dj : Nat → Nat) (m : Nat) (C P F : Nat → Nat) : Prop :=
  xr_I (fun t => t < n) A C P F ∧ (∀ t u c, t < n → u < n → gp_P A c → (xr_e C P F t u c ↔ fd_LE n A kd fs sn th dk di dj m t u c)) ∧ (∀ t a, t < n → (xr_o C P F t a ↔ fd_LO n A kd fs sn th dk di dj m t a))
def ctL (n A : Nat) (kd fs sn th dk di dj : Nat → Nat) (m : Nat) : Prop := ct n A kd fs sn (fd_LE n A kd fs sn th dk di dj m) (fd_LO n A kd fs sn th dk di dj m)
/-- solved: no clash and all facts, or the first clash -/
def xz (n A : Nat) (kd fs sn th dk di dj : Nat → Nat) (m ca : Nat) (C P F : Nat → Nat) : Prop :=
  (ca = 4294967295 ∧ xq n A kd fs sn th dk di dj m C P F ∧ ∀ k, k < m → ¬ ctL n A kd fs sn th dk di dj (k + 1)) ∨ (ca < m ∧ ctL n A kd fs sn th dk di dj (ca + 1) ∧ ∀ k, k < ca → ¬ ctL n A kd fs sn th dk di dj (k + 1))
section
variable {n A : Nat} {kd fs sn th dk di dj : Nat → Nat} {m : Nat} {C P F : Nat → Nat}
theorem fd_LE_m {t u c : Nat} (h : fd_LE n A kd fs sn th dk di dj m t u c) : fd_LE n A kd fs sn th dk di dj (m + 1) t u c := fun E O Cl B => h E O Cl fun k hk => B k (by omega)
theorem fd_LO_m {t a : Nat} (h : fd_LO n A kd fs sn th dk di dj m t a) : fd_LO n A kd fs sn th dk di dj (m + 1) t a := fun E O Cl B => h E O Cl fun k hk => B k (by omega)
theorem xq_sw (hA : A ≤ 4) (W : fd_wf n A kd fs sn th) (q : xq n A kd fs sn th dk di dj m C P F) (t : Nat) (ht : t < n) (k : kd t = 3) : xr_e C P F t (th t) (gp_tr (fs t) (sn t)) := by
  have w := (W t ht).2.2.2.1 k
  exact (q.2.1 t (th t) _ ht (by omega) (gp_P_tr hA w.1 w.2.1)).mpr fun E O Cl B => Cl.2.1 t ht k
theorem xr_rt (R : xr_I (fun t => t < n) A C P F) (x : Nat) (hx : x < n) : xr_e C P F x (C x) (P x) ∧ ∀ a, a < 4 → (F (C x)).testBit a = true → xr_o C P F (C x) a := by
  have r := R x hx
  refine ⟨⟨r.2.1.symm, fun a ha _ => by rw [r.2.2.1, gp_id_ap a ha]⟩, fun a ha hf => ⟨a, ha, by rw [r.2.1]; exact hf, by rw [r.2.2.1, gp_id_ap a ha]⟩⟩
theorem xq_S (q : xq n A kd fs sn th dk di dj m C P F) : xr_S (fun t => t < n) (fd_LE n A kd fs sn th dk di dj m) (fd_LO n A kd fs sn th dk di dj m) C P F := fun x hx => by
  have r := q.1 x hx
  have h := xr_rt q.1 x hx
  exact ⟨(q.2.1 x _ _ hx r.1 r.2.2.2.1).mp h.1, fun a ha hf => (q.2.2 _ a r.1).mp (h.2 a ha hf)⟩
theorem xq_S1 (q : xq n A kd fs sn th dk di dj m C P F) : xr_S (fun t => t < n) (fd_LE n A kd fs sn th dk di dj (m + 1)) (fd_LO n A kd fs sn th dk di dj (m + 1)) C P F := fun x hx =>
  ⟨fd_LE_m (xq_S q x hx).1, fun a ha hf => fd_LO_m ((xq_S q x hx).2 a ha hf)⟩
theorem xq_of (hA : A ≤ 4) (W : fd_wf n A kd fs sn th) (hd : fd_dw n A m dk di dj) {s : XS} (V : xs_V n A (fd_LE n A kd fs sn th dk di dj m) (fd_LO n A kd fs sn th dk di dj m) s) (f : xf n A kd fs sn s.2.2.1 s.2.2.2.1 s.2.2.2.2.1)
    (sw : ∀ t, t < n → kd t = 3 → xs_e s t (th t) (gp_tr (fs t) (sn t))) (B : fd_Bs m dk di dj (xs_e s) (xs_o s)) : xq n A kd fs sn th dk di dj m s.2.2.1 s.2.2.2.1 s.2.2.2.2.1 := by
  have Cl := fd_LCl hA W hd
  have K := xf_Cl hA W V.1 sw f
  exact ⟨V.1, fun t u c ht hu hc => ⟨fun z => xr_inE hA Cl.1 V.1 V.2 ht hu hc z, fun z => z _ _ K B⟩, fun t a ht => ⟨fun z => xr_inO Cl.1 V.1 V.2 ht z, fun z => z _ _ K B⟩⟩
theorem xq_ct (W : fd_wf n A kd fs sn th) (q : xq n A kd fs sn th dk di dj m C P F) : ct n A kd fs sn (xr_e C P F) (xr_o C P F) ↔ ctL n A kd fs sn th dk di dj m :=
  ⟨ct_ext W q.2.1 fun t a ht _ => q.2.2 t a ht, ct_ext W (fun t u c ht hu hc => (q.2.1 t u c ht hu hc).symm) fun t a ht _ => (q.2.2 t a ht).symm⟩
end
section
variable {A mN mD n dc ca : Nat} {kd fs sn th tl cz dk di dj bl : Nat → Nat}
variable {s : XS}
theorem xw_ab49 {post : SX → Prop} {k : Nat} (hA : yp_A A) (hn : n ≤ 16) (W : fd_wf n A kd fs sn th) (hd : fd_dw n A (k + 1) dk di dj) (V : xs_V n A (fd_LE n A kd fs sn th dk di dj (k + 1)) (fd_LO n A kd fs sn th dk di dj (k + 1)) s) (sw : ∀ t, t < n → kd t = 3 → xs_e s t (th t) (gp_tr (fs t) (sn t))) (B : fd_Bs (k + 1) dk di dj (xs_e s) (xs_o s))
    (h : ∀ s' bl', xq n A kd fs sn th dk di dj (k + 1) s'.2.2.1 s'.2.2.2.1 s'.2.2.2.2.1 → (ctL n A kd fs sn th dk di dj (k + 1) → post (xt A mN mD n dc (k) kd fs sn th tl cz dk di dj (bl') s')) ∧ (¬ ctL n A kd fs sn th dk di dj (k + 1) → post (xt A mN mD n dc ca kd fs sn th tl cz dk di dj (bl') s'))) : wX_absorb_49 post (nI k) 228 16 (nI A) (nI (2 ^ A - 1)) (nI mN) (nI mD) (nI n) (nI dc) (nI ca) (nI (s.1)) (nI (s.2.1)) (nA kd) (nA fs) (nA sn) (nA th) (nA tl) (nA cz) (nA dk) (nA di) (nA dj) (nA (s.2.2.1)) (nA (s.2.2.2.1)) (nA (s.2.2.2.2.1)) (nA bl) (nA (s.2.2.2.2.2)) := by
  have hA4 := yp_A4 hA
  unfold wX_absorb_49
  refine xw_saturate hA hn W (fd_LCl hA4 W hd) V fun s' V' L' f' => ?_
  have hB : fd_Bs (k + 1) dk di dj (xs_e s') (xs_o s') := fun j hj => by
    have d := hd j hj
    exact ⟨fun z => L'.1 _ _ _ (d.2.1 z) d.1 (gp_P_id A) ((B j hj).1 z), fun z => L'.2 _ _ d.1 ((B j hj).2 z)⟩
  have q := xq_of hA4 W hd V' f' (fun t ht k => by
    have w := (W t ht).2.2.2.1 k
    exact L'.1 _ _ _ ht (by omega) (gp_P_tr hA4 w.1 w.2.1) (sw t ht k)) hB
  refine xw_contra hA4 hn W q.1 (fun bl' z => br_f (by decide) ((h s' bl' q).1 ((xq_ct W q).mp z))) (fun bl' z => br_t rfl ((h s' bl' q).2 fun y => z ((xq_ct W q).mpr y)))
theorem xw_absorb {post : SX → Prop} {k : Nat} {x : Int32} (ex : x = nI k) (hA : yp_A A) (hn : n ≤ 16) (hk : k < 8) (W : fd_wf n A kd fs sn th) (hd : fd_dw n A (k + 1) dk di dj) (hdk : dk k < 4294967296) (q : xq n A kd fs sn th dk di dj k s.2.2.1 s.2.2.2.1 s.2.2.2.2.1)
    (h : ∀ s' bl', xq n A kd fs sn th dk di dj (k + 1) s'.2.2.1 s'.2.2.2.1 s'.2.2.2.2.1 → (ctL n A kd fs sn th dk di dj (k + 1) → post (xt A mN mD n dc (k) kd fs sn th tl cz dk di dj (bl') s')) ∧ (¬ ctL n A kd fs sn th dk di dj (k + 1) → post (xt A mN mD n dc ca kd fs sn th tl cz dk di dj (bl') s'))) : wpX_absorb post (xt A mN mD n dc ca kd fs sn th tl cz dk di dj bl s) x := by
  subst ex
  have hA4 := yp_A4 hA
  have Cl := fd_LCl (m := k + 1) hA4 W hd
  have V : xs_V n A (fd_LE n A kd fs sn th dk di dj (k + 1)) (fd_LO n A kd fs sn th dk di dj (k + 1)) s := ⟨q.1, xq_S1 q⟩
  have d := hd k (by omega)
  have vk : vp_in (nI k) 8 := vp_in_nI hk (by decide)
  have Bk := fd_LBs (n := n) (A := A) (kd := kd) (fs := fs) (sn := sn) (th := th) (dk := dk) (di := di) (dj := dj) (m := k)
  have Bk1 := fd_LBs (n := n) (A := A) (kd := kd) (fs := fs) (sn := sn) (th := th) (dk := dk) (di := di) (dj := dj) (m := k + 1) k (by omega)
  have old : ∀ s' : XS, xr_le n A s.2.2.1 s.2.2.2.1 s.2.2.2.2.1 s'.2.2.1 s'.2.2.2.1 s'.2.2.2.2.1 → ∀ j, j < k → (dk j = 0 → xs_e s' (di j) (dj j) 228) ∧ (dk j ≠ 0 → xs_o s' (dj j) (di j)) := fun s' L' j hj => by
    have dj' := hd j (by omega)
    exact ⟨fun z => L'.1 _ _ _ (dj'.2.1 z) dj'.1 (gp_P_id A) ((q.2.1 _ _ _ (dj'.2.1 z) dj'.1 (gp_P_id A)).mpr ((Bk j hj).1 z)), fun z => L'.2 _ _ dj'.1 ((q.2.2 _ _ dj'.1).mpr ((Bk j hj).2 z))⟩
  have osw : ∀ s' : XS, xr_le n A s.2.2.1 s.2.2.2.1 s.2.2.2.2.1 s'.2.2.1 s'.2.2.2.1 s'.2.2.2.2.1 → ∀ t, t < n → kd t = 3 → xs_e s' t (th t) (gp_tr (fs t) (sn t)) := fun s' L' t ht k3 => by
    have w := (W t ht).2.2.2.1 k3
    exact L'.1 _ _ _ ht (by omega) (gp_P_tr hA4 w.1 w.2.1) (xq_sw hA4 W q t ht k3)
  have qk : (nA dk (nI k).toNatClampNeg = 0 ↔ dk k = 0) := br_aq (j := 0) rfl (by omega) hdk (by decide)
  have hj : dj k < n := d.1
  unfold wpX_absorb
  refine And.intro vk (br_c (fun w => And.intro vk (And.intro vk ?_)) (fun w => And.intro vk (And.intro vk ?_)))
  · have z := qk.mp w
    have hi := d.2.1 z
    obtain ⟨V1, R1, N1⟩ := xp_equate_ok hA4 Cl.1 V hi hj (gp_P_id A) (Bk1.1 z)
    refine xw_equate (nA_at (by omega)) rfl (nA_at (by omega)) hA4 hn V hi hj (gp_P_id A) (xw_ab49 hA hn W hd V1 (osw _ R1.1) (fun j hj' => ?_) h)
    by_cases e : j = k
    · rw [e]; exact ⟨fun _ => N1, fun y => absurd z y⟩
    · exact old _ R1.1 j (by omega)
  · have z : dk k ≠ 0 := fun y => w (qk.mpr y)
    have hi := d.2.2 z
    obtain ⟨V1, R1, N1, C1, P1⟩ := xp_addOff_ok (t := dj k) (m := 2 ^ di k) hA4 Cl.1 V hj fun a ha => by
      rw [Nat.testBit_two_pow, decide_eq_true_eq] at ha
      rw [← ha]; exact Bk1.2 z
    have p4 : 2 ^ di k < 2 ^ 4 := Nat.pow_lt_pow_right (by decide) (by omega)
    have cj : s.2.2.1 (dj k) < n := (V.1 _ hj).1
    refine xw_addOff (t := dj k) (m := 2 ^ di k) (nA_at (by omega)) (by rw [nA_at (by omega)]; exact br_1 (by omega)) (by omega) (by omega) (V.1 _ hj).2.2.2.1 (by omega) (xw_ab49 hA hn W hd V1 (osw _ R1.1) (fun j hj' => ?_) h)
    by_cases e : j = k
    · rw [e]; exact ⟨fun y => absurd y z, fun _ => N1 _ (by rw [Nat.testBit_two_pow]; simp)⟩
    · exact old _ R1.1 j (by omega)
theorem xw_rb105 {post : SX → Prop} (hA : yp_A A) (hn : n ≤ 16) (hdc : dc ≤ 8) (W : fd_wf n A kd fs sn th) (hd : fd_dw n A dc dk di dj) (hdk : ∀ k, k < dc → dk k < 4294967296) (q : xq n A kd fs sn th dk di dj 0 s.2.2.1 s.2.2.2.1 s.2.2.2.2.1)
    (h : ∀ s' ca' bl', xz n A kd fs sn th dk di dj dc ca' s'.2.2.1 s'.2.2.2.1 s'.2.2.2.2.1 → post (xt A mN mD n dc (ca') kd fs sn th tl cz dk di dj (bl') s')) : ∃ n105 : Nat, wX_rebuild_105 post n105 0 228 16 (nI A) (nI (2 ^ A - 1)) (nI mN) (nI mD) (nI n) (nI dc) (nI (4294967295)) (nI (s.1)) (nI (s.2.1)) (nA kd) (nA fs) (nA sn) (nA th) (nA tl) (nA cz) (nA dk) (nA di) (nA dj) (nA (s.2.2.1)) (nA (s.2.2.2.1)) (nA (s.2.2.2.2.1)) (nA bl) (nA (s.2.2.2.2.2)) := by
  refine loop_0 (fun k i (st : XS × Nat × (Nat → Nat)) => wX_rebuild_105 post k (nI i) 228 16 (nI A) (nI (2 ^ A - 1)) (nI mN) (nI mD) (nI n) (nI dc) (nI (st.2.1)) (nI (st.1.1)) (nI (st.1.2.1)) (nA kd) (nA fs) (nA sn) (nA th) (nA tl) (nA cz) (nA dk) (nA di) (nA dj) (nA (st.1.2.2.1)) (nA (st.1.2.2.2.1)) (nA (st.1.2.2.2.2.1)) (nA (st.2.2)) (nA (st.1.2.2.2.2.2))) (fun i st => xz n A kd fs sn th dk di dj i st.2.1 st.1.2.2.1 st.1.2.2.2.1 st.1.2.2.2.2.1) dc (s, 4294967295, bl) (Or.inl ⟨rfl, q, fun k hk => by omega⟩) ?_ ?_
  · rintro k ⟨s', ca', bl'⟩ I
    exact br_t (nI_le (Nat.le_refl _) (by omega)) (h s' ca' bl' I)
  · rintro k i ⟨s', ca', bl'⟩ hi I next
    refine br_f (nI_ge hi (by omega)) ?_
    rcases I with ⟨e, I2, I3⟩ | ⟨e, I2, I3⟩
    · have e' : ca' = 4294967295 := e
      refine br_t (by rw [br_m1]; show nI ca' = _; rw [e']) (xw_absorb (ca := ca') (bl := bl') rfl hA hn (by omega) W (fun j hj => hd j (by omega)) (hdk i hi) I2 fun s2 bl2 q2 => ⟨fun z => ?_, fun z => ?_⟩)
      · exact nm_r (nI_1 i) (next (s2, i, bl2) (Or.inr ⟨by show i < i + 1; omega, z, I3⟩))
      · refine nm_r (nI_1 i) (next (s2, ca', bl2) (Or.inl ⟨e, q2, fun j hj => ?_⟩))
        by_cases w : j = i
        · rw [w]; exact z
        · exact I3 j (by omega)
    · have e' : ca' < i := e
      exact br_f (by rw [br_m1]; show ¬ nI ca' = _; rw [br_eq (by omega) (by decide)]; omega) (h s' ca' bl' (Or.inr ⟨by show ca' < dc; omega, I2, I3⟩))
theorem xw_rebuild {post : SX → Prop} (hA : yp_A A) (hn : n ≤ 16) (hdc : dc ≤ 8) (W : fd_wf n A kd fs sn th) (hd : fd_dw n A dc dk di dj) (hdk : ∀ k, k < dc → dk k < 4294967296)
    (h : ∀ s' ca' bl', xz n A kd fs sn th dk di dj dc ca' s'.2.2.1 s'.2.2.2.1 s'.2.2.2.2.1 → post (xt A mN mD n dc (ca') kd fs sn th tl cz dk di dj (bl') s')) : wpX_rebuild post (xt A mN mD n dc ca kd fs sn th tl cz dk di dj bl s) := by
  have hA4 := yp_A4 hA
  have d0 : fd_dw n A 0 dk di dj := fun k hk => by omega
  have Cl := fd_LCl (m := 0) (dk := dk) (di := di) (dj := dj) hA4 W d0
  unfold wpX_rebuild
  refine loop_0 (fun k i (st : (Nat → Nat) × (Nat → Nat) × (Nat → Nat)) => wX_rebuild_2 post 228 16 (nI A) (nI (2 ^ A - 1)) (nI mN) (nI mD) (nI n) (nI dc) (nI ca) (nI (s.1)) (nI (s.2.1)) k (nI i) (nA kd) (nA fs) (nA sn) (nA th) (nA tl) (nA cz) (nA dk) (nA di) (nA dj) (nA (st.1)) (nA (st.2.1)) (nA (st.2.2)) (nA bl) (nA (s.2.2.2.2.2))) (fun i st => ∀ t, t < i → st.1 t = t ∧ st.2.1 t = 228 ∧ st.2.2 t = 0) n (s.2.2.1, s.2.2.2.1, s.2.2.2.2.1) (fun t ht => by omega) ?_ ?_
  · rintro k ⟨C, P, F⟩ I
    refine br_t (nI_le (Nat.le_refl _) (by omega)) ?_
    have I' : ∀ t, t < n → C t = t ∧ P t = 228 ∧ F t = 0 := I
    have V0 : xs_V n A (fd_LE n A kd fs sn th dk di dj 0) (fd_LO n A kd fs sn th dk di dj 0) (s.1, s.2.1, C, P, F, s.2.2.2.2.2) := by
      constructor
      · intro x hx
        obtain ⟨e1, e2, e3⟩ := I' x hx
        show C x < n ∧ C (C x) = C x ∧ P (C x) = 228 ∧ gp_P A (P x) ∧ F (C x) < 2 ^ A
        rw [e1, e2, e3]
        exact ⟨hx, e1, rfl, gp_P_id A, Nat.two_pow_pos A⟩
      · intro x hx
        obtain ⟨e1, e2, e3⟩ := I' x hx
        show fd_LE n A kd fs sn th dk di dj 0 x (C x) (P x) ∧ ∀ a, a < 4 → (F (C x)).testBit a = true → _
        rw [e1, e2, e3]
        exact ⟨fd_rf Cl.1 hx, fun a ha z => by rw [Nat.zero_testBit] at z; exact absurd z (by decide)⟩
    refine loop_0 (fun k i (st : XS) => wX_rebuild_41 post k (nI i) 228 16 (nI A) (nI (2 ^ A - 1)) (nI mN) (nI mD) (nI n) (nI dc) (nI ca) (nI (st.1)) (nI (st.2.1)) (nA kd) (nA fs) (nA sn) (nA th) (nA tl) (nA cz) (nA dk) (nA di) (nA dj) (nA (st.2.2.1)) (nA (st.2.2.2.1)) (nA (st.2.2.2.2.1)) (nA bl) (nA (st.2.2.2.2.2))) (fun i st => xs_V n A (fd_LE n A kd fs sn th dk di dj 0) (fd_LO n A kd fs sn th dk di dj 0) st ∧ ∀ t, t < i → kd t = 3 → xs_e st t (th t) (gp_tr (fs t) (sn t))) n (s.1, s.2.1, C, P, F, s.2.2.2.2.2) ⟨V0, fun t ht => by omega⟩ ?_ ?_
    · rintro k' st ⟨I1, I2⟩
      refine br_t (nI_le (Nat.le_refl _) (by omega)) (xw_saturate (ca := 4294967295) hA hn W Cl I1 fun s' V' L' f' => ?_)
      have q := xq_of hA4 W d0 V' f' (fun t ht k3 => by
        have w := (W t ht).2.2.2.1 k3
        exact L'.1 _ _ _ ht (by omega) (gp_P_tr hA4 w.1 w.2.1) (I2 t ht k3)) (fun j hj => by omega)
      exact xw_rb105 hA hn hdc W hd hdk q h
    · rintro k' i st hi ⟨I1, I2⟩ next
      have wi := W i hi
      have vi : vp_in (nI i) 16 := vp_in_nI (by omega) (by decide)
      have q3 : (nA kd (nI i).toNatClampNeg = 3 ↔ kd i = 3) := br_aq (j := 3) rfl (by omega) (by omega) (by decide)
      refine br_f (nI_ge hi (by omega)) (And.intro vi (br_c (fun w => And.intro vi (And.intro vi ?_)) (fun w => nm_r (nI_1 i) (next st ⟨I1, fun t ht k3 => ?_⟩))))
      · have k3 := q3.mp w
        have w3 := wi.2.2.2.1 k3
        have hT := gp_P_tr hA4 w3.1 w3.2.1
        obtain ⟨V1, R1, N1⟩ := xp_equate_ok hA4 Cl.1 I1 hi (by omega : th i < n) hT (fun E O Cl B => Cl.2.1 i hi k3)
        refine xw_trans' (nA_at (by omega)) (nA_at (by omega)) (by omega) (by omega) (And.intro vi (xw_equate rfl rfl (nA_at (by omega)) hA4 hn I1 hi (by omega : th i < n) hT (nm_r (nI_1 i) (next _ ⟨V1, fun t ht k3' => ?_⟩))))
        by_cases e : t = i
        · rw [e]; exact N1
        · have w' := (W t (by omega)).2.2.2.1 k3'
          exact R1.1.1 _ _ _ (by omega) (by omega) (gp_P_tr hA4 w'.1 w'.2.1) (I2 t (by omega) k3')
      · by_cases e : t = i
        · rw [e] at k3; exact absurd (q3.mpr k3) w
        · exact I2 t (by omega) k3
  · rintro k i ⟨C, P, F⟩ hi I next
    have vi : vp_in (nI i) 32 := vp_in_nI (by omega) (by decide)
    refine br_f (nI_ge hi (by omega)) (And.intro vi (nm_r (nA_ud (f := C) (by omega)) (And.intro vi (nm_r (nA_ud (f := P) (x := 228) (by omega)) (And.intro vi (nm_r (nA_ud (f := F) (x := 0) (by omega)) (nm_r (nI_1 i) (next (_, _, _) fun t ht => ?_))))))))
    by_cases e : t = i
    · rw [e]; exact ⟨ud_s, ud_s, ud_s⟩
    · have := I t (by omega)
      exact ⟨(ud_n e).trans this.1, (ud_n e).trans this.2.1, (ud_n e).trans this.2.2⟩
end
end
section
/-! the reference's state over naturals, and its tables -/
def yt (A mN mD n dc cl sd : Nat) (kd fs sn th tl dk di dj tp tt ti te tm ov is ak fh : Nat → Nat) (s : YS) : SY :=
  (nI A, nI mN, nI mD, nI n, nI dc, nI (yp_np A), nI (2 ^ A - 1), nI (2 ^ yp_np A - 1), nI cl, nI s.1, nI sd, nA kd, nA fs, nA sn, nA th, nA tl, nA dk, nA di, nA dj, nA tp, nA tt, nA ti, nA te, nA tm, nA s.2.1, nA s.2.2, nA ov, nA is, nA ak, nA fh)
def yT (A : Nat) (tp tt ti te tm : Nat → Nat) : Prop :=
  (∀ p a, p < yp_np A → a < 4 → tp (p * 4 + a) = gp_ap (yp_c A p) a) ∧
  (∀ p q, p < yp_np A → q < yp_np A → tt (p * 24 + q) = yp_ix A (gp_cm (yp_c A p) (yp_c A q))) ∧
  (∀ p, p < yp_np A → ti p = yp_ix A (gp_iv (yp_c A p))) ∧
  (∀ a b, a < A → b < A → te (a * 4 + b) = yp_ix A (gp_tr a b)) ∧
  (∀ p i m j, p < yp_np A → i < 6 → m < 16 → ((tm ((p * 6 + i) * 16 + m)).testBit j = true ↔ ∃ q, q < yp_np A ∧ q / 4 = i ∧ m.testBit (q % 4) = true ∧ j = yp_ix A (gp_cm (yp_c A p) (yp_c A q))))
theorem yi_16 (t u : Nat) : nI t * 16 + nI u = nI (t * 16 + u) := by rw [show (16 : Int32) = nI 16 from rfl, pk_mul, nI_add]
theorem yi_4 (t u : Nat) : nI t * 4 + nI u = nI (t * 4 + u) := by rw [show (4 : Int32) = nI 4 from rfl, pk_mul, nI_add]
theorem yi_24 (t u : Nat) : nI t * 24 + nI u = nI (t * 24 + u) := by rw [show (24 : Int32) = nI 24 from rfl, pk_mul, nI_add]
theorem yp_cix {A c : Nat} (hA : yp_A A) (hc : gp_P A c) : yp_ix A c < 24 := Nat.lt_of_lt_of_le (yp_iP hA hc).1 (yp_n24 hA).2
theorem yb_pw {A : Nat} (hA : yp_A A) : 2 ^ yp_np A ≤ 16777216 := Nat.pow_le_pow_right (n := 2) (by decide) (yp_n24 hA).2
/-- one bit -/
theorem yb_one {A c d : Nat} (hA : yp_A A) (hc : gp_P A c) (hd : gp_P A d) : (2 ^ yp_ix A c).testBit (yp_ix A d) = true ↔ d = c := by
  rw [Nat.testBit_two_pow, decide_eq_true_eq]
  exact ⟨fun z => (yp_inj hA hc hd z).symm, fun z => by rw [z]⟩
theorem yb_olt {A c : Nat} (hA : yp_A A) (hc : gp_P A c) : 2 ^ yp_ix A c < 2 ^ yp_np A := Nat.pow_lt_pow_right (by decide) (yp_iP hA hc).1
section
variable {A mN mD n dc cl sd : Nat} {kd fs sn th tl dk di dj tp tt ti te tm ov is ak fh : Nat → Nat}
variable {s : YS}
theorem yw_link {post : SY → Prop} {t u set : Nat} {x y z : Int32} (ex : x = nI t) (ey : y = nI u) (ez : z = nI set) (ht : t < 16) (hu : u < 16) (hs : set < 4294967296) (h : post (yt A mN mD n dc cl sd kd fs sn th tl dk di dj tp tt ti te tm ov is ak fh (yp_link s t u set))) : wpY_link post (yt A mN mD n dc cl sd kd fs sn th tl dk di dj tp tt ti te tm ov is ak fh s) x y z := by
  subst ex ey ez
  unfold wpY_link
  have ei := yi_16 t u
  have e : nA s.2.1 (nI t * 16 + nI u).toNatClampNeg = nI (s.2.1 (t * 16 + u)) := by rw [ei]; exact nA_at (by omega)
  have v : vp_in (nI t * 16 + nI u) 256 := by rw [ei]; exact vp_in_nI (by omega) (by decide)
  refine And.intro v ?_
  unfold yp_link at h
  by_cases z : gp_nd set (s.2.1 (t * 16 + u)) = 0
  · rw [if_pos z] at h
    exact br_t (by rw [e]; exact (br_nd0 hs).mpr z) h
  · rw [if_neg z] at h
    refine br_f (by rw [e]; exact fun w => z ((br_nd0 hs).mp w)) (And.intro v (And.intro v (nm_r (e' := nA (ud s.2.1 (t * 16 + u) (s.2.1 (t * 16 + u) ||| set))) ?_ h)))
    rw [e, br_or, ei, nA_ud (by omega)]
theorem yw_spread {post : SY → Prop} {t set : Nat} {x z : Int32} (ex : x = nI t) (ez : z = nI set) (ht : t < 16) (hs : set < 4294967296) (h : post (yt A mN mD n dc cl sd kd fs sn th tl dk di dj tp tt ti te tm ov is ak fh (yp_spread s t set))) : wpY_spread post (yt A mN mD n dc cl sd kd fs sn th tl dk di dj tp tt ti te tm ov is ak fh s) x z := by
  subst ex ez
  unfold wpY_spread
  have e : nA s.2.2 (nI t).toNatClampNeg = nI (s.2.2 t) := nA_at (by omega)
  have v : vp_in (nI t) 16 := vp_in_nI ht (by decide)
  refine And.intro v ?_
  unfold yp_spread at h
  by_cases z : gp_nd set (s.2.2 t) = 0
  · rw [if_pos z] at h
    exact br_t (by rw [e]; exact (br_nd0 hs).mpr z) h
  · rw [if_neg z] at h
    refine br_f (by rw [e]; exact fun w => z ((br_nd0 hs).mp w)) (And.intro v (And.intro v (nm_r (e' := nA (ud s.2.2 t (s.2.2 t ||| set))) ?_ h)))
    rw [e, br_or, nA_ud (by omega)]
end
section
variable {f_atoms f_maxNodes f_maxDemands f_count f_posed f_perms f_every f_all f_clash f_changed f_settled : Int32} {a_kind a_first a_second a_third a_trial a_sort a_left a_right a_perm a_times a_inv a_exch a_move a_eq a_off a_over a_inside a_alike a_fresh : Nat → Int32} {post : Int32 → Prop} {A : Nat} {tp tt ti te tm : Nat → Nat}
theorem yw_image_s {p m k acc j : Nat} (hA : yp_A A) (T : yT A tp tt ti te tm) (hp : p < yp_np A) (hm : m < 2147483648) (hk : k < 4) (ea : a_perm = nA tp) (h : wY_image_5 post (nI p) (nI m) f_atoms f_maxNodes f_maxDemands f_count f_posed f_perms f_every f_all f_clash f_changed f_settled a_kind a_first a_second a_third a_trial a_sort a_left a_right a_perm a_times a_inv a_exch a_move a_eq a_off a_over a_inside a_alike a_fresh j (nI (acc ||| gp_b (m.testBit k) (gp_ap (yp_c A p) k))) (nI (k + 1))) : wY_image_5 post (nI p) (nI m) f_atoms f_maxNodes f_maxDemands f_count f_posed f_perms f_every f_all f_clash f_changed f_settled a_kind a_first a_second a_third a_trial a_sort a_left a_right a_perm a_times a_inv a_exch a_move a_eq a_off a_over a_inside a_alike a_fresh (j + 1) (nI acc) (nI k) := by
  have n24 := (yp_n24 hA).2
  refine br_f (nI_ge (b := 4) hk (by decide)) ?_
  cases z : m.testBit k
  · refine br_t ((br_bit hm (by omega)).mpr z) (nm_r (nI_1 k) ?_)
    rw [z] at h
    simp only [gp_b, Bool.false_eq_true, if_false, Nat.or_zero] at h
    exact h
  · refine br_f (fun w => by rw [(br_bit hm (by omega)).mp w] at z; exact absurd z (by decide)) (And.intro (by rw [yi_4]; exact vp_in_nI (by omega) (by decide)) (nm_r ?_ (nm_r (nI_1 k) h)))
    have := gp_ap_lt (yp_c A p) k
    rw [yi_4, ea, nA_at (by omega), T.1 p k hp hk, br_1 (by omega), br_or, z, gp_b, if_pos rfl]
theorem yw_image_5 {p m : Nat} (hA : yp_A A) (T : yT A tp tt ti te tm) (hp : p < yp_np A) (hm : m < 2147483648) (ea : a_perm = nA tp) (h : post (nI (gp_im (yp_c A p) m))) : wY_image_5 post (nI p) (nI m) f_atoms f_maxNodes f_maxDemands f_count f_posed f_perms f_every f_all f_clash f_changed f_settled a_kind a_first a_second a_third a_trial a_sort a_left a_right a_perm a_times a_inv a_exch a_move a_eq a_off a_over a_inside a_alike a_fresh 5 0 0 := by
  refine yw_image_s (k := 0) (acc := 0) hA T hp hm (by decide) ea (yw_image_s (k := 1) hA T hp hm (by decide) ea (yw_image_s (k := 2) hA T hp hm (by decide) ea (yw_image_s (k := 3) hA T hp hm (by decide) ea (br_t (nI_le (a := 4) (Nat.le_refl _) (by decide)) ?_))))
  exact h
end
theorem yb_nib {set i j : Nat} (hj : j < 4) : (set / 2 ^ (4 * i) % 2 ^ 4).testBit j = set.testBit (4 * i + j) := by
  rw [Nat.testBit_mod_two_pow, Nat.testBit_div_two_pow, decide_eq_true hj, Bool.true_and, Nat.add_comm]
section
variable {A mN mD n dc cl sd : Nat} {kd fs sn th tl dk di dj tp tt ti te tm ov is ak fh : Nat → Nat}
variable {s : YS}
theorem yw_image {post : Int32 → Prop} {p m : Nat} {x y : Int32} (ex : x = nI p) (ey : y = nI m) (hA : yp_A A) (T : yT A tp tt ti te tm) (hp : p < yp_np A) (hm : m < 2147483648) (h : post (nI (gp_im (yp_c A p) m))) : wpY_image post (yt A mN mD n dc cl sd kd fs sn th tl dk di dj tp tt ti te tm ov is ak fh s) x y := by
  subst ex ey
  unfold wpY_image
  exact ⟨5, yw_image_5 hA T hp hm rfl h⟩
theorem yw_moved {post : Int32 → Prop} {p set : Nat} {x y : Int32} (ex : x = nI p) (ey : y = nI set) (hA : yp_A A) (T : yT A tp tt ti te tm) (hp : p < yp_np A) (hs : set < 2 ^ yp_np A)
    (h : ∀ M, M < 2 ^ yp_np A → (∀ c, gp_P A c → (M.testBit (yp_ix A c) = true ↔ ∃ d, gp_P A d ∧ set.testBit (yp_ix A d) = true ∧ c = gp_cm (yp_c A p) d)) → post (nI M)) : wpY_moved post (yt A mN mD n dc cl sd kd fs sn th tl dk di dj tp tt ti te tm ov is ak fh s) x y := by
  subst ex ey
  have n24 := (yp_n24 hA).2
  have pw := yb_pw hA
  have Pp := (yp_cP hA hp).1
  unfold wpY_moved
  have ix : ∀ i, i < 6 → ∀ sh : Int32, sh = nI (4 * i) → nI (p * 96 + 16 * i) + ((nI set >>> (sh &&& 31)) &&& 15) = nI ((p * 6 + i) * 16 + set / 2 ^ (4 * i) % 2 ^ 4) := fun i hi sh es => by
    rw [es, br_shr (by omega) (by omega), pk_andN (by have := Nat.div_le_self set (2 ^ (4 * i)); omega) 4 (by decide +kernel), nI_add]
    congr 1; omega
  have lt16 : ∀ i, set / 2 ^ (4 * i) % 2 ^ 4 < 16 := fun i => Nat.mod_lt _ (by decide)
  have e0 : nI p * 96 + (nI set &&& 15) = nI ((p * 6 + 0) * 16 + set / 2 ^ (4 * 0) % 2 ^ 4) := by
    rw [show (96 : Int32) = nI 96 from rfl, pk_mul, pk_andN (by omega) 4 (by decide +kernel), nI_add]
    congr 1; omega
  have e1 : nI p * 96 + 16 + ((nI set >>> ((4 : Int32) &&& 31)) &&& 15) = nI ((p * 6 + 1) * 16 + set / 2 ^ (4 * 1) % 2 ^ 4) := by
    rw [show (96 : Int32) = nI 96 from rfl, pk_mul, show (16 : Int32) = nI (16 * 1) from rfl, nI_add]; exact ix 1 (by decide) 4 rfl
  have e2 : nI p * 96 + 32 + ((nI set >>> ((8 : Int32) &&& 31)) &&& 15) = nI ((p * 6 + 2) * 16 + set / 2 ^ (4 * 2) % 2 ^ 4) := by
    rw [show (96 : Int32) = nI 96 from rfl, pk_mul, show (32 : Int32) = nI (16 * 2) from rfl, nI_add]; exact ix 2 (by decide) 8 rfl
  have e3 : nI p * 96 + 48 + ((nI set >>> ((12 : Int32) &&& 31)) &&& 15) = nI ((p * 6 + 3) * 16 + set / 2 ^ (4 * 3) % 2 ^ 4) := by
    rw [show (96 : Int32) = nI 96 from rfl, pk_mul, show (48 : Int32) = nI (16 * 3) from rfl, nI_add]; exact ix 3 (by decide) 12 rfl
  have e4 : nI p * 96 + 64 + ((nI set >>> ((16 : Int32) &&& 31)) &&& 15) = nI ((p * 6 + 4) * 16 + set / 2 ^ (4 * 4) % 2 ^ 4) := by
    rw [show (96 : Int32) = nI 96 from rfl, pk_mul, show (64 : Int32) = nI (16 * 4) from rfl, nI_add]; exact ix 4 (by decide) 16 rfl
  have e5 : nI p * 96 + 80 + ((nI set >>> ((20 : Int32) &&& 31)) &&& 15) = nI ((p * 6 + 5) * 16 + set / 2 ^ (4 * 5) % 2 ^ 4) := by
    rw [show (96 : Int32) = nI 96 from rfl, pk_mul, show (80 : Int32) = nI (16 * 5) from rfl, nI_add]; exact ix 5 (by decide) 20 rfl
  have vv : ∀ i, i < 6 → vp_in (nI ((p * 6 + i) * 16 + set / 2 ^ (4 * i) % 2 ^ 4)) 2304 := fun i hi => vp_in_nI (by have := lt16 i; omega) (by decide)
  refine nm_e (And.intro (by rw [e0]; exact vv 0 (by decide)) (And.intro (by rw [e1]; exact vv 1 (by decide)) (And.intro (by rw [e2]; exact vv 2 (by decide)) (And.intro (by rw [e3]; exact vv 3 (by decide)) (And.intro (by rw [e4]; exact vv 4 (by decide)) (And.intro (by rw [e5]; exact vv 5 (by decide)) ?_))))))
  rw [e0, e1, e2, e3, e4, e5]
  have at' : ∀ i, i < 6 → nA tm (nI ((p * 6 + i) * 16 + set / 2 ^ (4 * i) % 2 ^ 4)).toNatClampNeg = nI (tm ((p * 6 + i) * 16 + set / 2 ^ (4 * i) % 2 ^ 4)) := fun i hi => nA_at (by have := lt16 i; omega)
  rw [at' 0 (by decide), at' 1 (by decide), at' 2 (by decide), at' 3 (by decide), at' 4 (by decide), at' 5 (by decide), br_or, br_or, br_or, br_or, br_or]
  have bit : ∀ i, i < 6 → ∀ j, (tm ((p * 6 + i) * 16 + set / 2 ^ (4 * i) % 2 ^ 4)).testBit j = true ↔ ∃ q, q < yp_np A ∧ q / 4 = i ∧ set.testBit q = true ∧ j = yp_ix A (gp_cm (yp_c A p) (yp_c A q)) := fun i hi j => by
    rw [T.2.2.2.2 p i _ j hp hi (lt16 i)]
    constructor
    · rintro ⟨q, h1, h2, h3, h4⟩
      refine ⟨q, h1, h2, ?_, h4⟩
      rw [yb_nib (Nat.mod_lt _ (by decide))] at h3
      have e : 4 * i + q % 4 = q := by omega
      rw [e] at h3; exact h3
    · rintro ⟨q, h1, h2, h3, h4⟩
      refine ⟨q, h1, h2, ?_, h4⟩
      rw [yb_nib (Nat.mod_lt _ (by decide))]
      have e : 4 * i + q % 4 = q := by omega
      rw [e]; exact h3
  have all : ∀ j, (((((tm ((p * 6 + 0) * 16 + set / 2 ^ (4 * 0) % 2 ^ 4) ||| tm ((p * 6 + 1) * 16 + set / 2 ^ (4 * 1) % 2 ^ 4)) ||| tm ((p * 6 + 2) * 16 + set / 2 ^ (4 * 2) % 2 ^ 4)) ||| tm ((p * 6 + 3) * 16 + set / 2 ^ (4 * 3) % 2 ^ 4)) ||| tm ((p * 6 + 4) * 16 + set / 2 ^ (4 * 4) % 2 ^ 4)) ||| tm ((p * 6 + 5) * 16 + set / 2 ^ (4 * 5) % 2 ^ 4)).testBit j = true ↔ ∃ q, q < yp_np A ∧ set.testBit q = true ∧ j = yp_ix A (gp_cm (yp_c A p) (yp_c A q)) := fun j => by
    simp only [Nat.testBit_or, Bool.or_eq_true]
    rw [bit 0 (by decide), bit 1 (by decide), bit 2 (by decide), bit 3 (by decide), bit 4 (by decide), bit 5 (by decide)]
    constructor
    · rintro (((((⟨q, h1, _, h2, h3⟩ | ⟨q, h1, _, h2, h3⟩) | ⟨q, h1, _, h2, h3⟩) | ⟨q, h1, _, h2, h3⟩) | ⟨q, h1, _, h2, h3⟩) | ⟨q, h1, _, h2, h3⟩) <;> exact ⟨q, h1, h2, h3⟩
    · rintro ⟨q, h1, h2, h3⟩
      rcases (by omega : q / 4 = 0 ∨ q / 4 = 1 ∨ q / 4 = 2 ∨ q / 4 = 3 ∨ q / 4 = 4 ∨ q / 4 = 5) with e | e | e | e | e | e
      · exact Or.inl (Or.inl (Or.inl (Or.inl (Or.inl ⟨q, h1, e, h2, h3⟩))))
      · exact Or.inl (Or.inl (Or.inl (Or.inl (Or.inr ⟨q, h1, e, h2, h3⟩))))
      · exact Or.inl (Or.inl (Or.inl (Or.inr ⟨q, h1, e, h2, h3⟩)))
      · exact Or.inl (Or.inl (Or.inr ⟨q, h1, e, h2, h3⟩))
      · exact Or.inl (Or.inr ⟨q, h1, e, h2, h3⟩)
      · exact Or.inr ⟨q, h1, e, h2, h3⟩
  refine h _ (xr_lt2 fun j hj => ?_) fun c hc => ?_
  · obtain ⟨q, h1, _, e⟩ := (all j).mp hj
    rw [e]; exact (yp_iP hA (gp_P_cm Pp (yp_cP hA h1).1)).1
  · rw [all]
    constructor
    · rintro ⟨q, h1, h2, e⟩
      have Pq := yp_cP hA h1
      exact ⟨yp_c A q, Pq.1, by rw [Pq.2]; exact h2, yp_inj hA hc (gp_P_cm Pp Pq.1) e⟩
    · rintro ⟨d, hd, h2, e⟩
      have Pd := yp_iP hA hd
      exact ⟨yp_ix A d, Pd.1, h2, by rw [Pd.2, e]⟩
end
end
section
/-- what freshRules looks at -/
def yf_f (A : Nat) (kd fs sn : Nat → Nat) (t : Nat) (s : YS) : Prop :=
  (∀ a, fd_ow A kd fs sn (yo s.2.2) t a → yo s.2.2 t a) ∧ ((kd t = 4 ∨ kd t = 5) → ∀ a, yo s.2.2 t a → fd_ow A kd fs sn (yo s.2.2) t a) ∧ (∀ a b, a < A → b < A → yo s.2.2 t a → yo s.2.2 t b → ye A s.2.1 t t (gp_tr a b))
theorem yf_tr {D : Nat → Prop} {A : Nat} {E : Nat → Nat → Nat → Prop} {O : Nat → Nat → Prop} (hA : A ≤ 4) (G : fd_Gd D A E O) {t a b : Nat} (ht : D t) (ha : O t a) (hb : O t b) : E t t (gp_tr a b) := by
  have a1 := fd_bd G ht ha
  have b1 := fd_bd G ht hb
  refine (fd_st G ht (gp_P_tr hA a1 b1)).mpr fun c hc hn => ?_
  rw [gp_tr_ap (by omega) (by omega) c hc] at hn
  by_cases z : c = a
  · rw [z]; exact ha
  · by_cases w : c = b
    · rw [w]; exact hb
    · exact absurd (gp_sw_o z w) hn
section
variable {A mN mD n dc cl sd : Nat} {kd fs sn th tl dk di dj tp tt ti te tm ov is ak fh : Nat → Nat}
variable {s : YS} {E : Nat → Nat → Nat → Prop} {O : Nat → Nat → Prop}
theorem yw_fr145 {post : SY → Prop} {t : Nat} (hA : yp_A A) (hn : n ≤ 16) (T : yT A tp tt ti te tm) (Cl : fd_Cl n A kd fs sn th E O) (V : ys_V n A E O s) (ht : t < n)
    (h : ∀ s', ys_V n A E O s' → ys_R s s' → (s'.1 = 0 → ∀ a b, a < A → b < A → yo s'.2.2 t a → yo s'.2.2 t b → ye A s'.2.1 t t (gp_tr a b)) → post (yt A mN mD n dc cl sd kd fs sn th tl dk di dj tp tt ti te tm ov is ak fh s')) :
    ∃ n145 : Nat, wY_freshRules_145 post (nI t) n145 0 (nI A) (nI mN) (nI mD) (nI n) (nI dc) (nI (yp_np A)) (nI (2 ^ A - 1)) (nI (2 ^ yp_np A - 1)) (nI cl) (nI (s.1)) (nI sd) (nA kd) (nA fs) (nA sn) (nA th) (nA tl) (nA dk) (nA di) (nA dj) (nA tp) (nA tt) (nA ti) (nA te) (nA tm) (nA (s.2.1)) (nA (s.2.2)) (nA ov) (nA is) (nA ak) (nA fh) := by
  have hA4 := yp_A4 hA
  have G := Cl.1
  have pw := gp_pw hA4
  have pn := yb_pw hA
  refine loop_0 (fun k i (st : YS) => wY_freshRules_145 post (nI t) k (nI i) (nI A) (nI mN) (nI mD) (nI n) (nI dc) (nI (yp_np A)) (nI (2 ^ A - 1)) (nI (2 ^ yp_np A - 1)) (nI cl) (nI (st.1)) (nI sd) (nA kd) (nA fs) (nA sn) (nA th) (nA tl) (nA dk) (nA di) (nA dj) (nA tp) (nA tt) (nA ti) (nA te) (nA tm) (nA (st.2.1)) (nA (st.2.2)) (nA ov) (nA is) (nA ak) (nA fh)) (fun i st => ys_V n A E O st ∧ ys_R s st ∧ (st.1 = 0 → ∀ a b, a < i → b < A → yo st.2.2 t a → yo st.2.2 t b → ye A st.2.1 t t (gp_tr a b))) A s ⟨V, ys_rf s, fun _ a b ha => by omega⟩ ?_ ?_
  · rintro k st ⟨I1, I2, I3⟩
    exact br_t (nI_le (Nat.le_refl _) (by omega)) (h st I1 I2 I3)
  · rintro k a st ha ⟨I1, I2, I3⟩ next
    refine br_f (nI_ge ha (by omega)) ?_
    refine loop_0 (fun k' i (st' : YS) => wY_freshRules_157 post (wY_freshRules_145 post (nI t) k) (nI t) (nI a) k' (nI i) (nI A) (nI mN) (nI mD) (nI n) (nI dc) (nI (yp_np A)) (nI (2 ^ A - 1)) (nI (2 ^ yp_np A - 1)) (nI cl) (nI (st'.1)) (nI sd) (nA kd) (nA fs) (nA sn) (nA th) (nA tl) (nA dk) (nA di) (nA dj) (nA tp) (nA tt) (nA ti) (nA te) (nA tm) (nA (st'.2.1)) (nA (st'.2.2)) (nA ov) (nA is) (nA ak) (nA fh)) (fun i st' => ys_V n A E O st' ∧ ys_R st st' ∧ (st'.1 = 0 → ∀ b, b < i → yo st'.2.2 t a → yo st'.2.2 t b → ye A st'.2.1 t t (gp_tr a b))) A st ⟨I1, ys_rf st, fun _ b hb => by omega⟩ ?_ ?_
    · rintro k' st' ⟨J1, J2, J3⟩
      refine br_t (nI_le (Nat.le_refl _) (by omega)) (nm_r (nI_1 a) (next st' ⟨J1, ys_tr I2 J2, fun z a' b' ha' hb' => ?_⟩))
      by_cases e : a' = a
      · rw [e]; exact J3 z b' hb'
      · have e2 := ys_0 J2 z
        rw [e2]
        exact I3 (by rw [← e2]; exact z) a' b' (by omega) hb'
    · rintro k' b st' hb ⟨J1, J2, J3⟩ next'
      have vt : vp_in (nI t) 16 := vp_in_nI (by omega) (by decide)
      have et : nA st'.2.2 (nI t).toNatClampNeg = nI (st'.2.2 t) := nA_at (by omega)
      have ot := J1.2.1 t
      have qb : ∀ c, c < A → ((((nA st'.2.2 (nI t).toNatClampNeg) >>> (nI c &&& 31)) &&& 1) = 0 ↔ (st'.2.2 t).testBit c = false) := fun c hc => by rw [et]; exact br_bit (by omega) (by omega)
      have old : (∀ s2 : YS, s2 = st' → s2.1 = 0 → ∀ b', b' < b → yo s2.2.2 t a → yo s2.2.2 t b' → ye A s2.2.1 t t (gp_tr a b')) := fun s2 e z => by rw [e]; rw [e] at z; exact J3 z
      refine br_f (nI_ge hb (by omega)) (And.intro vt (br_c (fun w => nm_r (nI_1 b) (next' st' ⟨J1, J2, fun z b' hb' y1 y2 => ?_⟩)) (fun w => And.intro vt (br_c (fun w2 => nm_r (nI_1 b) (next' st' ⟨J1, J2, fun z b' hb' y1 y2 => ?_⟩)) (fun w2 => And.intro (by rw [yi_4]; exact vp_in_nI (by omega) (by decide)) ?_)))))
      · have := (qb a ha).mp w
        unfold yo at y1
        rw [this] at y1; exact absurd y1 (by decide)
      · by_cases e : b' = b
        · have := (qb b hb).mp w2
          rw [e] at y2
          unfold yo at y2
          rw [this] at y2; exact absurd y2 (by decide)
        · exact J3 z b' (by omega) y1 y2
      · have oa : yo st'.2.2 t a := gp_nf fun z => w ((qb a ha).mpr z)
        have ob : yo st'.2.2 t b := gp_nf fun z => w2 ((qb b hb).mpr z)
        have hT := gp_P_tr hA4 ha hb
        have il := yp_cix hA hT
        have ol := yb_olt hA hT
        have Ett := yf_tr hA4 G ht (J1.2.2.2 t a ht oa) (J1.2.2.2 t b ht ob)
        obtain ⟨V1, R1, N1⟩ := yp_link_ok hA hn J1 ht ht (yb_olt hA hT) fun c hc z => by
          rw [(yb_one hA hT hc).mp z]; exact Ett
        refine yw_link rfl rfl (set := 2 ^ yp_ix A (gp_tr a b)) (by rw [yi_4, nA_at (by omega), T.2.2.2.1 a b ha hb, br_1 (by omega)]) (by omega) (by omega) (by omega) (nm_r (nI_1 b) (next' _ ⟨V1, ys_tr J2 R1, fun z b' hb' y1 y2 => ?_⟩))
        by_cases e : b' = b
        · rw [e]
          exact N1 _ (by rw [Nat.testBit_two_pow]; simp)
        · exact (by
            have e2 := ys_0 R1 z
            have := old _ e2 z b' (by omega) y1 y2
            exact this)
theorem yw_fresh {post : SY → Prop} {t : Nat} {x : Int32} (ex : x = nI t) (hA : yp_A A) (hn : n ≤ 16) (W : fd_wf n A kd fs sn th) (T : yT A tp tt ti te tm) (Cl : fd_Cl n A kd fs sn th E O) (V : ys_V n A E O s) (ht : t < n)
    (h : ∀ s', ys_V n A E O s' → ys_R s s' → (s'.1 = 0 → yf_f A kd fs sn t s') → post (yt A mN mD n dc cl sd kd fs sn th tl dk di dj tp tt ti te tm ov is ak fh s')) : wpY_freshRules post (yt A mN mD n dc cl sd kd fs sn th tl dk di dj tp tt ti te tm ov is ak fh s) x := by
  subst ex
  have hA4 := yp_A4 hA
  have G := Cl.1
  have pw := gp_pw hA4
  have pp := Nat.two_pow_pos A
  obtain ⟨kt, kt1, kt2, kt3, kt4, kt5⟩ := W t ht
  have vt : vp_in (nI t) 16 := vp_in_nI (by omega) (by decide)
  have nk : ∀ j : Nat, j < 4294967296 → kd t ≠ j → ¬ nI (kd t) = nI j := fun j hj z => by rw [br_eq (by omega) hj]; exact z
  -- the last loop, with what came before
  have fin : ∀ s1, ys_V n A E O s1 → ys_R s s1 → (s1.1 = 0 → (∀ a, fd_ow A kd fs sn (yo s1.2.2) t a → yo s1.2.2 t a) ∧ ((kd t = 4 ∨ kd t = 5) → ∀ a, yo s1.2.2 t a → fd_ow A kd fs sn (yo s1.2.2) t a)) → ∃ n145 : Nat, wY_freshRules_145 post (nI t) n145 0 (nI A) (nI mN) (nI mD) (nI n) (nI dc) (nI (yp_np A)) (nI (2 ^ A - 1)) (nI (2 ^ yp_np A - 1)) (nI cl) (nI (s1.1)) (nI sd) (nA kd) (nA fs) (nA sn) (nA th) (nA tl) (nA dk) (nA di) (nA dj) (nA tp) (nA tt) (nA ti) (nA te) (nA tm) (nA (s1.2.1)) (nA (s1.2.2)) (nA ov) (nA is) (nA ak) (nA fh) := fun s1 V1 R1 f1 =>
    yw_fr145 hA hn T Cl V1 ht fun s' V' R' f' => h s' V' (ys_tr R1 R') fun z => by
      have e := ys_0 R' z
      have f2 := f1 (by rw [← e]; exact z)
      rw [← e] at f2
      exact ⟨f2.1, f2.2, f' z⟩
  unfold wpY_freshRules
  refine And.intro vt (nm_r (nA_at (by omega)) (And.intro vt (nm_r (nA_at (by omega)) (And.intro vt (nm_r (nA_at (by omega)) ?_)))))
  rcases (by omega : kd t = 0 ∨ kd t = 1 ∨ kd t = 2 ∨ kd t = 3 ∨ kd t = 4 ∨ kd t = 5) with k | k | k | k | k | k
  · refine br_f (nk 2 (by decide) (by omega)) (br_f (nk 1 (by decide) (by omega)) (br_f (nk 5 (by decide) (by omega)) (br_f (nk 4 (by decide) (by omega)) (fin s V (ys_rf s) fun _ => ⟨fun a z => ?_, fun z => by omega⟩))))
    rcases z.2 with ⟨z, _⟩ | z | ⟨z, _⟩ | ⟨z, _⟩ <;> omega
  · have f1 := kt1 k
    have nl := br_nl (2 ^ A - 1) (2 ^ fs t)
    have bits : ∀ a, (gp_nd (2 ^ A - 1) (2 ^ fs t)).testBit a = true ↔ fd_ow A kd fs sn (yo s.2.2) t a := fun a => by
      rw [gp_nd_bit, br_all, Nat.testBit_two_pow]
      simp only [Bool.and_eq_true, decide_eq_true_eq, Bool.not_eq_true', decide_eq_false_iff_not]
      constructor
      · rintro ⟨h1, h2⟩
        exact ⟨h1, Or.inl ⟨k, fun z => h2 z.symm⟩⟩
      · rintro ⟨h1, ⟨_, z⟩ | z | ⟨z, _⟩ | ⟨z, _⟩⟩
        · exact ⟨h1, fun w => z w.symm⟩
        all_goals omega
    have noO : ∀ O' a, fd_ow A kd fs sn (yo s.2.2) t a → fd_ow A kd fs sn O' t a := fun O' a z => fd_ow_mono (fun x hx => by omega) z
    obtain ⟨V1, R1, N1⟩ := yp_spread_ok (set := gp_nd (2 ^ A - 1) (2 ^ fs t)) hA4 hn V ht (by omega) fun a ha => Cl.2.2.2.2.1 t a ht (noO O a ((bits a).mp ha))
    refine br_f (nk 2 (by decide) (by omega)) (br_t (by rw [k]; rfl) (yw_spread rfl (by rw [br_1 (by omega), br_nd (by omega)]) (by omega) (by omega) (br_f (nk 5 (by decide) (by omega)) (br_f (nk 4 (by decide) (by omega)) (fin _ V1 R1 fun z => ⟨fun a y => N1 a ((bits a).mpr (fd_ow_mono (fun x hx => by omega) y)), fun y => by omega⟩)))))
  · have bits : ∀ a, (2 ^ A - 1).testBit a = true ↔ a < A := fun a => by rw [br_all, decide_eq_true_eq]
    obtain ⟨V1, R1, N1⟩ := yp_spread_ok (set := 2 ^ A - 1) hA4 hn V ht (by omega) fun a ha => Cl.2.2.2.2.1 t a ht ⟨(bits a).mp ha, Or.inr (Or.inl k)⟩
    refine br_t (by rw [k]; rfl) (yw_spread rfl rfl (by omega) (by omega) (br_f (nk 1 (by decide) (by omega)) (br_f (nk 5 (by decide) (by omega)) (br_f (nk 4 (by decide) (by omega)) (fin _ V1 R1 fun z => ⟨fun a y => N1 a ((bits a).mpr y.1), fun y => by omega⟩)))))
  · refine br_f (nk 2 (by decide) (by omega)) (br_f (nk 1 (by decide) (by omega)) (br_f (nk 5 (by decide) (by omega)) (br_f (nk 4 (by decide) (by omega)) (fin s V (ys_rf s) fun _ => ⟨fun a z => ?_, fun z => by omega⟩))))
    rcases z.2 with ⟨z, _⟩ | z | ⟨z, _⟩ | ⟨z, _⟩ <;> omega
  · have f4 := kt4 k
    have hsn : sn t < n := by omega
    have ot := V.2.1 t
    have nl := br_nl (s.2.2 t) (2 ^ fs t)
    have oT : ∀ a, O t a → a = fs t ∨ O (sn t) a := fun a ha => by
      obtain ⟨_, ⟨z, _⟩ | z | ⟨_, z⟩ | ⟨z, _⟩⟩ := Cl.2.2.2.2.2 t a ht (Or.inl k) ha
      · omega
      · omega
      · exact z
      · omega
    have b1 : ∀ a, (gp_nd (s.2.2 t) (2 ^ fs t)).testBit a = true ↔ yo s.2.2 t a ∧ a ≠ fs t := fun a => by
      rw [gp_nd_bit, Nat.testBit_two_pow]
      simp only [Bool.and_eq_true, Bool.not_eq_true', decide_eq_false_iff_not]
      exact and_congr Iff.rfl ⟨fun z w => z w.symm, fun z w => z w.symm⟩
    obtain ⟨V1, R1, N1⟩ := yp_spread_ok (t := sn t) (set := gp_nd (s.2.2 t) (2 ^ fs t)) hA4 hn V hsn (by omega) fun a ha => (oT a (V.2.2.2 t a ht ((b1 a).mp ha).1)).resolve_left ((b1 a).mp ha).2
    have o1 := V1.2.1 (sn t)
    have lf : 2 ^ fs t < 2 ^ A := Nat.pow_lt_pow_right (by decide) f4.1
    have lo := Nat.or_lt_two_pow o1 lf
    have b2 : ∀ a, ((yp_spread s (sn t) (gp_nd (s.2.2 t) (2 ^ fs t))).2.2 (sn t) ||| 2 ^ fs t).testBit a = true ↔ yo (yp_spread s (sn t) (gp_nd (s.2.2 t) (2 ^ fs t))).2.2 (sn t) a ∨ a = fs t := fun a => by
      rw [Nat.testBit_or, Bool.or_eq_true, Nat.testBit_two_pow, decide_eq_true_eq]
      exact or_congr Iff.rfl ⟨fun z => z.symm, fun z => z.symm⟩
    obtain ⟨V2, R2, N2⟩ := yp_spread_ok (t := t) (set := (yp_spread s (sn t) (gp_nd (s.2.2 t) (2 ^ fs t))).2.2 (sn t) ||| 2 ^ fs t) hA4 hn V1 ht lo fun a ha => Cl.2.2.2.2.1 t a ht (by
      rcases (b2 a).mp ha with z | z
      · have z' := V1.2.2.2 _ a hsn z
        exact ⟨fd_bd G hsn z', Or.inr (Or.inr (Or.inl ⟨k, Or.inr z'⟩))⟩
      · exact ⟨by omega, Or.inr (Or.inr (Or.inl ⟨k, Or.inl z⟩))⟩)
    refine br_f (nk 2 (by decide) (by omega)) (br_f (nk 1 (by decide) (by omega)) (br_f (nk 5 (by decide) (by omega)) (br_t (by rw [k]; rfl) (And.intro vt (yw_spread (t := sn t) rfl (by rw [nA_at (by omega), br_1 (by omega), br_nd (by omega)]) (by omega) (by omega) (And.intro (vp_in_nI (by omega) (by decide)) (yw_spread (t := t) rfl (by rw [nA_at (by omega), br_1 (by omega), br_or]) (by omega) (by omega) (fin _ V2 (ys_tr R1 R2) fun z => ⟨fun a y => ?_, fun _ a y => ?_⟩))))))))
    · have e := ys_0 R2 z
      rw [e] at y
      rcases y.2 with ⟨w, _⟩ | w | ⟨_, w⟩ | ⟨w, _⟩
      · omega
      · omega
      · exact N2 a ((b2 a).mpr w.symm)
      · omega
    · have e := ys_0 (ys_tr R1 R2) z
      rw [e] at y
      refine ⟨gp_bit_lt ot y, Or.inr (Or.inr (Or.inl ⟨k, ?_⟩))⟩
      by_cases w : a = fs t
      · exact Or.inl w
      · exact Or.inr (R2.1.2 _ _ (N1 a ((b1 a).mpr ⟨y, w⟩)))
  · have f5 := kt5 k
    have hsn : sn t < n := by omega
    have hfs : fs t < n := by omega
    have ot := V.2.1 t
    have oT : ∀ a, O t a → O (fs t) a ∧ O (sn t) a := fun a ha => by
      obtain ⟨_, ⟨z, _⟩ | z | ⟨z, _⟩ | ⟨_, z⟩⟩ := Cl.2.2.2.2.2 t a ht (Or.inr k) ha
      · omega
      · omega
      · omega
      · exact z
    obtain ⟨V1, R1, N1⟩ := yp_spread_ok (t := fs t) (set := s.2.2 t) hA4 hn V hfs ot fun a ha => (oT a (V.2.2.2 t a ht ha)).1
    have o1 := V1.2.1 t
    obtain ⟨V2, R2, N2⟩ := yp_spread_ok (t := sn t) (set := (yp_spread s (fs t) (s.2.2 t)).2.2 t) hA4 hn V1 hsn o1 fun a ha => (oT a (V1.2.2.2 t a ht ha)).2
    have o2 := V2.2.1 (sn t)
    have al := Nat.and_lt_two_pow ((yp_spread (yp_spread s (fs t) (s.2.2 t)) (sn t) ((yp_spread s (fs t) (s.2.2 t)).2.2 t)).2.2 (fs t)) o2
    obtain ⟨V3, R3, N3⟩ := yp_spread_ok (t := t) hA4 hn V2 ht al fun a ha => by
      rw [Nat.testBit_and, Bool.and_eq_true] at ha
      have z1 := V2.2.2.2 _ a hfs ha.1
      have z2 := V2.2.2.2 _ a hsn ha.2
      exact Cl.2.2.2.2.1 t a ht ⟨fd_bd G hfs z1, Or.inr (Or.inr (Or.inr ⟨k, z1, z2⟩))⟩
    refine br_f (nk 2 (by decide) (by omega)) (br_f (nk 1 (by decide) (by omega)) (br_t (by rw [k]; rfl) (And.intro vt (yw_spread (t := fs t) rfl (nA_at (by omega)) (by omega) (by omega) (And.intro vt (yw_spread (t := sn t) rfl (nA_at (by omega)) (by omega) (by omega) (And.intro (vp_in_nI (by omega) (by decide)) (And.intro (vp_in_nI (by omega) (by decide)) (yw_spread (t := t) rfl (by rw [nA_at (by omega), nA_at (by omega), nx_and]) (by omega) (by omega) (br_f (nk 4 (by decide) (by omega)) (fin _ V3 (ys_tr R1 (ys_tr R2 R3)) fun z => ⟨fun a y => ?_, fun _ a y => ?_⟩)))))))))))
    · have e := ys_0 R3 z
      rw [e] at y
      rcases y.2 with ⟨w, _⟩ | w | ⟨w, _⟩ | ⟨_, w⟩
      · omega
      · omega
      · omega
      · exact N3 a (by rw [Nat.testBit_and, Bool.and_eq_true]; exact w)
    · have e := ys_0 (ys_tr R1 (ys_tr R2 R3)) z
      rw [e] at y
      exact ⟨gp_bit_lt ot y, Or.inr (Or.inr (Or.inr ⟨k, (ys_tr R2 R3).1.2 _ _ (N1 a y), R3.1.2 _ _ (N2 a (R1.1.2 _ _ y))⟩))⟩
end
end
section
/-- what shapeRules looks at -/
def yf_s (A : Nat) (kd fs sn : Nat → Nat) (t u : Nat) (s : YS) : Prop :=
  (∀ c, gp_P A c → fd_sh kd fs sn (ye A s.2.1) (yo s.2.2) t u c → ye A s.2.1 t u c) ∧ ((kd t = 4 ∨ kd t = 5) → ∀ c, gp_P A c → ye A s.2.1 t u c → fd_sh kd fs sn (ye A s.2.1) (yo s.2.2) t u c)
/-- the rule for bound atoms -/
def yf_q (A : Nat) (fs sn : Nat → Nat) (t u c : Nat) (s : YS) : Prop :=
  ye A s.2.1 (sn t) (sn u) (gp_cm (gp_tr (fs t) (gp_ap c (fs u))) c) ∧ (fs t = gp_ap c (fs u) ∨ yo s.2.2 (sn u) (gp_ap (gp_iv c) (fs t)))
theorem yf_q_mono {A : Nat} {fs sn : Nat → Nat} {t u c : Nat} {s s' : YS} (L : ys_le s s') (h : yf_q A fs sn t u c s) : yf_q A fs sn t u c s' := ⟨L.1 _ _ h.1, h.2.imp id (L.2 _ _)⟩
section
variable {A mN mD n dc cl sd : Nat} {kd fs sn th tl dk di dj tp tt ti te tm ov is ak fh : Nat → Nat}
variable {s : YS} {E : Nat → Nat → Nat → Prop} {O : Nat → Nat → Prop}
theorem yw_s344 {post : SY → Prop} {J : Int32 → Int32 → Int32 → Int32 → Int32 → Int32 → Int32 → Int32 → Int32 → Int32 → Int32 → Int32 → (Nat → Int32) → (Nat → Int32) → (Nat → Int32) → (Nat → Int32) → (Nat → Int32) → (Nat → Int32) → (Nat → Int32) → (Nat → Int32) → (Nat → Int32) → (Nat → Int32) → (Nat → Int32) → (Nat → Int32) → (Nat → Int32) → (Nat → Int32) → (Nat → Int32) → (Nat → Int32) → (Nat → Int32) → (Nat → Int32) → (Nat → Int32) → Prop} {t u p : Nat} (hA : yp_A A) (hn : n ≤ 16) (W : fd_wf n A kd fs sn th) (Cl : fd_Cl n A kd fs sn th E O) (V : ys_V n A E O s) (ht : t < n) (hu : u < n) (kt : kd t = 4) (ku : kd u = 4) (hp : p < yp_np A)
    (K : ye A s.2.1 t u (yp_c A p) → yf_q A fs sn t u (yp_c A p) s)
    (h : ∀ s' : YS, ys_V n A E O s' → ys_R s s' → (s'.1 = 0 → (ye A s'.2.1 t u (yp_c A p) ↔ yf_q A fs sn t u (yp_c A p) s')) → J (nI (p + 1)) (nI A) (nI mN) (nI mD) (nI n) (nI dc) (nI (yp_np A)) (nI (2 ^ A - 1)) (nI (2 ^ yp_np A - 1)) (nI cl) (nI (s'.1)) (nI sd) (nA kd) (nA fs) (nA sn) (nA th) (nA tl) (nA dk) (nA di) (nA dj) (nA tp) (nA tt) (nA ti) (nA te) (nA tm) (nA (s'.2.1)) (nA (s'.2.2)) (nA ov) (nA is) (nA ak) (nA fh)) :
    wY_shapeRules_344 post J (nI t) (nI u) (nI (fs t)) (nI (fs u)) (nI (sn t)) (nI (sn u)) (nI p) (nI (gp_ap (yp_c A p) (fs u))) (nI (yp_ix A (gp_cm (gp_tr (fs t) (gp_ap (yp_c A p) (fs u))) (yp_c A p)))) (nI (gp_ap (gp_iv (yp_c A p)) (fs t))) (nI A) (nI mN) (nI mD) (nI n) (nI dc) (nI (yp_np A)) (nI (2 ^ A - 1)) (nI (2 ^ yp_np A - 1)) (nI cl) (nI (s.1)) (nI sd) (nA kd) (nA fs) (nA sn) (nA th) (nA tl) (nA dk) (nA di) (nA dj) (nA tp) (nA tt) (nA ti) (nA te) (nA tm) (nA (s.2.1)) (nA (s.2.2)) (nA ov) (nA is) (nA ak) (nA fh) := by
  have hA4 := yp_A4 hA
  have f4 := (W t ht).2.2.2.2.1 kt
  have g4 := (W u hu).2.2.2.2.1 ku
  have Pc := (yp_cP hA hp).1
  have ixc := (yp_cP hA hp).2
  have n24 := (yp_n24 hA).2
  have pn := yb_pw hA
  have pw := gp_pw hA4
  have eA : gp_ap (yp_c A p) (fs u) < A := gp_ltA Pc (by omega) g4.1
  have dA : gp_ap (gp_iv (yp_c A p)) (fs t) < A := gp_ltA (gp_P_iv Pc) (by omega) f4.1
  have Pq := gp_P_cm (gp_P_tr hA4 f4.1 eA) Pc
  have iq := yp_cix hA Pq
  have be := V.1 (sn t * 16 + sn u)
  have bo := V.2.1 (sn u)
  have e1 : nA s.2.1 (nI (sn t) * 16 + nI (sn u)).toNatClampNeg = nI (s.2.1 (sn t * 16 + sn u)) := by rw [yi_16]; exact nA_at (by omega)
  have e2 : nA s.2.2 (nI (sn u)).toNatClampNeg = nI (s.2.2 (sn u)) := nA_at (by omega)
  have ql : (((nA s.2.1 (nI (sn t) * 16 + nI (sn u)).toNatClampNeg) >>> ((nI (yp_ix A (gp_cm (gp_tr (fs t) (gp_ap (yp_c A p) (fs u))) (yp_c A p)))) &&& 31)) &&& 1) = 0 ↔ (s.2.1 (sn t * 16 + sn u)).testBit (yp_ix A (gp_cm (gp_tr (fs t) (gp_ap (yp_c A p) (fs u))) (yp_c A p))) = false := by
    rw [e1]; exact br_bit (by omega) (by omega)
  have qo : (((nA s.2.2 (nI (sn u)).toNatClampNeg) >>> ((nI (gp_ap (gp_iv (yp_c A p)) (fs t))) &&& 31)) &&& 1) = 0 ↔ (s.2.2 (sn u)).testBit (gp_ap (gp_iv (yp_c A p)) (fs t)) = false := by
    rw [e2]; exact br_bit (by omega) (by omega)
  have qe : (nI (fs t) = nI (gp_ap (yp_c A p) (fs u))) ↔ fs t = gp_ap (yp_c A p) (fs u) := br_eq (by omega) (by omega)
  have skip : ¬ yf_q A fs sn t u (yp_c A p) s → J (nI (p + 1)) (nI A) (nI mN) (nI mD) (nI n) (nI dc) (nI (yp_np A)) (nI (2 ^ A - 1)) (nI (2 ^ yp_np A - 1)) (nI cl) (nI (s.1)) (nI sd) (nA kd) (nA fs) (nA sn) (nA th) (nA tl) (nA dk) (nA di) (nA dj) (nA tp) (nA tt) (nA ti) (nA te) (nA tm) (nA (s.2.1)) (nA (s.2.2)) (nA ov) (nA is) (nA ak) (nA fh) := fun z => h s V (ys_rf s) fun _ => ⟨K, fun w => absurd w z⟩
  have go : yf_q A fs sn t u (yp_c A p) s → wY_shapeRules_387 post J (nI t) (nI u) (nI (fs t)) (nI (fs u)) (nI (sn t)) (nI (sn u)) (nI p) (nI A) (nI mN) (nI mD) (nI n) (nI dc) (nI (yp_np A)) (nI (2 ^ A - 1)) (nI (2 ^ yp_np A - 1)) (nI cl) (nI (s.1)) (nI sd) (nA kd) (nA fs) (nA sn) (nA th) (nA tl) (nA dk) (nA di) (nA dj) (nA tp) (nA tt) (nA ti) (nA te) (nA tm) (nA (s.2.1)) (nA (s.2.2)) (nA ov) (nA is) (nA ak) (nA fh) := fun z => by
    have Etu : E t u (yp_c A p) := Cl.2.2.1 t u _ ht hu Pc ⟨by omega, Or.inr (Or.inr (Or.inl ⟨kt, V.2.2.1 _ _ _ (by omega) (by omega) Pq z.1, z.2.imp id (V.2.2.2 _ _ (by omega))⟩))⟩
    have ol : 2 ^ p < 2 ^ yp_np A := Nat.pow_lt_pow_right (by decide) hp
    obtain ⟨V1, R1, N1⟩ := yp_link_ok (t := t) (u := u) (set := 2 ^ p) hA hn V ht hu ol fun c hc y => by
      rw [Nat.testBit_two_pow, decide_eq_true_eq] at y
      have := (yp_iP hA hc).2
      rw [← y] at this
      rw [← this]; exact Etu
    unfold wY_shapeRules_387
    refine yw_link rfl rfl (set := 2 ^ p) (br_1 (by omega)) (by omega) (by omega) (by omega) (nm_r (nI_1 p) (h _ V1 R1 fun _ => ⟨fun _ => yf_q_mono R1.1 z, fun _ => N1 _ ?_⟩))
    rw [ixc, Nat.testBit_two_pow]; simp
  unfold wY_shapeRules_344
  refine And.intro (by rw [yi_16]; exact vp_in_nI (by omega) (by decide)) (br_c (fun w => nm_r (nI_1 p) (skip fun z => ?_)) (fun w => br_c (fun v => go ⟨gp_nf fun y => w (ql.mpr y), Or.inl (qe.mp v)⟩) (fun v => And.intro (vp_in_nI (by omega) (by decide)) (br_c (fun y => nm_r (nI_1 p) (skip fun z => ?_)) (fun y => go ⟨gp_nf fun y => w (ql.mpr y), Or.inr (gp_nf fun x => y (qo.mpr x))⟩)))))
  · have z1 := z.1
    unfold ye at z1
    rw [ql.mp w] at z1; exact absurd z1 (by decide)
  · have z1 := z.2.resolve_left fun x => v (qe.mpr x)
    unfold yo at z1
    rw [qo.mp y] at z1; exact absurd z1 (by decide)
theorem yw_s212 {post : SY → Prop} {t u : Nat} (hA : yp_A A) (hn : n ≤ 16) (W : fd_wf n A kd fs sn th) (T : yT A tp tt ti te tm) (Cl : fd_Cl n A kd fs sn th E O) (V : ys_V n A E O s) (ht : t < n) (hu : u < n) (kt : kd t = 4) (ku : kd u = 4)
    (h : ∀ s' : YS, ys_V n A E O s' → ys_R s s' → (s'.1 = 0 → ∀ p, p < yp_np A → (ye A s'.2.1 t u (yp_c A p) ↔ yf_q A fs sn t u (yp_c A p) s')) → post (yt A mN mD n dc cl sd kd fs sn th tl dk di dj tp tt ti te tm ov is ak fh s')) :
    ∃ n212 : Nat, wY_shapeRules_212 post (nI t) (nI u) (nI (fs t)) (nI (fs u)) (nI (sn t)) (nI (sn u)) n212 0 (nI A) (nI mN) (nI mD) (nI n) (nI dc) (nI (yp_np A)) (nI (2 ^ A - 1)) (nI (2 ^ yp_np A - 1)) (nI cl) (nI (s.1)) (nI sd) (nA kd) (nA fs) (nA sn) (nA th) (nA tl) (nA dk) (nA di) (nA dj) (nA tp) (nA tt) (nA ti) (nA te) (nA tm) (nA (s.2.1)) (nA (s.2.2)) (nA ov) (nA is) (nA ak) (nA fh) := by
  have hA4 := yp_A4 hA
  have f4 := (W t ht).2.2.2.2.1 kt
  have g4 := (W u hu).2.2.2.2.1 ku
  have n24 := (yp_n24 hA).2
  have pn := yb_pw hA
  have pw := gp_pw hA4
  refine loop_0 (fun k i (st : YS) => wY_shapeRules_212 post (nI t) (nI u) (nI (fs t)) (nI (fs u)) (nI (sn t)) (nI (sn u)) k (nI i) (nI A) (nI mN) (nI mD) (nI n) (nI dc) (nI (yp_np A)) (nI (2 ^ A - 1)) (nI (2 ^ yp_np A - 1)) (nI cl) (nI (st.1)) (nI sd) (nA kd) (nA fs) (nA sn) (nA th) (nA tl) (nA dk) (nA di) (nA dj) (nA tp) (nA tt) (nA ti) (nA te) (nA tm) (nA (st.2.1)) (nA (st.2.2)) (nA ov) (nA is) (nA ak) (nA fh)) (fun i st => ys_V n A E O st ∧ ys_R s st ∧ (st.1 = 0 → ∀ p, p < i → (ye A st.2.1 t u (yp_c A p) ↔ yf_q A fs sn t u (yp_c A p) st))) (yp_np A) s ⟨V, ys_rf s, fun _ p hp => by omega⟩ ?_ ?_
  · rintro k st ⟨I1, I2, I3⟩
    exact br_t (nI_le (Nat.le_refl _) (by omega)) (h st I1 I2 I3)
  · rintro k p st hp ⟨I1, I2, I3⟩ next
    have Pc := (yp_cP hA hp).1
    have ixc := (yp_cP hA hp).2
    have eA : gp_ap (yp_c A p) (fs u) < A := gp_ltA Pc (by omega) g4.1
    have dA : gp_ap (gp_iv (yp_c A p)) (fs t) < A := gp_ltA (gp_P_iv Pc) (by omega) f4.1
    have hT := gp_P_tr hA4 f4.1 eA
    have iT := yp_iP hA hT
    have iI := yp_iP hA (gp_P_iv Pc)
    have Pq := gp_P_cm hT Pc
    have iq := yp_cix hA Pq
    have be := I1.1 (t * 16 + u)
    have e1 : nA tp (nI p * 4 + nI (fs u)).toNatClampNeg = nI (gp_ap (yp_c A p) (fs u)) := by
      rw [yi_4, nA_at (by omega), T.1 p _ hp (by omega)]
    have e2 : nA te (nI (fs t) * 4 + nI (gp_ap (yp_c A p) (fs u))).toNatClampNeg = nI (yp_ix A (gp_tr (fs t) (gp_ap (yp_c A p) (fs u)))) := by
      rw [yi_4, nA_at (by omega), T.2.2.2.1 _ _ f4.1 eA]
    have e3 : nA tt (nI (yp_ix A (gp_tr (fs t) (gp_ap (yp_c A p) (fs u)))) * 24 + nI p).toNatClampNeg = nI (yp_ix A (gp_cm (gp_tr (fs t) (gp_ap (yp_c A p) (fs u))) (yp_c A p))) := by
      rw [yi_24, nA_at (by omega), T.2.1 _ _ iT.1 hp, iT.2]
    have e4 : nA ti (nI p).toNatClampNeg = nI (yp_ix A (gp_iv (yp_c A p))) := by rw [nA_at (by omega), T.2.2.1 p hp]
    have e5 : nA tp (nI (yp_ix A (gp_iv (yp_c A p))) * 4 + nI (fs t)).toNatClampNeg = nI (gp_ap (gp_iv (yp_c A p)) (fs t)) := by
      rw [yi_4, nA_at (by omega), T.1 _ _ iI.1 (by omega), iI.2]
    have e3' : nA tt (nA te (nI (fs t) * 4 + nI (gp_ap (yp_c A p) (fs u))).toNatClampNeg * 24 + nI p).toNatClampNeg = nI (yp_ix A (gp_cm (gp_tr (fs t) (gp_ap (yp_c A p) (fs u))) (yp_c A p))) := by rw [e2]; exact e3
    have e5' : nA tp (nA ti (nI p).toNatClampNeg * 4 + nI (fs t)).toNatClampNeg = nI (gp_ap (gp_iv (yp_c A p)) (fs t)) := by rw [e4]; exact e5
    have ek : nA st.2.1 (nI t * 16 + nI u).toNatClampNeg = nI (st.2.1 (t * 16 + u)) := by rw [yi_16]; exact nA_at (by omega)
    have qk : (((nA st.2.1 (nI t * 16 + nI u).toNatClampNeg) >>> (nI p &&& 31)) &&& 1) = 0 ↔ (st.2.1 (t * 16 + u)).testBit p = false := by
      rw [ek]; exact br_bit (by omega) (by omega)
    have nx : ∀ s' : YS, ys_V n A E O s' → ys_R st s' → (s'.1 = 0 → (ye A s'.2.1 t u (yp_c A p) ↔ yf_q A fs sn t u (yp_c A p) s')) → wY_shapeRules_212 post (nI t) (nI u) (nI (fs t)) (nI (fs u)) (nI (sn t)) (nI (sn u)) k (nI (p + 1)) (nI A) (nI mN) (nI mD) (nI n) (nI dc) (nI (yp_np A)) (nI (2 ^ A - 1)) (nI (2 ^ yp_np A - 1)) (nI cl) (nI (s'.1)) (nI sd) (nA kd) (nA fs) (nA sn) (nA th) (nA tl) (nA dk) (nA di) (nA dj) (nA tp) (nA tt) (nA ti) (nA te) (nA tm) (nA (s'.2.1)) (nA (s'.2.2)) (nA ov) (nA is) (nA ak) (nA fh) := fun s' V' R' f' => next s' ⟨V', ys_tr I2 R', fun z j hj => by
      by_cases e : j = p
      · rw [e]; exact f' z
      · have e2 := ys_0 R' z
        have := I3 (by rw [← e2]; exact z) j (by omega)
        rw [e2]; exact this⟩
    refine br_f (nI_ge hp (by omega)) (And.intro (by rw [yi_4]; exact vp_in_nI (by omega) (by decide)) (nm_r e1 (And.intro (by rw [yi_4]; exact vp_in_nI (by omega) (by decide)) (And.intro (by rw [e2, yi_24]; exact vp_in_nI (by omega) (by decide)) (nm_r e3' (And.intro (vp_in_nI (by omega) (by decide)) (And.intro (by rw [e4, yi_4]; exact vp_in_nI (by omega) (by decide)) (nm_r e5' (And.intro (by rw [yi_16]; exact vp_in_nI (by omega) (by decide)) (br_c (fun w => ?_) (fun w => ?_)))))))))))
    · refine br_t rfl (br_t rfl (yw_s344 hA hn W Cl I1 ht hu kt ku hp (fun z => ?_) nx))
      unfold ye at z
      rw [ixc, qk.mp w] at z; exact absurd z (by decide)
    · have kn : ye A st.2.1 t u (yp_c A p) := by
        unfold ye; rw [ixc]; exact gp_nf fun z => w (qk.mpr z)
      have sh : E (sn t) (sn u) (gp_cm (gp_tr (fs t) (gp_ap (yp_c A p) (fs u))) (yp_c A p)) ∧ (fs t = gp_ap (yp_c A p) (fs u) ∨ O (sn u) (gp_ap (gp_iv (yp_c A p)) (fs t))) := by
        obtain ⟨_, ⟨z, _⟩ | ⟨z, _⟩ | ⟨_, z⟩ | ⟨z, _⟩⟩ := Cl.2.2.2.1 t u _ ht hu Pc (Or.inl kt) (by omega) (I1.2.2.1 t u _ ht hu Pc kn)
        · omega
        · omega
        · exact z
        · omega
      have ol := yb_olt hA Pq
      obtain ⟨V1, R1, N1⟩ := yp_link_ok (t := sn t) (u := sn u) hA hn I1 (by omega) (by omega) ol fun c hc y => by
        rw [(yb_one hA Pq hc).mp y]; exact sh.1
      have N1' := N1 (yp_ix A (gp_cm (gp_tr (fs t) (gp_ap (yp_c A p) (fs u))) (yp_c A p))) (by rw [Nat.testBit_two_pow]; simp)
      refine br_f (by decide) (yw_link (t := sn t) (u := sn u) rfl rfl (br_1 (by omega)) (by omega) (by omega) (by omega) (br_f (by decide) ?_))
      by_cases z : fs t = gp_ap (yp_c A p) (fs u)
      · exact br_t ((br_eq (by omega) (by omega)).mpr z) (yw_s344 hA hn W Cl V1 ht hu kt ku hp (fun _ => ⟨N1', Or.inl z⟩) fun s' V' R' f' => nx s' V' (ys_tr R1 R') f')
      · have pd : 2 ^ gp_ap (gp_iv (yp_c A p)) (fs t) < 2 ^ A := Nat.pow_lt_pow_right (by decide) dA
        obtain ⟨V2, R2, N2⟩ := yp_spread_ok (t := sn u) hA4 hn V1 (by omega) pd fun a ha => by
          rw [Nat.testBit_two_pow, decide_eq_true_eq] at ha
          rw [← ha]; exact sh.2.resolve_left z
        have N2' := N2 (gp_ap (gp_iv (yp_c A p)) (fs t)) (by rw [Nat.testBit_two_pow]; simp)
        exact br_f (fun y => z ((br_eq (by omega) (by omega)).mp y)) (yw_spread (t := sn u) rfl (br_1 (by omega)) (by omega) (by omega) (yw_s344 hA hn W Cl V2 ht hu kt ku hp (fun _ => ⟨R2.1.1 _ _ N1', Or.inr N2'⟩) fun s' V' R' f' => nx s' V' (ys_tr R1 (ys_tr R2 R')) f'))
end
end
section
theorem ya_16 {f : Nat → Nat} {t u : Nat} (h : t * 16 + u < 2147483648) : nA f (nI t * 16 + nI u).toNatClampNeg = nI (f (t * 16 + u)) := by rw [yi_16, nA_at h]
theorem ya_4 {f : Nat → Nat} {t u : Nat} (h : t * 4 + u < 2147483648) : nA f (nI t * 4 + nI u).toNatClampNeg = nI (f (t * 4 + u)) := by rw [yi_4, nA_at h]
theorem ya_24 {f : Nat → Nat} {t u : Nat} (h : t * 24 + u < 2147483648) : nA f (nI t * 24 + nI u).toNatClampNeg = nI (f (t * 24 + u)) := by rw [yi_24, nA_at h]
theorem yv_16 {t u : Nat} (h : t * 16 + u < 256) : vp_in (nI t * 16 + nI u) 256 := by rw [yi_16]; exact vp_in_nI h (by decide)
theorem yv_4 {t u N : Nat} (h : t * 4 + u < N) (hN : N < 2147483648) : vp_in (nI t * 4 + nI u) N := by rw [yi_4]; exact vp_in_nI h hN
theorem yv_24 {t u : Nat} (h : t * 24 + u < 576) : vp_in (nI t * 24 + nI u) 576 := by rw [yi_24]; exact vp_in_nI h (by decide)
theorem ya_an {f g : Nat → Nat} {t u v w : Nat} (h : t * 16 + u < 2147483648) (h' : v * 16 + w < 2147483648) : nA f (nI t * 16 + nI u).toNatClampNeg &&& nA g (nI v * 16 + nI w).toNatClampNeg = nI (f (t * 16 + u) &&& g (v * 16 + w)) := by rw [ya_16 h, ya_16 h', nx_and]
section
variable {A mN mD n dc cl sd : Nat} {kd fs sn th tl dk di dj tp tt ti te tm ov is ak fh : Nat → Nat}
variable {s : YS} {E : Nat → Nat → Nat → Prop} {O : Nat → Nat → Prop}
theorem yw_s140 {post : SY → Prop} {t u x8 : Nat} (hA : yp_A A) (hn : n ≤ 16) (W : fd_wf n A kd fs sn th) (T : yT A tp tt ti te tm) (Cl : fd_Cl n A kd fs sn th E O) (V : ys_V n A E O s) (ht : t < n) (hu : u < n) (kt : kd t = 1) (ku : kd u = 1)
    (h : ∀ s' : YS, ys_V n A E O s' → ys_R s s' → (s'.1 = 0 → ∀ p, p < yp_np A → gp_ap (yp_c A p) (fs u) = fs t → ye A s'.2.1 t u (yp_c A p)) → post (yt A mN mD n dc cl sd kd fs sn th tl dk di dj tp tt ti te tm ov is ak fh s')) :
    ∃ n140 : Nat, wY_shapeRules_140 post (nI t) (nI u) (nI (kd t)) (nI (fs t)) (nI (fs u)) (nI (sn t)) (nI (sn u)) (nI x8) n140 0 (nI A) (nI mN) (nI mD) (nI n) (nI dc) (nI (yp_np A)) (nI (2 ^ A - 1)) (nI (2 ^ yp_np A - 1)) (nI cl) (nI (s.1)) (nI sd) (nA kd) (nA fs) (nA sn) (nA th) (nA tl) (nA dk) (nA di) (nA dj) (nA tp) (nA tt) (nA ti) (nA te) (nA tm) (nA (s.2.1)) (nA (s.2.2)) (nA ov) (nA is) (nA ak) (nA fh) := by
  have hA4 := yp_A4 hA
  have f1 := (W t ht).2.1 kt
  have g1 := (W u hu).2.1 ku
  have n24 := (yp_n24 hA).2
  have pn := yb_pw hA
  refine loop_0 (fun k i (st : YS) => wY_shapeRules_140 post (nI t) (nI u) (nI (kd t)) (nI (fs t)) (nI (fs u)) (nI (sn t)) (nI (sn u)) (nI x8) k (nI i) (nI A) (nI mN) (nI mD) (nI n) (nI dc) (nI (yp_np A)) (nI (2 ^ A - 1)) (nI (2 ^ yp_np A - 1)) (nI cl) (nI (st.1)) (nI sd) (nA kd) (nA fs) (nA sn) (nA th) (nA tl) (nA dk) (nA di) (nA dj) (nA tp) (nA tt) (nA ti) (nA te) (nA tm) (nA (st.2.1)) (nA (st.2.2)) (nA ov) (nA is) (nA ak) (nA fh)) (fun i st => ys_V n A E O st ∧ ys_R s st ∧ (st.1 = 0 → ∀ p, p < i → gp_ap (yp_c A p) (fs u) = fs t → ye A st.2.1 t u (yp_c A p))) (yp_np A) s ⟨V, ys_rf s, fun _ p hp => by omega⟩ ?_ ?_
  · rintro k st ⟨I1, I2, I3⟩
    exact br_t (nI_le (Nat.le_refl _) (by omega)) (br_f (by rw [kt]; decide) (h st I1 I2 I3))
  · rintro k p st hp ⟨I1, I2, I3⟩ next
    have Pc := (yp_cP hA hp).1
    have ixc := (yp_cP hA hp).2
    have aP := gp_ap_lt (yp_c A p) (fs u)
    have e1 : nA tp (nI p * 4 + nI (fs u)).toNatClampNeg = nI (gp_ap (yp_c A p) (fs u)) := by
      rw [yi_4, nA_at (by omega), T.1 p _ hp (by omega)]
    have q1 : nA tp (nI p * 4 + nI (fs u)).toNatClampNeg = nI (fs t) ↔ gp_ap (yp_c A p) (fs u) = fs t := by rw [e1]; exact br_eq (by omega) (by omega)
    refine br_f (nI_ge hp (by omega)) (And.intro (by rw [yi_4]; exact vp_in_nI (by omega) (by decide)) (br_c (fun w => ?_) (fun w => nm_r (nI_1 p) (next st ⟨I1, I2, fun z j hj y => ?_⟩))))
    · have Etu : E t u (yp_c A p) := Cl.2.2.1 t u _ ht hu Pc ⟨by omega, Or.inl ⟨kt, q1.mp w⟩⟩
      have ol : 2 ^ p < 2 ^ yp_np A := Nat.pow_lt_pow_right (by decide) hp
      obtain ⟨V1, R1, N1⟩ := yp_link_ok (t := t) (u := u) (set := 2 ^ p) hA hn I1 ht hu ol fun c hc y => by
        rw [Nat.testBit_two_pow, decide_eq_true_eq] at y
        have := (yp_iP hA hc).2
        rw [← y] at this
        rw [← this]; exact Etu
      refine yw_link rfl rfl (set := 2 ^ p) (br_1 (by omega)) (by omega) (by omega) (by omega) (nm_r (nI_1 p) (next _ ⟨V1, ys_tr I2 R1, fun z j hj y => ?_⟩))
      by_cases e : j = p
      · rw [e]; unfold ye; rw [ixc]; exact N1 p (by rw [Nat.testBit_two_pow]; simp)
      · have e2 := ys_0 R1 z
        rw [e2]
        exact I3 (by rw [← e2]; exact z) j (by omega) y
    · by_cases e : j = p
      · rw [e] at y; exact absurd (q1.mpr y) w
      · exact I3 z j (by omega) y
theorem yw_shape {post : SY → Prop} {t u : Nat} {x y : Int32} (ex : x = nI t) (ey : y = nI u) (hA : yp_A A) (hn : n ≤ 16) (W : fd_wf n A kd fs sn th) (T : yT A tp tt ti te tm) (Cl : fd_Cl n A kd fs sn th E O) (V : ys_V n A E O s) (ht : t < n) (hu : u < n) (ek : kd t = kd u)
    (h : ∀ s', ys_V n A E O s' → ys_R s s' → (s'.1 = 0 → yf_s A kd fs sn t u s') → post (yt A mN mD n dc cl sd kd fs sn th tl dk di dj tp tt ti te tm ov is ak fh s')) : wpY_shapeRules post (yt A mN mD n dc cl sd kd fs sn th tl dk di dj tp tt ti te tm ov is ak fh s) x y := by
  subst ex ey
  have hA4 := yp_A4 hA
  have G := Cl.1
  have pn := yb_pw hA
  have pp := Nat.two_pow_pos (yp_np A)
  have n24 := (yp_n24 hA).2
  obtain ⟨kt, kt1, kt2, kt3, kt4, kt5⟩ := W t ht
  obtain ⟨ku, ku1, ku2, ku3, ku4, ku5⟩ := W u hu
  have vt : vp_in (nI t) 16 := vp_in_nI (by omega) (by decide)
  have vu : vp_in (nI u) 16 := vp_in_nI (by omega) (by decide)
  have nk : ∀ j : Nat, j < 4294967296 → kd t ≠ j → ¬ nI (kd t) = nI j := fun j hj z => by rw [br_eq (by omega) hj]; exact z
  have be := V.1 (t * 16 + u)
  unfold wpY_shapeRules
  refine And.intro vt (nm_r (nA_at (by omega)) (And.intro vt (nm_r (nA_at (by omega)) (And.intro vu (nm_r (nA_at (by omega)) (And.intro vt (nm_r (nA_at (by omega)) (And.intro vu (nm_r (nA_at (by omega)) (And.intro (by rw [yi_16]; exact vp_in_nI (by omega) (by decide)) (nm_r (ya_16 (by omega)) ?_)))))))))))
  have nosh : ∀ s' : YS, (kd t = 0 ∨ kd t = 3) → yf_s A kd fs sn t u s' := fun s' z => ⟨fun c hc y => by rcases (fd_sh_rg y).1 with w | w | w | w <;> omega, fun y => by omega⟩
  rcases (by omega : kd t = 0 ∨ kd t = 1 ∨ kd t = 2 ∨ kd t = 3 ∨ kd t = 4 ∨ kd t = 5) with k | k | k | k | k | k
  · exact br_f (nk 2 (by decide) (by omega)) (br_f (nk 5 (by decide) (by omega)) (br_f (nk 1 (by decide) (by omega)) (br_f (nk 4 (by decide) (by omega)) (h s V (ys_rf s) fun _ => nosh s (Or.inl k)))))
  · refine br_f (nk 2 (by decide) (by omega)) (br_f (nk 5 (by decide) (by omega)) (br_t (by rw [k]; rfl) (yw_s140 hA hn W T Cl V ht hu k (by omega) fun s' V' R' f' => h s' V' R' fun z => ⟨fun c hc y => ?_, fun y => by omega⟩)))
    obtain ⟨_, ⟨_, y⟩ | ⟨w, _⟩ | ⟨w, _⟩ | ⟨w, _⟩⟩ := y
    · have i := yp_iP hA hc
      have := f' z _ i.1 (by rw [i.2]; exact y)
      rw [i.2] at this; exact this
    all_goals omega
  · have f2 := kt2 k
    have g2 := ku2 (by omega)
    by_cases e : fs t = fs u
    · obtain ⟨V1, R1, N1⟩ := yp_link_ok (t := t) (u := u) (set := 2 ^ yp_np A - 1) hA hn V ht hu (by omega) fun c hc y => Cl.2.2.1 t u c ht hu hc ⟨ek, Or.inr (Or.inl ⟨k, e⟩)⟩
      refine br_t (by rw [k]; rfl) (br_t (by rw [e]) (yw_link rfl rfl rfl (by omega) (by omega) (by omega) (br_f (nk 5 (by decide) (by omega)) (br_f (nk 1 (by decide) (by omega)) (br_f (nk 4 (by decide) (by omega)) (h _ V1 R1 fun z => ⟨fun c hc y => N1 _ ?_, fun y => by omega⟩))))))
      rw [br_all, decide_eq_true_eq]; exact (yp_iP hA hc).1
    · refine br_t (by rw [k]; rfl) (br_f (by rw [br_eq (by omega) (by omega)]; exact e) (br_f (nk 5 (by decide) (by omega)) (br_f (nk 1 (by decide) (by omega)) (br_f (nk 4 (by decide) (by omega)) (h s V (ys_rf s) fun z => ⟨fun c hc y => ?_, fun y => by omega⟩)))))
      obtain ⟨_, ⟨w, _⟩ | ⟨_, w⟩ | ⟨w, _⟩ | ⟨w, _⟩⟩ := y
      · omega
      · exact absurd w e
      · omega
      · omega
  · exact br_f (nk 2 (by decide) (by omega)) (br_f (nk 5 (by decide) (by omega)) (br_f (nk 1 (by decide) (by omega)) (br_f (nk 4 (by decide) (by omega)) (h s V (ys_rf s) fun _ => nosh s (Or.inr k)))))
  · have f4 := kt4 k
    have g4 := ku4 (by omega)
    have fin : ∃ n212 : Nat, wY_shapeRules_212 post (nI t) (nI u) (nI (fs t)) (nI (fs u)) (nI (sn t)) (nI (sn u)) n212 0 (nI A) (nI mN) (nI mD) (nI n) (nI dc) (nI (yp_np A)) (nI (2 ^ A - 1)) (nI (2 ^ yp_np A - 1)) (nI cl) (nI (s.1)) (nI sd) (nA kd) (nA fs) (nA sn) (nA th) (nA tl) (nA dk) (nA di) (nA dj) (nA tp) (nA tt) (nA ti) (nA te) (nA tm) (nA (s.2.1)) (nA (s.2.2)) (nA ov) (nA is) (nA ak) (nA fh) :=
      yw_s212 hA hn W T Cl V ht hu k (by omega) fun s' V' R' f' => h s' V' R' fun z => by
        have key : ∀ c, gp_P A c → (ye A s'.2.1 t u c ↔ yf_q A fs sn t u c s') := fun c hc => by
          have i := yp_iP hA hc
          have := f' z _ i.1
          rw [i.2] at this; exact this
        refine ⟨fun c hc y => (key c hc).mpr ?_, fun _ c hc y => ⟨ek, Or.inr (Or.inr (Or.inl ⟨k, (key c hc).mp y⟩))⟩⟩
        obtain ⟨_, ⟨w, _⟩ | ⟨w, _⟩ | ⟨_, w⟩ | ⟨w, _⟩⟩ := y
        · omega
        · omega
        · exact w
        · omega
    have be2 := V.1 (sn t * 16 + sn u)
    have e1 : nA s.2.1 (nI (sn t) * 16 + nI (sn u)).toNatClampNeg = nI (s.2.1 (sn t * 16 + sn u)) := by rw [yi_16]; exact nA_at (by omega)
    refine br_f (nk 2 (by decide) (by omega)) (br_f (nk 5 (by decide) (by omega)) (br_f (nk 1 (by decide) (by omega)) (br_t (by rw [k]; rfl) (br_c (fun w => And.intro (by rw [yi_16]; exact vp_in_nI (by omega) (by decide)) (br_c (fun w2 => ?_) (fun _ => fin))) (fun _ => fin)))))
    have z1 : s.2.1 (t * 16 + u) = 0 := by
      rw [show (0 : Int32) = nI 0 from rfl, br_eq (by omega) (by decide)] at w; exact w
    have z2 : s.2.1 (sn t * 16 + sn u) = 0 := by
      rw [e1, show (0 : Int32) = nI 0 from rfl, br_eq (by omega) (by decide)] at w2; exact w2
    refine h s V (ys_rf s) fun _ => ⟨fun c hc y => ?_, fun _ c hc y => ?_⟩
    · obtain ⟨_, ⟨w, _⟩ | ⟨w, _⟩ | ⟨_, w, _⟩ | ⟨w, _⟩⟩ := y
      · omega
      · omega
      · unfold ye at w; rw [z2, Nat.zero_testBit] at w; exact absurd w (by decide)
      · omega
    · unfold ye at y; rw [z1, Nat.zero_testBit] at y; exact absurd y (by decide)
  · have f5 := kt5 k
    have g5 := ku5 (by omega)
    have shE : ∀ c, gp_P A c → E t u c → E (fs t) (fs u) c ∧ E (sn t) (sn u) c := fun c hc y => by
      obtain ⟨_, ⟨w, _⟩ | ⟨w, _⟩ | ⟨w, _⟩ | ⟨_, w⟩⟩ := Cl.2.2.2.1 t u c ht hu hc (Or.inr k) ek y
      · omega
      · omega
      · omega
      · exact w
    obtain ⟨V1, R1, N1⟩ := yp_link_ok (t := fs t) (u := fs u) (set := s.2.1 (t * 16 + u)) hA hn V (by omega) (by omega) be fun c hc y => (shE c hc (V.2.2.1 t u c ht hu hc y)).1
    obtain ⟨V2, R2, N2⟩ := yp_link_ok (t := sn t) (u := sn u) (set := s.2.1 (t * 16 + u)) hA hn V1 (by omega) (by omega) be fun c hc y => (shE c hc (V.2.2.1 t u c ht hu hc y)).2
    have b2 := V2.1 (sn t * 16 + sn u)
    have al := Nat.and_lt_two_pow ((yp_link (yp_link s (fs t) (fs u) (s.2.1 (t * 16 + u))) (sn t) (sn u) (s.2.1 (t * 16 + u))).2.1 (fs t * 16 + fs u)) b2
    obtain ⟨V3, R3, N3⟩ := yp_link_ok (t := t) (u := u) hA hn V2 ht hu al fun c hc y => by
      rw [Nat.testBit_and, Bool.and_eq_true] at y
      exact Cl.2.2.1 t u c ht hu hc ⟨ek, Or.inr (Or.inr (Or.inr ⟨k, V2.2.2.1 _ _ c (by omega) (by omega) hc y.1, V2.2.2.1 _ _ c (by omega) (by omega) hc y.2⟩))⟩
    refine br_f (nk 2 (by decide) (by omega)) (br_t (by rw [k]; rfl) (yw_link (t := fs t) (u := fs u) rfl rfl rfl (by omega) (by omega) (by omega) (yw_link (t := sn t) (u := sn u) rfl rfl rfl (by omega) (by omega) (by omega) (And.intro (by rw [yi_16]; exact vp_in_nI (by omega) (by decide)) (And.intro (by rw [yi_16]; exact vp_in_nI (by omega) (by decide)) (yw_link (t := t) (u := u) rfl rfl (ya_an (by omega) (by omega)) (by omega) (by omega) (by omega) (br_f (nk 1 (by decide) (by omega)) (br_f (nk 4 (by decide) (by omega)) (h _ V3 (ys_tr R1 (ys_tr R2 R3)) fun z => ⟨fun c hc y => ?_, fun _ c hc y => ?_⟩)))))))))
    · have e := ys_0 R3 z
      rw [e] at y
      obtain ⟨_, ⟨w, _⟩ | ⟨w, _⟩ | ⟨w, _⟩ | ⟨_, w⟩⟩ := y
      · omega
      · omega
      · omega
      · exact N3 _ (by rw [Nat.testBit_and, Bool.and_eq_true]; exact w)
    · have e := ys_0 (ys_tr R1 (ys_tr R2 R3)) z
      rw [e] at y
      exact ⟨ek, Or.inr (Or.inr (Or.inr ⟨k, (ys_tr R2 R3).1.1 _ _ (N1 _ y), R3.1.1 _ _ (N2 _ y)⟩))⟩
end
end
section
/-- what linkRules looks at: inverses, atoms, products -/
def yf_i (A : Nat) (t u c : Nat) (s : YS) : Prop :=
  ye A s.2.1 t u c → ye A s.2.1 u t (gp_iv c) ∧ (∀ a, a < A → yo s.2.2 u a → yo s.2.2 t (gp_ap c a)) ∧ (t = u → ∀ a, a < A → gp_ap c a ≠ a → yo s.2.2 t a)
def yf_p (n A : Nat) (t u c : Nat) (s : YS) : Prop := ∀ v d, v < n → gp_P A d → ye A s.2.1 u v d → ye A s.2.1 t v (gp_cm c d)
def yf_l (n A : Nat) (t u : Nat) (s : YS) : Prop :=
  (∀ c, gp_P A c → yf_i A t u c s) ∧ (t = u → ∀ c, gp_P A c → ye A s.2.1 t u c → yf_p n A t u c s) ∧ (t ≠ u → ∀ c, gp_P A c → ye A s.2.1 t u c → ∃ c0, gp_P A c0 ∧ ye A s.2.1 t u c0 ∧ yf_p n A t u c0 s)
section
variable {A mN mD n dc cl sd : Nat} {kd fs sn th tl dk di dj tp tt ti te tm ov is ak fh : Nat → Nat}
variable {s : YS} {E : Nat → Nat → Nat → Prop} {O : Nat → Nat → Prop}
theorem yw_l178 {post : SY → Prop} {J : Int32 → Int32 → Int32 → Int32 → Int32 → Int32 → Int32 → Int32 → Int32 → Int32 → Int32 → Int32 → (Nat → Int32) → (Nat → Int32) → (Nat → Int32) → (Nat → Int32) → (Nat → Int32) → (Nat → Int32) → (Nat → Int32) → (Nat → Int32) → (Nat → Int32) → (Nat → Int32) → (Nat → Int32) → (Nat → Int32) → (Nat → Int32) → (Nat → Int32) → (Nat → Int32) → (Nat → Int32) → (Nat → Int32) → (Nat → Int32) → (Nat → Int32) → Prop} {t u p : Nat} (hA : yp_A A) (hn : n ≤ 16) (T : yT A tp tt ti te tm) (Cl : fd_Cl n A kd fs sn th E O) (V : ys_V n A E O s) (ht : t < n) (hu : u < n) (hp : p < yp_np A) (kn : ye A s.2.1 t u (yp_c A p))
    (h : ∀ s' : YS, ys_V n A E O s' → ys_R s s' → (s'.1 = 0 → yf_p n A t u (yp_c A p) s') → (t = u → J (nI (p + 1)) (nI A) (nI mN) (nI mD) (nI n) (nI dc) (nI (yp_np A)) (nI (2 ^ A - 1)) (nI (2 ^ yp_np A - 1)) (nI cl) (nI (s'.1)) (nI sd) (nA kd) (nA fs) (nA sn) (nA th) (nA tl) (nA dk) (nA di) (nA dj) (nA tp) (nA tt) (nA ti) (nA te) (nA tm) (nA (s'.2.1)) (nA (s'.2.2)) (nA ov) (nA is) (nA ak) (nA fh)) ∧ (t ≠ u → post (yt A mN mD n dc cl sd kd fs sn th tl dk di dj tp tt ti te tm ov is ak fh s'))) :
    ∃ n178 : Nat, wY_linkRules_178 post J (nI t) (nI u) (nI p) n178 0 (nI A) (nI mN) (nI mD) (nI n) (nI dc) (nI (yp_np A)) (nI (2 ^ A - 1)) (nI (2 ^ yp_np A - 1)) (nI cl) (nI (s.1)) (nI sd) (nA kd) (nA fs) (nA sn) (nA th) (nA tl) (nA dk) (nA di) (nA dj) (nA tp) (nA tt) (nA ti) (nA te) (nA tm) (nA (s.2.1)) (nA (s.2.2)) (nA ov) (nA is) (nA ak) (nA fh) := by
  have n24 := (yp_n24 hA).2
  have pn := yb_pw hA
  have pp := Nat.two_pow_pos (yp_np A)
  have Pc := (yp_cP hA hp).1
  have Etu := V.2.2.1 t u _ ht hu Pc kn
  refine loop_0 (fun k i (st : YS) => wY_linkRules_178 post J (nI t) (nI u) (nI p) k (nI i) (nI A) (nI mN) (nI mD) (nI n) (nI dc) (nI (yp_np A)) (nI (2 ^ A - 1)) (nI (2 ^ yp_np A - 1)) (nI cl) (nI (st.1)) (nI sd) (nA kd) (nA fs) (nA sn) (nA th) (nA tl) (nA dk) (nA di) (nA dj) (nA tp) (nA tt) (nA ti) (nA te) (nA tm) (nA (st.2.1)) (nA (st.2.2)) (nA ov) (nA is) (nA ak) (nA fh)) (fun i st => ys_V n A E O st ∧ ys_R s st ∧ (st.1 = 0 → ∀ v d, v < i → gp_P A d → ye A st.2.1 u v d → ye A st.2.1 t v (gp_cm (yp_c A p) d))) n s ⟨V, ys_rf s, fun _ v d hv => by omega⟩ ?_ ?_
  · rintro k st ⟨I1, I2, I3⟩
    have hh := h st I1 I2 I3
    refine br_t (nI_le (Nat.le_refl _) (by omega)) (br_c (fun w => nm_r (nI_1 p) (hh.1 ((br_eq (by omega) (by omega)).mp w))) (fun w => hh.2 fun z => w ((br_eq (by omega) (by omega)).mpr z)))
  · rintro k v st hv ⟨I1, I2, I3⟩ next
    have b1 := I1.1 (u * 16 + v)
    have b2 := I1.1 (t * 16 + v)
    have q1 : (nA st.2.1 (nI u * 16 + nI v).toNatClampNeg = 0) ↔ st.2.1 (u * 16 + v) = 0 := by
      rw [ya_16 (by omega), show (0 : Int32) = nI 0 from rfl, br_eq (by omega) (by decide)]
    have q2 : (nA st.2.1 (nI t * 16 + nI v).toNatClampNeg = nI (2 ^ yp_np A - 1)) ↔ st.2.1 (t * 16 + v) = 2 ^ yp_np A - 1 := by
      rw [ya_16 (by omega), br_eq (by omega) (by omega)]
    have skip : (st.1 = 0 → ∀ d, gp_P A d → ye A st.2.1 u v d → ye A st.2.1 t v (gp_cm (yp_c A p) d)) → wY_linkRules_178 post J (nI t) (nI u) (nI p) k (nI (v + 1)) (nI A) (nI mN) (nI mD) (nI n) (nI dc) (nI (yp_np A)) (nI (2 ^ A - 1)) (nI (2 ^ yp_np A - 1)) (nI cl) (nI (st.1)) (nI sd) (nA kd) (nA fs) (nA sn) (nA th) (nA tl) (nA dk) (nA di) (nA dj) (nA tp) (nA tt) (nA ti) (nA te) (nA tm) (nA (st.2.1)) (nA (st.2.2)) (nA ov) (nA is) (nA ak) (nA fh) := fun z => next st ⟨I1, I2, fun y v' d hv' hd => by
      by_cases e : v' = v
      · rw [e]; exact z y d hd
      · exact I3 y v' d (by omega) hd⟩
    refine br_f (nI_ge hv (by omega)) (And.intro (yv_16 (by omega)) (br_c (fun w => nm_r (nI_1 v) (skip fun _ d hd y => ?_)) (fun w => And.intro (yv_16 (by omega)) (br_c (fun w2 => nm_r (nI_1 v) (skip fun _ d hd y => ?_)) (fun w2 => And.intro (yv_16 (by omega)) (yw_moved rfl (ya_16 (by omega)) hA T hp b1 fun M hM hb => ?_))))))
    · unfold ye at y; rw [q1.mp w, Nat.zero_testBit] at y; exact absurd y (by decide)
    · unfold ye; rw [q2.mp w2, br_all, decide_eq_true_eq]; exact (yp_iP hA (gp_P_cm Pc hd)).1
    · obtain ⟨V1, R1, N1⟩ := yp_link_ok (t := t) (u := v) (set := M) hA hn I1 ht hv hM fun c hc y => by
        obtain ⟨d, hd, z, e⟩ := (hb c hc).mp y
        rw [e]; exact fd_ml Cl.1 ht hu hv Pc hd Etu (I1.2.2.1 u v d hu hv hd z)
      refine yw_link rfl rfl rfl (by omega) (by omega) (by omega) (nm_r (nI_1 v) (next _ ⟨V1, ys_tr I2 R1, fun y v' d hv' hd z => ?_⟩))
      by_cases e : v' = v
      · have e2 := ys_0 R1 y
        rw [e]; rw [e, e2] at z
        exact N1 _ ((hb _ (gp_P_cm Pc hd)).mpr ⟨d, hd, z, rfl⟩)
      · have e2 := ys_0 R1 y
        rw [e2]; rw [e2] at z
        exact I3 (by rw [← e2]; exact y) v' d (by omega) hd z
theorem yw_l149 {post : SY → Prop} {t u : Nat} (hA : yp_A A) (hn : n ≤ 16) (T : yT A tp tt ti te tm) (Cl : fd_Cl n A kd fs sn th E O) (V : ys_V n A E O s) (ht : t < n) (hu : u < n)
    (h : ∀ s' : YS, ys_V n A E O s' → ys_R s s' → (s'.1 = 0 → (t = u → ∀ c, gp_P A c → ye A s'.2.1 t u c → yf_p n A t u c s') ∧ (t ≠ u → ∀ c, gp_P A c → ye A s'.2.1 t u c → ∃ c0, gp_P A c0 ∧ ye A s'.2.1 t u c0 ∧ yf_p n A t u c0 s')) → post (yt A mN mD n dc cl sd kd fs sn th tl dk di dj tp tt ti te tm ov is ak fh s')) :
    ∃ n149 : Nat, wY_linkRules_149 post (nI t) (nI u) n149 0 (nI A) (nI mN) (nI mD) (nI n) (nI dc) (nI (yp_np A)) (nI (2 ^ A - 1)) (nI (2 ^ yp_np A - 1)) (nI cl) (nI (s.1)) (nI sd) (nA kd) (nA fs) (nA sn) (nA th) (nA tl) (nA dk) (nA di) (nA dj) (nA tp) (nA tt) (nA ti) (nA te) (nA tm) (nA (s.2.1)) (nA (s.2.2)) (nA ov) (nA is) (nA ak) (nA fh) := by
  have n24 := (yp_n24 hA).2
  have pn := yb_pw hA
  refine loop_0 (fun k i (st : YS) => wY_linkRules_149 post (nI t) (nI u) k (nI i) (nI A) (nI mN) (nI mD) (nI n) (nI dc) (nI (yp_np A)) (nI (2 ^ A - 1)) (nI (2 ^ yp_np A - 1)) (nI cl) (nI (st.1)) (nI sd) (nA kd) (nA fs) (nA sn) (nA th) (nA tl) (nA dk) (nA di) (nA dj) (nA tp) (nA tt) (nA ti) (nA te) (nA tm) (nA (st.2.1)) (nA (st.2.2)) (nA ov) (nA is) (nA ak) (nA fh)) (fun i st => ys_V n A E O st ∧ ys_R s st ∧ (st.1 = 0 → (t = u → ∀ p, p < i → ye A st.2.1 t u (yp_c A p) → yf_p n A t u (yp_c A p) st) ∧ (t ≠ u → ∀ p, p < i → ¬ ye A st.2.1 t u (yp_c A p)))) (yp_np A) s ⟨V, ys_rf s, fun _ => ⟨fun _ p hp => by omega, fun _ p hp => by omega⟩⟩ ?_ ?_
  · rintro k st ⟨I1, I2, I3⟩
    refine br_t (nI_le (Nat.le_refl _) (by omega)) (h st I1 I2 fun z => ⟨fun e c hc y => ?_, fun e c hc y => ?_⟩)
    · have i := yp_iP hA hc
      have := (I3 z).1 e _ i.1
      rw [i.2] at this; exact this y
    · have i := yp_iP hA hc
      have := (I3 z).2 e _ i.1
      rw [i.2] at this; exact absurd y this
  · rintro k p st hp ⟨I1, I2, I3⟩ next
    have Pc := (yp_cP hA hp).1
    have ixc := (yp_cP hA hp).2
    have b1 := I1.1 (t * 16 + u)
    have q1 : (((nA st.2.1 (nI t * 16 + nI u).toNatClampNeg) >>> (nI p &&& 31)) &&& 1) = 0 ↔ (st.2.1 (t * 16 + u)).testBit p = false := by
      rw [ya_16 (by omega)]; exact br_bit (by omega) (by omega)
    refine br_f (nI_ge hp (by omega)) (And.intro (yv_16 (by omega)) (br_c (fun w => nm_r (nI_1 p) (next st ⟨I1, I2, fun z => ?_⟩)) (fun w => ?_)))
    · have no : ¬ ye A st.2.1 t u (yp_c A p) := fun y => by
        unfold ye at y; rw [ixc, q1.mp w] at y; exact absurd y (by decide)
      refine ⟨fun e j hj y => ?_, fun e j hj y => ?_⟩
      · by_cases e2 : j = p
        · rw [e2] at y; exact absurd y no
        · exact (I3 z).1 e j (by omega) y
      · by_cases e2 : j = p
        · rw [e2] at y; exact no y
        · exact (I3 z).2 e j (by omega) y
    · have kn : ye A st.2.1 t u (yp_c A p) := by
        unfold ye; rw [ixc]; exact gp_nf fun z => w (q1.mpr z)
      refine yw_l178 hA hn T Cl I1 ht hu hp kn fun s' V' R' f' => ⟨fun e => next s' ⟨V', ys_tr I2 R', fun z => ⟨fun _ j hj y => ?_, fun y => absurd e y⟩⟩, fun e => h s' V' (ys_tr I2 R') fun z => ⟨fun y => absurd y e, fun _ c hc y => ⟨_, Pc, R'.1.1 _ _ kn, f' z⟩⟩⟩
      by_cases e2 : j = p
      · rw [e2]; exact f' z
      · have e3 := ys_0 R' z
        rw [e3]; rw [e3] at y
        exact (I3 (by rw [← e3]; exact z)).1 e j (by omega) y
theorem yw_l96 {post : SY → Prop} {J : Int32 → Int32 → Int32 → Int32 → Int32 → Int32 → Int32 → Int32 → Int32 → Int32 → Int32 → Int32 → (Nat → Int32) → (Nat → Int32) → (Nat → Int32) → (Nat → Int32) → (Nat → Int32) → (Nat → Int32) → (Nat → Int32) → (Nat → Int32) → (Nat → Int32) → (Nat → Int32) → (Nat → Int32) → (Nat → Int32) → (Nat → Int32) → (Nat → Int32) → (Nat → Int32) → (Nat → Int32) → (Nat → Int32) → (Nat → Int32) → (Nat → Int32) → Prop} {t u p : Nat} (hA : yp_A A) (hn : n ≤ 16) (T : yT A tp tt ti te tm) (Cl : fd_Cl n A kd fs sn th E O) (V : ys_V n A E O s) (ht : t < n) (hu : u < n) (hp : p < yp_np A) (kn : ye A s.2.1 t u (yp_c A p))
    (h : ∀ s' : YS, ys_V n A E O s' → ys_R s s' → (s'.1 = 0 → t = u → ∀ a, a < A → gp_ap (yp_c A p) a ≠ a → yo s'.2.2 t a) → J (nI (p + 1)) (nI A) (nI mN) (nI mD) (nI n) (nI dc) (nI (yp_np A)) (nI (2 ^ A - 1)) (nI (2 ^ yp_np A - 1)) (nI cl) (nI (s'.1)) (nI sd) (nA kd) (nA fs) (nA sn) (nA th) (nA tl) (nA dk) (nA di) (nA dj) (nA tp) (nA tt) (nA ti) (nA te) (nA tm) (nA (s'.2.1)) (nA (s'.2.2)) (nA ov) (nA is) (nA ak) (nA fh)) :
    ∃ n96 : Nat, wY_linkRules_96 post J (nI t) (nI u) (nI p) n96 0 (nI A) (nI mN) (nI mD) (nI n) (nI dc) (nI (yp_np A)) (nI (2 ^ A - 1)) (nI (2 ^ yp_np A - 1)) (nI cl) (nI (s.1)) (nI sd) (nA kd) (nA fs) (nA sn) (nA th) (nA tl) (nA dk) (nA di) (nA dj) (nA tp) (nA tt) (nA ti) (nA te) (nA tm) (nA (s.2.1)) (nA (s.2.2)) (nA ov) (nA is) (nA ak) (nA fh) := by
  have hA4 := yp_A4 hA
  have n24 := (yp_n24 hA).2
  have pw := gp_pw hA4
  have Pc := (yp_cP hA hp).1
  have Etu := V.2.2.1 t u _ ht hu Pc kn
  refine loop_0 (fun k i (st : YS) => wY_linkRules_96 post J (nI t) (nI u) (nI p) k (nI i) (nI A) (nI mN) (nI mD) (nI n) (nI dc) (nI (yp_np A)) (nI (2 ^ A - 1)) (nI (2 ^ yp_np A - 1)) (nI cl) (nI (st.1)) (nI sd) (nA kd) (nA fs) (nA sn) (nA th) (nA tl) (nA dk) (nA di) (nA dj) (nA tp) (nA tt) (nA ti) (nA te) (nA tm) (nA (st.2.1)) (nA (st.2.2)) (nA ov) (nA is) (nA ak) (nA fh)) (fun i st => ys_V n A E O st ∧ ys_R s st ∧ (st.1 = 0 → t = u → ∀ a, a < i → gp_ap (yp_c A p) a ≠ a → yo st.2.2 t a)) A s ⟨V, ys_rf s, fun _ _ v hv => by omega⟩ ?_ ?_
  · rintro k st ⟨I1, I2, I3⟩
    exact br_t (nI_le (Nat.le_refl _) (by omega)) (nm_r (nI_1 p) (h st I1 I2 I3))
  · rintro k a st ha ⟨I1, I2, I3⟩ next
    have al := gp_ap_lt (yp_c A p) a
    have qe : (nI t = nI u) ↔ t = u := br_eq (by omega) (by omega)
    have e1 : nA tp (nI p * 4 + nI a).toNatClampNeg = nI (gp_ap (yp_c A p) a) := by rw [ya_4 (by omega), T.1 p a hp (by omega)]
    have q1 : nA tp (nI p * 4 + nI a).toNatClampNeg = nI a ↔ gp_ap (yp_c A p) a = a := by rw [e1]; exact br_eq (by omega) (by omega)
    refine br_f (nI_ge ha (by omega)) (br_c (fun w => And.intro (yv_4 (by omega) (by decide)) (br_c (fun w2 => nm_r (nI_1 a) (next st ⟨I1, I2, fun z e b hb y => ?_⟩)) (fun w2 => ?_))) (fun w => nm_r (nI_1 a) (next st ⟨I1, I2, fun z e b hb y => absurd (qe.mpr e) w⟩)))
    · by_cases e2 : b = a
      · rw [e2] at y; exact absurd (q1.mp w2) y
      · exact I3 z e b (by omega) y
    · have e := qe.mp w
      have n1 : gp_ap (yp_c A p) a ≠ a := fun z => w2 (q1.mpr z)
      have hl : 2 ^ a < 2 ^ A := Nat.pow_lt_pow_right (by decide) ha
      have Ett : E t t (yp_c A p) := by rw [← e] at Etu; exact Etu
      obtain ⟨V1, R1, N1⟩ := yp_spread_ok (t := t) (set := 2 ^ a) hA4 hn I1 ht hl fun b hb => by
        rw [Nat.testBit_two_pow, decide_eq_true_eq] at hb
        rw [← hb]; exact (fd_st Cl.1 ht Pc).mp Ett a (by omega) n1
      refine yw_spread rfl (br_1 (by omega)) (by omega) (by omega) (nm_r (nI_1 a) (next _ ⟨V1, ys_tr I2 R1, fun z e' b hb y => ?_⟩))
      by_cases e2 : b = a
      · rw [e2]; exact N1 a (by rw [Nat.testBit_two_pow]; simp)
      · have e3 := ys_0 R1 z
        rw [e3]
        exact I3 (by rw [← e3]; exact z) e b (by omega) y
theorem yw_links {post : SY → Prop} {t u : Nat} {x y : Int32} (ex : x = nI t) (ey : y = nI u) (hA : yp_A A) (hn : n ≤ 16) (T : yT A tp tt ti te tm) (Cl : fd_Cl n A kd fs sn th E O) (V : ys_V n A E O s) (ht : t < n) (hu : u < n)
    (h : ∀ s', ys_V n A E O s' → ys_R s s' → (s'.1 = 0 → yf_l n A t u s') → post (yt A mN mD n dc cl sd kd fs sn th tl dk di dj tp tt ti te tm ov is ak fh s')) : wpY_linkRules post (yt A mN mD n dc cl sd kd fs sn th tl dk di dj tp tt ti te tm ov is ak fh s) x y := by
  subst ex ey
  have hA4 := yp_A4 hA
  have n24 := (yp_n24 hA).2
  have pn := yb_pw hA
  have pw := gp_pw hA4
  have pp := Nat.two_pow_pos (yp_np A)
  have pp2 := Nat.two_pow_pos A
  have b1 := V.1 (u * 16 + t)
  have b2 := V.2.1 t
  have fin : ∀ s1 : YS, ys_V n A E O s1 → ys_R s s1 → (s1.1 = 0 → ∀ c, gp_P A c → yf_i A t u c s1) → ∃ n149 : Nat, wY_linkRules_149 post (nI t) (nI u) n149 0 (nI A) (nI mN) (nI mD) (nI n) (nI dc) (nI (yp_np A)) (nI (2 ^ A - 1)) (nI (2 ^ yp_np A - 1)) (nI cl) (nI (s1.1)) (nI sd) (nA kd) (nA fs) (nA sn) (nA th) (nA tl) (nA dk) (nA di) (nA dj) (nA tp) (nA tt) (nA ti) (nA te) (nA tm) (nA (s1.2.1)) (nA (s1.2.2)) (nA ov) (nA is) (nA ak) (nA fh) := fun s1 V1 R1 f1 =>
    yw_l149 hA hn T Cl V1 ht hu fun s' V' R' f' => h s' V' (ys_tr R1 R') fun z => by
      have e := ys_0 R' z
      have f2 := f1 (by rw [← e]; exact z)
      rw [← e] at f2
      exact ⟨f2, (f' z).1, (f' z).2⟩
  have loop : ∃ n33 : Nat, wY_linkRules_33 post (nI t) (nI u) n33 0 (nI A) (nI mN) (nI mD) (nI n) (nI dc) (nI (yp_np A)) (nI (2 ^ A - 1)) (nI (2 ^ yp_np A - 1)) (nI cl) (nI (s.1)) (nI sd) (nA kd) (nA fs) (nA sn) (nA th) (nA tl) (nA dk) (nA di) (nA dj) (nA tp) (nA tt) (nA ti) (nA te) (nA tm) (nA (s.2.1)) (nA (s.2.2)) (nA ov) (nA is) (nA ak) (nA fh) := by
    refine loop_0 (fun k i (st : YS) => wY_linkRules_33 post (nI t) (nI u) k (nI i) (nI A) (nI mN) (nI mD) (nI n) (nI dc) (nI (yp_np A)) (nI (2 ^ A - 1)) (nI (2 ^ yp_np A - 1)) (nI cl) (nI (st.1)) (nI sd) (nA kd) (nA fs) (nA sn) (nA th) (nA tl) (nA dk) (nA di) (nA dj) (nA tp) (nA tt) (nA ti) (nA te) (nA tm) (nA (st.2.1)) (nA (st.2.2)) (nA ov) (nA is) (nA ak) (nA fh)) (fun i st => ys_V n A E O st ∧ ys_R s st ∧ (st.1 = 0 → ∀ p, p < i → yf_i A t u (yp_c A p) st)) (yp_np A) s ⟨V, ys_rf s, fun _ p hp => by omega⟩ ?_ ?_
    · rintro k st ⟨I1, I2, I3⟩
      refine br_t (nI_le (Nat.le_refl _) (by omega)) (fin st I1 I2 fun z c hc => ?_)
      have i := yp_iP hA hc
      have := I3 z _ i.1
      rw [i.2] at this; exact this
    · rintro k p st hp ⟨I1, I2, I3⟩ next
      have Pc := (yp_cP hA hp).1
      have ixc := (yp_cP hA hp).2
      have b3 := I1.1 (t * 16 + u)
      have q1 : (((nA st.2.1 (nI t * 16 + nI u).toNatClampNeg) >>> (nI p &&& 31)) &&& 1) = 0 ↔ (st.2.1 (t * 16 + u)).testBit p = false := by
        rw [ya_16 (by omega)]; exact br_bit (by omega) (by omega)
      refine br_f (nI_ge hp (by omega)) (And.intro (yv_16 (by omega)) (br_c (fun w => nm_r (nI_1 p) (next st ⟨I1, I2, fun z j hj => ?_⟩)) (fun w => And.intro (vp_in_nI (by omega) (by decide)) ?_)))
      · by_cases e2 : j = p
        · intro y
          rw [e2] at y
          unfold ye at y; rw [ixc, q1.mp w] at y; exact absurd y (by decide)
        · exact I3 z j (by omega)
      · have kn : ye A st.2.1 t u (yp_c A p) := by
          unfold ye; rw [ixc]; exact gp_nf fun z => w (q1.mpr z)
        have Etu := I1.2.2.1 t u _ ht hu Pc kn
        have Pi := gp_P_iv Pc
        have ol := yb_olt hA Pi
        have il := yp_cix hA Pi
        obtain ⟨V1, R1, N1⟩ := yp_link_ok (t := u) (u := t) (set := 2 ^ yp_ix A (gp_iv (yp_c A p))) hA hn I1 hu ht ol fun c hc y => by
          rw [(yb_one hA Pi hc).mp y]; exact fd_iv Cl.1 ht hu Pc Etu
        have b4 := V1.2.1 u
        obtain ⟨V2, R2, N2⟩ := yp_spread_ok (t := t) (set := gp_im (yp_c A p) ((yp_link st u t (2 ^ yp_ix A (gp_iv (yp_c A p)))).2.2 u)) hA4 hn V1 ht (xr_lt2 fun b hb => by
          obtain ⟨a, _, y, e⟩ := gp_im_bit.mp hb
          rw [← e]; exact gp_ltA Pc (by have := gp_bit_lt b4 y; omega) (gp_bit_lt b4 y)) fun b hb => by
          obtain ⟨a, _, y, e⟩ := gp_im_bit.mp hb
          rw [← e]; exact fd_tp Cl.1 ht hu Pc (gp_bit_lt b4 y) Etu (V1.2.2.2 u a hu y)
        have gl := gp_im_lt (yp_c A p) ((yp_link st u t (2 ^ yp_ix A (gp_iv (yp_c A p)))).2.2 u)
        refine yw_link (set := 2 ^ yp_ix A (gp_iv (yp_c A p))) rfl rfl (by rw [nA_at (by omega), T.2.2.1 p hp]; exact br_1 (by omega)) (by omega) (by omega) (by omega) (And.intro (vp_in_nI (by omega) (by decide)) (yw_image rfl (nA_at (by omega)) hA T hp (by omega) (yw_spread rfl rfl (by omega) (by omega) (yw_l96 hA hn T Cl V2 ht hu hp ((ys_tr R1 R2).1.1 _ _ kn) fun s' V' R' f' => next s' ⟨V', ys_tr I2 (ys_tr R1 (ys_tr R2 R')), fun z j hj => ?_⟩))))
        by_cases e2 : j = p
        · rw [e2]
          refine fun _ => ⟨(ys_tr R2 R').1.1 _ _ (N1 _ (by rw [Nat.testBit_two_pow]; simp)), fun a ha y => ?_, f' z⟩
          have e3 := ys_0 (ys_tr R2 R') z
          rw [e3] at y
          exact R'.1.2 _ _ (N2 _ (gp_im_bit.mpr ⟨a, by omega, y, rfl⟩))
        · have e3 := ys_0 (ys_tr R1 (ys_tr R2 R')) z
          rw [e3]
          exact I3 (by rw [← e3]; exact z) j (by omega)
  unfold wpY_linkRules
  have q1 : (nA s.2.1 (nI u * 16 + nI t).toNatClampNeg = nI (2 ^ yp_np A - 1)) ↔ s.2.1 (u * 16 + t) = 2 ^ yp_np A - 1 := by
    rw [ya_16 (by omega), br_eq (by omega) (by omega)]
  have q2 : (nA s.2.2 (nI t).toNatClampNeg = nI (2 ^ A - 1)) ↔ s.2.2 t = 2 ^ A - 1 := by
    rw [nA_at (by omega), br_eq (by omega) (by omega)]
  refine And.intro (yv_16 (by omega)) (br_c (fun w => And.intro (vp_in_nI (by omega) (by decide)) (br_c (fun w2 => fin s V (ys_rf s) fun _ c hc y => ?_) (fun _ => loop))) (fun _ => loop))
  have o : ∀ a, a < A → yo s.2.2 t a := fun a ha => by
    unfold yo; rw [q2.mp w2, br_all, decide_eq_true_eq]; exact ha
  refine ⟨?_, fun a ha _ => o _ (gp_ltA hc (by omega) ha), fun _ a ha _ => o a ha⟩
  unfold ye; rw [q1.mp w, br_all, decide_eq_true_eq]; exact (yp_iP hA (gp_P_iv hc)).1
end
end
section
def yF (n A : Nat) (kd fs sn th : Nat → Nat) (t : Nat) (s : YS) : Prop :=
  ye A s.2.1 t t 228 ∧ (kd t = 3 → ye A s.2.1 t (th t) (gp_tr (fs t) (sn t))) ∧ yf_f A kd fs sn t s ∧ ∀ u, u < n → (kd t = kd u → yf_s A kd fs sn t u s) ∧ yf_l n A t u s
theorem yF_yr {n A : Nat} {kd fs sn th : Nat → Nat} {E : Nat → Nat → Nat → Prop} {O : Nat → Nat → Prop} {s : YS} (V : ys_V n A E O s) (h : ∀ t, t < n → yF n A kd fs sn th t s) : yr n A kd fs sn th (ye A s.2.1) (yo s.2.2) := by
  refine ⟨fun t ht => (h t ht).1, fun t ht => (h t ht).2.1, fun t a ht => (h t ht).2.2.1.1 a, fun t a ht k => (h t ht).2.2.1.2.1 k a, fun t a b ht ha hb => (h t ht).2.2.1.2.2 a b ha hb, ?_, ?_, ?_, ?_, ?_, ?_, ?_, ?_⟩
  · exact fun t u c ht hu hc z => (((h t ht).2.2.2 u hu).1 z.1).1 c hc z
  · exact fun t u c ht hu hc k e z => (((h t ht).2.2.2 u hu).1 e).2 k c hc z
  · exact fun t u c ht hu hc z => (((h t ht).2.2.2 u hu).2.1 c hc z).1
  · exact fun t u c a ht hu hc ha z y => (((h t ht).2.2.2 u hu).2.1 c hc z).2.1 a ha y
  · exact fun t c a ht hc ha z y => (((h t ht).2.2.2 t ht).2.1 c hc z).2.2 rfl a ha y
  · exact fun t v c d ht hv hc hd z y => ((h t ht).2.2.2 t ht).2.2.1 rfl c hc z v d hv hd y
  · exact fun t u c ht hu e hc z => ((h t ht).2.2.2 u hu).2.2.2 e c hc z
  · exact fun t a ht z => gp_bit_lt (V.2.1 t) z
theorem yb_mu_le (s : YS) : yb_mu s ≤ 6208 := cn_le_n _ _
section
variable {A mN mD n dc cl sd : Nat} {kd fs sn th tl dk di dj tp tt ti te tm ov is ak fh : Nat → Nat}
variable {s : YS} {E : Nat → Nat → Nat → Prop} {O : Nat → Nat → Prop}
theorem yw_t122 {post : SY → Prop} {J7 J28 J93 : Int32 → Int32 → Int32 → Int32 → Int32 → Int32 → Int32 → Int32 → Int32 → Int32 → Int32 → Int32 → (Nat → Int32) → (Nat → Int32) → (Nat → Int32) → (Nat → Int32) → (Nat → Int32) → (Nat → Int32) → (Nat → Int32) → (Nat → Int32) → (Nat → Int32) → (Nat → Int32) → (Nat → Int32) → (Nat → Int32) → (Nat → Int32) → (Nat → Int32) → (Nat → Int32) → (Nat → Int32) → (Nat → Int32) → (Nat → Int32) → (Nat → Int32) → Prop} {x1 : Int32} {t u : Nat} (hA : yp_A A) (hn : n ≤ 16) (T : yT A tp tt ti te tm) (Cl : fd_Cl n A kd fs sn th E O) (V : ys_V n A E O s) (ht : t < n) (hu : u < n)
    (h : ∀ s' : YS, ys_V n A E O s' → ys_R s s' → (s'.1 = 0 → yf_l n A t u s') → J93 (nI (u + 1)) (nI A) (nI mN) (nI mD) (nI n) (nI dc) (nI (yp_np A)) (nI (2 ^ A - 1)) (nI (2 ^ yp_np A - 1)) (nI cl) (nI (s'.1)) (nI sd) (nA kd) (nA fs) (nA sn) (nA th) (nA tl) (nA dk) (nA di) (nA dj) (nA tp) (nA tt) (nA ti) (nA te) (nA tm) (nA (s'.2.1)) (nA (s'.2.2)) (nA ov) (nA is) (nA ak) (nA fh)) : wY_saturate_122 post J7 J28 J93 x1 (nI t) (nI u) (nI A) (nI mN) (nI mD) (nI n) (nI dc) (nI (yp_np A)) (nI (2 ^ A - 1)) (nI (2 ^ yp_np A - 1)) (nI cl) (nI (s.1)) (nI sd) (nA kd) (nA fs) (nA sn) (nA th) (nA tl) (nA dk) (nA di) (nA dj) (nA tp) (nA tt) (nA ti) (nA te) (nA tm) (nA (s.2.1)) (nA (s.2.2)) (nA ov) (nA is) (nA ak) (nA fh) := by
  have pn := yb_pw hA
  have b1 := V.1 (t * 16 + u)
  have q1 : (nA s.2.1 (nI t * 16 + nI u).toNatClampNeg = 0) ↔ s.2.1 (t * 16 + u) = 0 := by
    rw [ya_16 (by omega), show (0 : Int32) = nI 0 from rfl, br_eq (by omega) (by decide)]
  unfold wY_saturate_122
  refine And.intro (yv_16 (by omega)) (br_c (fun w => nm_r (nI_1 u) (h s V (ys_rf s) fun _ => ?_)) (fun w => yw_links rfl rfl hA hn T Cl V ht hu fun s' V' R' f' => nm_r (nI_1 u) (h s' V' R' f')))
  have no : ∀ c, ¬ ye A s.2.1 t u c := fun c y => by
    unfold ye at y; rw [q1.mp w, Nat.zero_testBit] at y; exact absurd y (by decide)
  exact ⟨fun c _ y => absurd y (no c), fun _ c _ y => absurd y (no c), fun _ c _ y => absurd y (no c)⟩
theorem yw_t93 {post : SY → Prop} {J7 J28 : Int32 → Int32 → Int32 → Int32 → Int32 → Int32 → Int32 → Int32 → Int32 → Int32 → Int32 → Int32 → (Nat → Int32) → (Nat → Int32) → (Nat → Int32) → (Nat → Int32) → (Nat → Int32) → (Nat → Int32) → (Nat → Int32) → (Nat → Int32) → (Nat → Int32) → (Nat → Int32) → (Nat → Int32) → (Nat → Int32) → (Nat → Int32) → (Nat → Int32) → (Nat → Int32) → (Nat → Int32) → (Nat → Int32) → (Nat → Int32) → (Nat → Int32) → Prop} {x1 : Int32} {t : Nat} (hA : yp_A A) (hn : n ≤ 16) (W : fd_wf n A kd fs sn th) (T : yT A tp tt ti te tm) (Cl : fd_Cl n A kd fs sn th E O) (V : ys_V n A E O s) (ht : t < n)
    (h : ∀ s' : YS, ys_V n A E O s' → ys_R s s' → (s'.1 = 0 → ∀ u, u < n → (kd t = kd u → yf_s A kd fs sn t u s') ∧ yf_l n A t u s') → J28 (nI (t + 1)) (nI A) (nI mN) (nI mD) (nI n) (nI dc) (nI (yp_np A)) (nI (2 ^ A - 1)) (nI (2 ^ yp_np A - 1)) (nI cl) (nI (s'.1)) (nI sd) (nA kd) (nA fs) (nA sn) (nA th) (nA tl) (nA dk) (nA di) (nA dj) (nA tp) (nA tt) (nA ti) (nA te) (nA tm) (nA (s'.2.1)) (nA (s'.2.2)) (nA ov) (nA is) (nA ak) (nA fh)) :
    ∃ n93 : Nat, wY_saturate_93 post J7 J28 x1 (nI t) n93 0 (nI A) (nI mN) (nI mD) (nI n) (nI dc) (nI (yp_np A)) (nI (2 ^ A - 1)) (nI (2 ^ yp_np A - 1)) (nI cl) (nI (s.1)) (nI sd) (nA kd) (nA fs) (nA sn) (nA th) (nA tl) (nA dk) (nA di) (nA dj) (nA tp) (nA tt) (nA ti) (nA te) (nA tm) (nA (s.2.1)) (nA (s.2.2)) (nA ov) (nA is) (nA ak) (nA fh) := by
  refine loop_0 (fun k i (st : YS) => wY_saturate_93 post J7 J28 x1 (nI t) k (nI i) (nI A) (nI mN) (nI mD) (nI n) (nI dc) (nI (yp_np A)) (nI (2 ^ A - 1)) (nI (2 ^ yp_np A - 1)) (nI cl) (nI (st.1)) (nI sd) (nA kd) (nA fs) (nA sn) (nA th) (nA tl) (nA dk) (nA di) (nA dj) (nA tp) (nA tt) (nA ti) (nA te) (nA tm) (nA (st.2.1)) (nA (st.2.2)) (nA ov) (nA is) (nA ak) (nA fh)) (fun i st => ys_V n A E O st ∧ ys_R s st ∧ (st.1 = 0 → ∀ u, u < i → (kd t = kd u → yf_s A kd fs sn t u st) ∧ yf_l n A t u st)) n s ⟨V, ys_rf s, fun _ p hp => by omega⟩ ?_ ?_
  · rintro k st ⟨I1, I2, I3⟩
    exact br_t (nI_le (Nat.le_refl _) (by omega)) (nm_r (nI_1 t) (h st I1 I2 I3))
  · rintro k u st hu ⟨I1, I2, I3⟩ next
    have wt := (W t ht).1
    have wu := (W u hu).1
    have q : nA kd (nI t).toNatClampNeg = nA kd (nI u).toNatClampNeg ↔ kd t = kd u := br_aa (by omega) (by omega) (by omega) (by omega)
    have nx : ∀ s' : YS, ys_V n A E O s' → ys_R st s' → (s'.1 = 0 → (kd t = kd u → yf_s A kd fs sn t u s') ∧ yf_l n A t u s') → wY_saturate_93 post J7 J28 x1 (nI t) k (nI (u + 1)) (nI A) (nI mN) (nI mD) (nI n) (nI dc) (nI (yp_np A)) (nI (2 ^ A - 1)) (nI (2 ^ yp_np A - 1)) (nI cl) (nI (s'.1)) (nI sd) (nA kd) (nA fs) (nA sn) (nA th) (nA tl) (nA dk) (nA di) (nA dj) (nA tp) (nA tt) (nA ti) (nA te) (nA tm) (nA (s'.2.1)) (nA (s'.2.2)) (nA ov) (nA is) (nA ak) (nA fh) := fun s' V' R' f' => next s' ⟨V', ys_tr I2 R', fun z j hj => by
      by_cases e : j = u
      · rw [e]; exact f' z
      · have e2 := ys_0 R' z
        rw [e2]
        exact I3 (by rw [← e2]; exact z) j (by omega)⟩
    refine br_f (nI_ge hu (by omega)) (And.intro (vp_in_nI (by omega) (by decide)) (And.intro (vp_in_nI (by omega) (by decide)) (br_c (fun w => yw_shape rfl rfl hA hn W T Cl I1 ht hu (q.mp w) fun s1 V1 R1 f1 => yw_t122 hA hn T Cl V1 ht hu fun s' V' R' f' => nx s' V' (ys_tr R1 R') fun z => ⟨fun _ => ?_, f' z⟩) (fun w => yw_t122 hA hn T Cl I1 ht hu fun s' V' R' f' => nx s' V' R' fun z => ⟨fun y => absurd (q.mpr y) w, f' z⟩))))
    have e2 := ys_0 R' z
    rw [e2]
    exact f1 (by rw [← e2]; exact z)
theorem yw_t28 {post : SY → Prop} {J7 : Int32 → Int32 → Int32 → Int32 → Int32 → Int32 → Int32 → Int32 → Int32 → Int32 → Int32 → Int32 → (Nat → Int32) → (Nat → Int32) → (Nat → Int32) → (Nat → Int32) → (Nat → Int32) → (Nat → Int32) → (Nat → Int32) → (Nat → Int32) → (Nat → Int32) → (Nat → Int32) → (Nat → Int32) → (Nat → Int32) → (Nat → Int32) → (Nat → Int32) → (Nat → Int32) → (Nat → Int32) → (Nat → Int32) → (Nat → Int32) → (Nat → Int32) → Prop} {p : Nat} (hA : yp_A A) (hn : n ≤ 16) (W : fd_wf n A kd fs sn th) (T : yT A tp tt ti te tm) (Cl : fd_Cl n A kd fs sn th E O) (V : ys_V n A E O s)
    (h : ∀ s' : YS, ys_V n A E O s' → ys_R s s' → (s'.1 = 0 → ∀ t, t < n → yF n A kd fs sn th t s') → J7 (nI (p + 1)) (nI A) (nI mN) (nI mD) (nI n) (nI dc) (nI (yp_np A)) (nI (2 ^ A - 1)) (nI (2 ^ yp_np A - 1)) (nI cl) (nI (s'.1)) (nI sd) (nA kd) (nA fs) (nA sn) (nA th) (nA tl) (nA dk) (nA di) (nA dj) (nA tp) (nA tt) (nA ti) (nA te) (nA tm) (nA (s'.2.1)) (nA (s'.2.2)) (nA ov) (nA is) (nA ak) (nA fh)) :
    ∃ n28 : Nat, wY_saturate_28 post J7 (nI p) n28 0 (nI A) (nI mN) (nI mD) (nI n) (nI dc) (nI (yp_np A)) (nI (2 ^ A - 1)) (nI (2 ^ yp_np A - 1)) (nI cl) (nI (s.1)) (nI sd) (nA kd) (nA fs) (nA sn) (nA th) (nA tl) (nA dk) (nA di) (nA dj) (nA tp) (nA tt) (nA ti) (nA te) (nA tm) (nA (s.2.1)) (nA (s.2.2)) (nA ov) (nA is) (nA ak) (nA fh) := by
  have hA4 := yp_A4 hA
  have pn := yb_pw hA
  have n24 := (yp_n24 hA).2
  refine loop_0 (fun k i (st : YS) => wY_saturate_28 post J7 (nI p) k (nI i) (nI A) (nI mN) (nI mD) (nI n) (nI dc) (nI (yp_np A)) (nI (2 ^ A - 1)) (nI (2 ^ yp_np A - 1)) (nI cl) (nI (st.1)) (nI sd) (nA kd) (nA fs) (nA sn) (nA th) (nA tl) (nA dk) (nA di) (nA dj) (nA tp) (nA tt) (nA ti) (nA te) (nA tm) (nA (st.2.1)) (nA (st.2.2)) (nA ov) (nA is) (nA ak) (nA fh)) (fun i st => ys_V n A E O st ∧ ys_R s st ∧ (st.1 = 0 → ∀ t, t < i → yF n A kd fs sn th t st)) n s ⟨V, ys_rf s, fun _ p hp => by omega⟩ ?_ ?_
  · rintro k st ⟨I1, I2, I3⟩
    exact br_t (nI_le (Nat.le_refl _) (by omega)) (nm_r (nI_1 p) (h st I1 I2 I3))
  · rintro k t st ht ⟨I1, I2, I3⟩ next
    have wt := W t ht
    have vt : vp_in (nI t) 16 := vp_in_nI (by omega) (by decide)
    have q3 : (nA kd (nI t).toNatClampNeg = 3 ↔ kd t = 3) := br_aq (j := 3) rfl (by omega) (by omega) (by decide)
    have o1 : (1 : Nat) < 2 ^ yp_np A := Nat.one_lt_two_pow (by have := (yp_n24 hA).1; omega)
    obtain ⟨V1, R1, N1⟩ := yp_link_ok (t := t) (u := t) (set := 1) hA hn I1 ht ht o1 fun c hc y => by
      have e0 : (1 : Nat) = 2 ^ yp_ix A 228 := by rw [(yp_0 hA).1]
      rw [e0] at y
      rw [(yb_one hA (gp_P_id A) hc).mp y]; exact fd_rf Cl.1 ht
    have id1 : ye A (yp_link st t t 1).2.1 t t 228 := N1 _ (by rw [(yp_0 hA).1]; decide)
    have rest : ∀ s1 : YS, ys_V n A E O s1 → ys_R st s1 → ye A s1.2.1 t t 228 → (kd t = 3 → ye A s1.2.1 t (th t) (gp_tr (fs t) (sn t))) → wY_saturate_86 post J7 (wY_saturate_28 post J7 (nI p) k) (nI p) (nI t) (nI A) (nI mN) (nI mD) (nI n) (nI dc) (nI (yp_np A)) (nI (2 ^ A - 1)) (nI (2 ^ yp_np A - 1)) (nI cl) (nI (s1.1)) (nI sd) (nA kd) (nA fs) (nA sn) (nA th) (nA tl) (nA dk) (nA di) (nA dj) (nA tp) (nA tt) (nA ti) (nA te) (nA tm) (nA (s1.2.1)) (nA (s1.2.2)) (nA ov) (nA is) (nA ak) (nA fh) := fun s1 V1 R1 g1 g2 => by
      unfold wY_saturate_86
      refine yw_fresh rfl hA hn W T Cl V1 ht fun s2 V2 R2 f2 => yw_t93 hA hn W T Cl V2 ht fun s3 V3 R3 f3 => next s3 ⟨V3, ys_tr I2 (ys_tr R1 (ys_tr R2 R3)), fun z j hj => ?_⟩
      by_cases e : j = t
      · rw [e]
        have e3 := ys_0 R3 z
        have f2' := f2 (by rw [← e3]; exact z)
        rw [← e3] at f2'
        exact ⟨(ys_tr R2 R3).1.1 _ _ g1, fun k3 => (ys_tr R2 R3).1.1 _ _ (g2 k3), f2', f3 z⟩
      · have e2 := ys_0 (ys_tr R1 (ys_tr R2 R3)) z
        rw [e2]
        exact I3 (by rw [← e2]; exact z) j (by omega)
    refine br_f (nI_ge ht (by omega)) (yw_link (set := 1) rfl rfl rfl (by omega) (by omega) (by decide) (And.intro vt (br_c (fun w => And.intro vt (And.intro vt (And.intro vt ?_))) (fun w => rest _ V1 R1 id1 fun k3 => absurd (q3.mpr k3) w))))
    have k3 := q3.mp w
    have w3 := wt.2.2.2.1 k3
    have hT := gp_P_tr hA4 w3.1 w3.2.1
    have il := yp_cix hA hT
    have ol := yb_olt hA hT
    obtain ⟨V2, R2, N2⟩ := yp_link_ok (t := t) (u := th t) hA hn V1 ht (by omega) ol fun c hc y => by
      rw [(yb_one hA hT hc).mp y]; exact Cl.2.1 t ht k3
    refine And.intro (by rw [nA_at (by omega), nA_at (by omega)]; exact yv_4 (by omega) (by decide)) (yw_link (t := t) (u := th t) (set := 2 ^ yp_ix A (gp_tr (fs t) (sn t))) rfl (nA_at (by omega)) ?_ (by omega) (by omega) (by omega) (rest _ V2 (ys_tr R1 R2) (R2.1.1 _ _ id1) fun _ => N2 _ (by rw [Nat.testBit_two_pow]; simp)))
    rw [nA_at (f := fs) (by omega), nA_at (f := sn) (by omega), ya_4 (by omega), T.2.2.2.1 _ _ w3.1 w3.2.1, br_1 (by omega)]
theorem yw_saturate {post : SY → Prop} (hA : yp_A A) (hn : n ≤ 16) (W : fd_wf n A kd fs sn th) (T : yT A tp tt ti te tm) (Cl : fd_Cl n A kd fs sn th E O) (V : ys_V n A E O s)
    (h : ∀ s' : YS, ys_V n A E O s' → ys_le s s' → fd_Cl n A kd fs sn th (ye A s'.2.1) (yo s'.2.2) → post (yt A mN mD n dc cl sd kd fs sn th tl dk di dj tp tt ti te tm ov is ak fh s')) : wpY_saturate post (yt A mN mD n dc cl sd kd fs sn th tl dk di dj tp tt ti te tm ov is ak fh s) := by
  unfold wpY_saturate
  refine loop_0 (fun k i (st : YS) => wY_saturate_7 post k (nI i) (nI A) (nI mN) (nI mD) (nI n) (nI dc) (nI (yp_np A)) (nI (2 ^ A - 1)) (nI (2 ^ yp_np A - 1)) (nI cl) (nI (st.1)) (nI sd) (nA kd) (nA fs) (nA sn) (nA th) (nA tl) (nA dk) (nA di) (nA dj) (nA tp) (nA tt) (nA ti) (nA te) (nA tm) (nA (st.2.1)) (nA (st.2.2)) (nA ov) (nA is) (nA ak) (nA fh)) (fun i st => ys_V n A E O st ∧ ys_le s st ∧ ((st.1 = 0 ∧ ∀ t, t < n → yF n A kd fs sn th t st) ∨ (st.1 = 1 ∧ i ≤ yb_mu st))) 6300 (1, s.2) ⟨V, ⟨fun _ _ z => z, fun _ _ z => z⟩, Or.inr ⟨rfl, Nat.zero_le _⟩⟩ ?_ ?_
  · rintro k st ⟨I1, I2, I3⟩
    refine br_t (nI_le (a := 6300) (Nat.le_refl _) (by omega)) ?_
    rcases I3 with z | z
    · exact h st I1 I2 (yr_Cl (yp_A4 hA) (yF_yr I1 z.2))
    · have := yb_mu_le st
      omega
  · rintro k i st hi ⟨I1, I2, I3⟩ next
    refine br_f (nI_ge (b := 6300) hi (by omega)) ?_
    rcases I3 with z | z
    · exact br_t (by rw [z.1]; rfl) (h st I1 I2 (yr_Cl (yp_A4 hA) (yF_yr I1 z.2)))
    · refine br_f (by rw [z.1]; decide) (yw_t28 (s := (0, st.2)) hA hn W T Cl I1 fun s' V' R' f' => next s' ⟨V', ?_, ?_⟩)
      · exact ⟨fun a b w => R'.1.1 a b (I2.1 a b w), fun a b w => R'.1.2 a b (I2.2 a b w)⟩
      · rcases R'.2 with e | e
        · have e0 : s'.1 = 0 := by rw [e]
          exact Or.inl ⟨e0, f' e0⟩
        · have e2 : yb_mu st < yb_mu s' := e.2
          exact Or.inr ⟨e.1, by omega⟩
end
end
section
/-! ways by stages -/
def wp_P (R : Nat → Nat → Prop) : Nat → Nat → Nat → Prop
  | 0 => R
  | k + 1 => fun t v => wp_P R k t v ∨ (wp_P R k t k ∧ wp_P R k k v)
theorem wp_R {R : Nat → Nat → Prop} {t v : Nat} (h : R t v) : ∀ k, wp_P R k t v := by
  intro k
  induction k with
  | zero => exact h
  | succ k ih => exact Or.inl ih
theorem wp_tr {R : Nat → Nat → Prop} : ∀ k t u v, u < k → wp_P R k t u → wp_P R k u v → wp_P R k t v := by
  intro k
  induction k with
  | zero => intro t u v hu; omega
  | succ k ih =>
    intro t u v hu h1 h2
    have c1 : wp_P R k t u ∨ (wp_P R k t k ∧ wp_P R k k u) := h1
    have c2 : wp_P R k u v ∨ (wp_P R k u k ∧ wp_P R k k v) := h2
    show wp_P R k t v ∨ (wp_P R k t k ∧ wp_P R k k v)
    by_cases e : u = k
    · rw [e] at c1 c2
      have a1 : wp_P R k t k := c1.elim id fun z => z.1
      have a2 : wp_P R k k v := c2.elim id fun z => z.2
      exact Or.inr ⟨a1, a2⟩
    · have hk : u < k := by omega
      rcases c1 with c1 | c1 <;> rcases c2 with c2 | c2
      · exact Or.inl (ih t u v hk c1 c2)
      · exact Or.inr ⟨ih t u k hk c1 c2.1, c2.2⟩
      · exact Or.inr ⟨c1.1, ih k u v hk c1.2 c2⟩
      · exact Or.inr ⟨c1.1, c2.2⟩
theorem wp_all {R : Nat → Nat → Prop} {n : Nat} (hR : ∀ a b, R a b → a < n) {t v : Nat} (h : Relation.TransGen R t v) : wp_P R n t v := by
  induction h with
  | single z => exact wp_R z n
  | tail _ z ih => exact wp_tr n _ _ _ (hR _ _ z) ih (wp_R z n)
/-- an array of booleans that says Q -/
def bA (n : Nat) (ov : Nat → Nat) (Q : Nat → Nat → Prop) : Prop := ∀ t u, t < n → u < n → (ov (t * 16 + u) = 0 ∧ ¬ Q t u) ∨ (ov (t * 16 + u) = 1 ∧ Q t u)
theorem bA_cg {n : Nat} {ov : Nat → Nat} {Q Q' : Nat → Nat → Prop} (h : bA n ov Q) (e : ∀ t u, t < n → u < n → (Q t u ↔ Q' t u)) : bA n ov Q' := fun t u ht hu => by
  rcases h t u ht hu with z | z
  · exact Or.inl ⟨z.1, fun w => z.2 ((e t u ht hu).mpr w)⟩
  · exact Or.inr ⟨z.1, (e t u ht hu).mp z.2⟩
theorem bA_st {n : Nat} {ov : Nat → Nat} {Q : Nat → Nat → Prop} (h : bA n ov Q) (hn : n ≤ 16) {x y : Nat} (hx : x < n) (hy : y < n) : bA n (ud ov (x * 16 + y) 1) (fun t u => Q t u ∨ (t = x ∧ u = y)) := fun t u ht hu => by
  by_cases e : t * 16 + u = x * 16 + y
  · have e1 : t = x := by omega
    have e2 : u = y := by omega
    rw [e, ud_s]; exact Or.inr ⟨rfl, Or.inr ⟨e1, e2⟩⟩
  · rw [ud_n e]
    rcases h t u ht hu with z | z
    · refine Or.inl ⟨z.1, fun w => ?_⟩
      rcases w with w | w
      · exact z.2 w
      · rw [w.1, w.2] at e; exact e rfl
    · exact Or.inr ⟨z.1, Or.inl z.2⟩
theorem bA_lt {n : Nat} {ov : Nat → Nat} {Q : Nat → Nat → Prop} (h : bA n ov Q) {x y : Nat} (hx : x < n) (hy : y < n) : ov (x * 16 + y) < 2 := by
  rcases h x y hx hy with z | z <;> omega
theorem bA_q {n : Nat} {ov : Nat → Nat} {Q : Nat → Nat → Prop} (h : bA n ov Q) (hn : n ≤ 16) {x y : Nat} (hx : x < n) (hy : y < n) : (nA ov (nI x * 16 + nI y).toNatClampNeg = 0) ↔ ¬ Q x y := by
  have := bA_lt h hx hy
  rw [ya_16 (by omega), show (0 : Int32) = nI 0 from rfl, br_eq (by omega) (by decide)]
  rcases h x y hx hy with z | z
  · exact ⟨fun _ => z.2, fun _ => z.1⟩
  · exact ⟨fun w => by omega, fun w => absurd z.2 w⟩
theorem ye_l {A : Nat} {eq : Nat → Nat} (hA : yp_A A) {t u : Nat} (hb : eq (t * 16 + u) < 2 ^ yp_np A) : ct_l A (ye A eq) t u ↔ eq (t * 16 + u) ≠ 0 := by
  constructor
  · rintro ⟨c, hc, z⟩ e
    unfold ye at z; rw [e, Nat.zero_testBit] at z; exact absurd z (by decide)
  · intro h
    obtain ⟨j, hj⟩ := Nat.exists_testBit_of_ne_zero h
    have i := yp_cP hA (gp_bit_lt hb hj)
    exact ⟨_, i.1, by unfold ye; rw [i.2]; exact hj⟩
section
variable {A mN mD n dc cl sd : Nat} {kd fs sn th tl dk di dj tp tt ti te tm ov is ak fh : Nat → Nat}
variable {s : YS} {E : Nat → Nat → Nat → Prop} {O : Nat → Nat → Prop}
theorem yw_linked {post : Int32 → Prop} {t u : Nat} {x y : Int32} (ex : x = nI t) (ey : y = nI u) (hA : yp_A A) (ht : t < 16) (hu : u < 16) (hb : s.2.1 (t * 16 + u) < 2 ^ yp_np A) (h1 : ct_l A (ye A s.2.1) t u → post 1) (h0 : ¬ ct_l A (ye A s.2.1) t u → post 0) : wpY_linked post (yt A mN mD n dc cl sd kd fs sn th tl dk di dj tp tt ti te tm ov is ak fh s) x y := by
  subst ex ey
  have pn := yb_pw hA
  have q : (nA s.2.1 (nI t * 16 + nI u).toNatClampNeg = 0) ↔ s.2.1 (t * 16 + u) = 0 := by
    rw [ya_16 (by omega), show (0 : Int32) = nI 0 from rfl, br_eq (by omega) (by decide)]
  unfold wpY_linked
  exact And.intro (yv_16 (by omega)) (br_c (fun w => h0 fun z => (ye_l hA hb).mp z (q.mp w)) (fun w => h1 ((ye_l hA hb).mpr fun z => w (q.mpr z))))
theorem yw_rigid {post : Int32 → Prop} {t : Nat} {x : Int32} (ex : x = nI t) (hn : n ≤ 16) (W : fd_wf n A kd fs sn th) (ht : t < n) (h1 : fd_rg kd t → post 1) (h0 : ¬ fd_rg kd t → post 0) : wpY_rigid post (yt A mN mD n dc cl sd kd fs sn th tl dk di dj tp tt ti te tm ov is ak fh s) x := by
  subst ex
  have wt := (W t ht).1
  have vt : vp_in (nI t) 16 := vp_in_nI (by omega) (by decide)
  have q : ∀ (j : Nat) (v : Int32), v = nI j → j < 4294967296 → (nA kd (nI t).toNatClampNeg = v ↔ kd t = j) := fun j v hv hj => br_aq hv (by omega) (by omega) hj
  unfold wpY_rigid
  unfold fd_rg at h1 h0
  refine And.intro vt (br_c (fun w => h0 ?_) (fun w => And.intro vt (br_c (fun v => h0 ?_) (fun v => h1 ?_))))
  · have := (q 0 0 rfl (by decide)).mp w; omega
  · have := (q 3 3 rfl (by decide)).mp v; omega
  · have z1 : kd t ≠ 0 := fun z => w ((q 0 0 rfl (by decide)).mpr z)
    have z2 : kd t ≠ 3 := fun z => v ((q 3 3 rfl (by decide)).mpr z)
    omega
theorem yw_c141 {post : Int32 → SY → Prop} {J24 J64 : Int32 → (Nat → Int32) → (Nat → Int32) → (Nat → Int32) → (Nat → Int32) → (Nat → Int32) → (Nat → Int32) → (Nat → Int32) → (Nat → Int32) → (Nat → Int32) → (Nat → Int32) → (Nat → Int32) → (Nat → Int32) → (Nat → Int32) → (Nat → Int32) → (Nat → Int32) → (Nat → Int32) → (Nat → Int32) → (Nat → Int32) → (Nat → Int32) → Prop} {t v : Nat} {Q : Nat → Nat → Prop} (hA : yp_A A) (hn : n ≤ 16) (W : fd_wf n A kd fs sn th) (hb : ∀ i, s.2.1 i < 2 ^ yp_np A) (ht : t < n) (hv : v < n) (B : bA n ov Q)
    (h : ∀ ov', bA n ov' (fun x y => Q x y ∨ (x = t ∧ ∃ w, ct_ch kd fs sn v w ∧ ct_l A (ye A s.2.1) w y)) → J64 (nI (v + 1)) (nA kd) (nA fs) (nA sn) (nA th) (nA tl) (nA dk) (nA di) (nA dj) (nA tp) (nA tt) (nA ti) (nA te) (nA tm) (nA (s.2.1)) (nA (s.2.2)) (nA (ov')) (nA is) (nA ak) (nA fh)) :
    ∃ n141 : Nat, wY_contradictory_141 post J24 J64 (nI t) (nI v) (nI A) (nI mN) (nI mD) (nI n) (nI dc) (nI (yp_np A)) (nI (2 ^ A - 1)) (nI (2 ^ yp_np A - 1)) (nI cl) (nI (s.1)) (nI sd) n141 0 (nA kd) (nA fs) (nA sn) (nA th) (nA tl) (nA dk) (nA di) (nA dj) (nA tp) (nA tt) (nA ti) (nA te) (nA tm) (nA (s.2.1)) (nA (s.2.2)) (nA ov) (nA is) (nA ak) (nA fh) := by
  have wv := W v hv
  refine loop_0 (fun k i (o : Nat → Nat) => wY_contradictory_141 post J24 J64 (nI t) (nI v) (nI A) (nI mN) (nI mD) (nI n) (nI dc) (nI (yp_np A)) (nI (2 ^ A - 1)) (nI (2 ^ yp_np A - 1)) (nI cl) (nI (s.1)) (nI sd) k (nI i) (nA kd) (nA fs) (nA sn) (nA th) (nA tl) (nA dk) (nA di) (nA dj) (nA tp) (nA tt) (nA ti) (nA te) (nA tm) (nA (s.2.1)) (nA (s.2.2)) (nA (o)) (nA is) (nA ak) (nA fh)) (fun i o => bA n o (fun x y => Q x y ∨ (x = t ∧ y < i ∧ ∃ w, ct_ch kd fs sn v w ∧ ct_l A (ye A s.2.1) w y))) n ov (bA_cg B fun x y _ _ => ⟨Or.inl, fun z => z.resolve_right fun w => by omega⟩) ?_ ?_
  · rintro k o I
    exact br_t (nI_le (Nat.le_refl _) (by omega)) (nm_r (nI_1 v) (h o (bA_cg I fun x y hx hy => or_congr Iff.rfl (and_congr Iff.rfl ⟨fun z => z.2, fun z => ⟨hy, z⟩⟩))))
  · rintro k u o hu I next
    have vv : vp_in (nI v) 16 := vp_in_nI (by omega) (by decide)
    have q : ∀ (j : Nat) (x : Int32), x = nI j → j < 4294967296 → (nA kd (nI v).toNatClampNeg = x ↔ kd v = j) := fun j x hx hj => br_aq hx (by omega) (by omega) hj
    have vi : vp_in (nI t * 16 + nI u) 256 := yv_16 (by omega)
    have st : ∀ o : Nat → Nat, upd (nA o) (nI t * 16 + nI u).toNatClampNeg (vp_nar .boolean 1) = nA (ud o (t * 16 + u) 1) := fun o => by
      rw [yi_16]; exact nA_ud (i := t * 16 + u) (x := 1) (by omega)
    -- after the children that were looked at, what is set for u
    have nx : ∀ o2 : Nat → Nat, bA n o2 (fun x y => (Q x y ∨ (x = t ∧ y < u ∧ ∃ w, ct_ch kd fs sn v w ∧ ct_l A (ye A s.2.1) w y)) ∨ (x = t ∧ y = u ∧ ∃ w, ct_ch kd fs sn v w ∧ ct_l A (ye A s.2.1) w u)) → wY_contradictory_141 post J24 J64 (nI t) (nI v) (nI A) (nI mN) (nI mD) (nI n) (nI dc) (nI (yp_np A)) (nI (2 ^ A - 1)) (nI (2 ^ yp_np A - 1)) (nI cl) (nI (s.1)) (nI sd) k (nI (u + 1)) (nA kd) (nA fs) (nA sn) (nA th) (nA tl) (nA dk) (nA di) (nA dj) (nA tp) (nA tt) (nA ti) (nA te) (nA tm) (nA (s.2.1)) (nA (s.2.2)) (nA (o2)) (nA is) (nA ak) (nA fh) := fun o2 B2 => next o2 (bA_cg B2 fun x y hx hy => by
      constructor
      · rintro ((z | ⟨z1, z2, z3⟩) | ⟨z1, z2, z3⟩)
        · exact Or.inl z
        · exact Or.inr ⟨z1, by omega, z3⟩
        · exact Or.inr ⟨z1, by omega, by rw [z2]; exact z3⟩
      · rintro (z | ⟨z1, z2, z3⟩)
        · exact Or.inl (Or.inl z)
        · by_cases e : y = u
          · exact Or.inr ⟨z1, e, by rw [e] at z3; exact z3⟩
          · exact Or.inl (Or.inr ⟨z1, by omega, z3⟩))
    -- the second child
    have sec : ∀ o1 : Nat → Nat, (kd v = 5 ∨ kd v = 4) → bA n o1 (fun x y => (Q x y ∨ (x = t ∧ y < u ∧ ∃ w, ct_ch kd fs sn v w ∧ ct_l A (ye A s.2.1) w y)) ∨ (x = t ∧ y = u ∧ kd v = 5 ∧ ct_l A (ye A s.2.1) (fs v) u)) → wY_contradictory_205 post J24 J64 (wY_contradictory_141 post J24 J64 (nI t) (nI v) (nI A) (nI mN) (nI mD) (nI n) (nI dc) (nI (yp_np A)) (nI (2 ^ A - 1)) (nI (2 ^ yp_np A - 1)) (nI cl) (nI (s.1)) (nI sd) k) (nI t) (nI v) (nI u) (nI A) (nI mN) (nI mD) (nI n) (nI dc) (nI (yp_np A)) (nI (2 ^ A - 1)) (nI (2 ^ yp_np A - 1)) (nI cl) (nI (s.1)) (nI sd) (nA kd) (nA fs) (nA sn) (nA th) (nA tl) (nA dk) (nA di) (nA dj) (nA tp) (nA tt) (nA ti) (nA te) (nA tm) (nA (s.2.1)) (nA (s.2.2)) (nA (o1)) (nA is) (nA ak) (nA fh) := fun o1 kv B1 => by
      have hs : sn v < n := by
        rcases kv with z | z
        · have := (wv.2.2.2.2.2 z).2; omega
        · have := (wv.2.2.2.2.1 z).2; omega
      unfold wY_contradictory_205
      refine And.intro vv (yw_linked (t := sn v) (u := u) (nA_at (by omega)) rfl hA (by omega) (by omega) (hb _) (fun z => br_f (by decide) (And.intro vi (nm_r (st o1) (nm_r (nI_1 u) (nx _ (bA_cg (bA_st B1 hn ht hu) fun x y hx hy => ?_)))))) (fun z => br_t rfl (nm_r (nI_1 u) (nx o1 (bA_cg B1 fun x y hx hy => ?_)))))
      · constructor
        · rintro ((z1 | ⟨z1, z2, z3, z4⟩) | ⟨z1, z2⟩)
          · exact Or.inl z1
          · exact Or.inr ⟨z1, z2, _, Or.inl ⟨z3, rfl⟩, z4⟩
          · exact Or.inr ⟨z1, z2, _, Or.inr ⟨kv, rfl⟩, z⟩
        · rintro (z1 | ⟨z1, z2, w, _, _⟩)
          · exact Or.inl (Or.inl z1)
          · exact Or.inr ⟨z1, z2⟩
      · refine or_congr Iff.rfl ?_
        constructor
        · rintro ⟨z1, z2, z3, z4⟩
          exact ⟨z1, z2, _, Or.inl ⟨z3, rfl⟩, z4⟩
        · rintro ⟨z1, z2, w, ⟨z3, e⟩ | ⟨_, e⟩, z4⟩
          · exact ⟨z1, z2, z3, by rw [e] at z4; exact z4⟩
          · rw [e] at z4; exact absurd z4 z
    refine br_f (nI_ge hu (by omega)) (And.intro vv ?_)
    by_cases k5 : kd v = 5
    · have f5 := wv.2.2.2.2.2 k5
      have j185 : ∀ o1 : Nat → Nat, bA n o1 (fun x y => (Q x y ∨ (x = t ∧ y < u ∧ ∃ w, ct_ch kd fs sn v w ∧ ct_l A (ye A s.2.1) w y)) ∨ (x = t ∧ y = u ∧ kd v = 5 ∧ ct_l A (ye A s.2.1) (fs v) u)) → wY_contradictory_185 post J24 J64 (wY_contradictory_141 post J24 J64 (nI t) (nI v) (nI A) (nI mN) (nI mD) (nI n) (nI dc) (nI (yp_np A)) (nI (2 ^ A - 1)) (nI (2 ^ yp_np A - 1)) (nI cl) (nI (s.1)) (nI sd) k) (nI t) (nI v) (nI u) (nI A) (nI mN) (nI mD) (nI n) (nI dc) (nI (yp_np A)) (nI (2 ^ A - 1)) (nI (2 ^ yp_np A - 1)) (nI cl) (nI (s.1)) (nI sd) (nA kd) (nA fs) (nA sn) (nA th) (nA tl) (nA dk) (nA di) (nA dj) (nA tp) (nA tt) (nA ti) (nA te) (nA tm) (nA (s.2.1)) (nA (s.2.2)) (nA (o1)) (nA is) (nA ak) (nA fh) := fun o1 B1 => And.intro vv (br_t ((q 5 5 rfl (by decide)).mpr k5) (sec o1 (Or.inl k5) B1))
      refine br_t ((q 5 5 rfl (by decide)).mpr k5) (And.intro vv (yw_linked (t := fs v) (u := u) (nA_at (by omega)) rfl hA (by omega) (by omega) (hb _) (fun z => br_f (by decide) (And.intro vi (nm_r (st o) (j185 _ (bA_cg (bA_st I hn ht hu) fun x y hx hy => ?_))))) (fun z => br_t rfl (j185 o (bA_cg I fun x y hx hy => ?_)))))
      · exact or_congr Iff.rfl ⟨fun w => ⟨w.1, w.2, k5, z⟩, fun w => ⟨w.1, w.2.1⟩⟩
      · exact ⟨Or.inl, fun w => w.resolve_right fun w => z w.2.2.2⟩
    · refine br_f (fun w => k5 ((q 5 5 rfl (by decide)).mp w)) (And.intro vv (br_f (fun w => k5 ((q 5 5 rfl (by decide)).mp w)) (And.intro vv ?_)))
      by_cases k4 : kd v = 4
      · exact br_t ((q 4 4 rfl (by decide)).mpr k4) (sec o (Or.inr k4) (bA_cg I fun x y hx hy => ⟨Or.inl, fun w => w.resolve_right fun w => k5 w.2.2.1⟩))
      · refine br_f (fun w => k4 ((q 4 4 rfl (by decide)).mp w)) (nm_r (nI_1 u) (nx o (bA_cg I fun x y hx hy => ⟨Or.inl, fun w => w.resolve_right ?_⟩)))
        rintro ⟨_, _, w, ⟨z, _⟩ | ⟨z, _⟩, _⟩ <;> omega
end
end
section
section
variable {A mN mD n dc cl sd : Nat} {kd fs sn th tl dk di dj tp tt ti te tm ov is ak fh : Nat → Nat}
variable {s : YS}
/-- allowing one node more on the ways -/
theorem yw_w271 {post : Int32 → SY → Prop} {J251 J261 : Int32 → (Nat → Int32) → (Nat → Int32) → (Nat → Int32) → (Nat → Int32) → (Nat → Int32) → (Nat → Int32) → (Nat → Int32) → (Nat → Int32) → (Nat → Int32) → (Nat → Int32) → (Nat → Int32) → (Nat → Int32) → (Nat → Int32) → (Nat → Int32) → (Nat → Int32) → (Nat → Int32) → (Nat → Int32) → (Nat → Int32) → (Nat → Int32) → Prop} {R : Nat → Nat → Prop} {u t : Nat} (hn : n ≤ 16) (hu : u < n) (ht : t < n)
    (S : ∀ x y, x < n → y < n → ov (x * 16 + y) = 0 ∨ (ov (x * 16 + y) = 1 ∧ Relation.TransGen R x y)) (Pu : ∀ x y, x < n → y < n → wp_P R u x y → ov (x * 16 + y) = 1)
    (h : ∀ ov' : Nat → Nat, (∀ x y, x < n → y < n → ov' (x * 16 + y) = 0 ∨ (ov' (x * 16 + y) = 1 ∧ Relation.TransGen R x y)) → (∀ x y, x < n → y < n → ov (x * 16 + y) = 1 → ov' (x * 16 + y) = 1) → (∀ y, y < n → wp_P R (u + 1) t y → ov' (t * 16 + y) = 1) → J261 (nI (t + 1)) (nA kd) (nA fs) (nA sn) (nA th) (nA tl) (nA dk) (nA di) (nA dj) (nA tp) (nA tt) (nA ti) (nA te) (nA tm) (nA (s.2.1)) (nA (s.2.2)) (nA (ov')) (nA is) (nA ak) (nA fh)) :
    ∃ n271 : Nat, wY_contradictory_271 post J251 J261 (nI u) (nI t) (nI A) (nI mN) (nI mD) (nI n) (nI dc) (nI (yp_np A)) (nI (2 ^ A - 1)) (nI (2 ^ yp_np A - 1)) (nI cl) (nI (s.1)) (nI sd) n271 0 (nA kd) (nA fs) (nA sn) (nA th) (nA tl) (nA dk) (nA di) (nA dj) (nA tp) (nA tt) (nA ti) (nA te) (nA tm) (nA (s.2.1)) (nA (s.2.2)) (nA ov) (nA is) (nA ak) (nA fh) := by
  refine loop_0 (fun k i (o : Nat → Nat) => wY_contradictory_271 post J251 J261 (nI u) (nI t) (nI A) (nI mN) (nI mD) (nI n) (nI dc) (nI (yp_np A)) (nI (2 ^ A - 1)) (nI (2 ^ yp_np A - 1)) (nI cl) (nI (s.1)) (nI sd) k (nI i) (nA kd) (nA fs) (nA sn) (nA th) (nA tl) (nA dk) (nA di) (nA dj) (nA tp) (nA tt) (nA ti) (nA te) (nA tm) (nA (s.2.1)) (nA (s.2.2)) (nA (o)) (nA is) (nA ak) (nA fh)) (fun i o => (∀ x y, x < n → y < n → o (x * 16 + y) = 0 ∨ (o (x * 16 + y) = 1 ∧ Relation.TransGen R x y)) ∧ (∀ x y, x < n → y < n → ov (x * 16 + y) = 1 → o (x * 16 + y) = 1) ∧ (∀ y, y < i → wp_P R (u + 1) t y → o (t * 16 + y) = 1)) n ov ⟨S, fun _ _ _ _ z => z, fun y hy => by omega⟩ ?_ ?_
  · rintro k o ⟨I1, I2, I3⟩
    exact br_t (nI_le (Nat.le_refl _) (by omega)) (nm_r (nI_1 t) (h o I1 I2 I3))
  · rintro k v o hv ⟨I1, I2, I3⟩ next
    have q : ∀ x y, x < n → y < n → ((nA o (nI x * 16 + nI y).toNatClampNeg = 0) ↔ o (x * 16 + y) = 0) := fun x y hx hy => by
      have : o (x * 16 + y) < 2 := by rcases I1 x y hx hy with z | z <;> omega
      rw [ya_16 (by omega), show (0 : Int32) = nI 0 from rfl, br_eq (by omega) (by decide)]
    have skip : ¬ (wp_P R u t u ∧ wp_P R u u v) → ∀ y, y < v + 1 → wp_P R (u + 1) t y → o (t * 16 + y) = 1 := fun z y hy w => by
      by_cases e : y = v
      · rw [e] at w ⊢
        have w' : wp_P R u t v ∨ (wp_P R u t u ∧ wp_P R u u v) := w
        exact I2 _ _ ht hv (Pu t v ht hv (w'.resolve_right z))
      · exact I3 y (by omega) w
    refine br_f (nI_ge hv (by omega)) (And.intro (yv_16 (by omega)) (br_c (fun w => nm_r (nI_1 v) (next o ⟨I1, I2, skip fun z => ?_⟩)) (fun w => And.intro (yv_16 (by omega)) (br_c (fun w2 => nm_r (nI_1 v) (next o ⟨I1, I2, skip fun z => ?_⟩)) (fun w2 => And.intro (yv_16 (by omega)) (nm_r (e' := nA (ud o (t * 16 + v) 1)) ?_ (nm_r (nI_1 v) (next _ ⟨?_, ?_, ?_⟩))))))))
    · have := (q t u ht hu).mp w
      have := I2 _ _ ht hu (Pu t u ht hu z.1)
      omega
    · have := (q u v hu hv).mp w2
      have := I2 _ _ hu hv (Pu u v hu hv z.2)
      omega
    · rw [yi_16]; exact nA_ud (i := t * 16 + v) (x := 1) (by omega)
    · intro x y hx hy
      by_cases e : x * 16 + y = t * 16 + v
      · have e1 : x = t := by omega
        have e2 : y = v := by omega
        rw [e, ud_s, e1, e2]
        have t1 := (I1 t u ht hu).resolve_left fun z => w ((q t u ht hu).mpr z)
        have t2 := (I1 u v hu hv).resolve_left fun z => w2 ((q u v hu hv).mpr z)
        exact Or.inr ⟨rfl, t1.2.trans t2.2⟩
      · rw [ud_n e]; exact I1 x y hx hy
    · intro x y hx hy z
      by_cases e : x * 16 + y = t * 16 + v
      · rw [e, ud_s]
      · rw [ud_n e]; exact I2 x y hx hy z
    · intro y hy z
      by_cases e : y = v
      · rw [e, ud_s]
      · rw [ud_n (by omega)]; exact I3 y (by omega) z
theorem yw_w251 {post : Int32 → SY → Prop} {R : Nat → Nat → Prop} (hn : n ≤ 16) (hR : ∀ a b, R a b → a < n) (B : bA n ov R)
    (h1 : ∀ ov', (∃ t, Relation.TransGen R t t) → post 1 (yt A mN mD n dc cl sd kd fs sn th tl dk di dj tp tt ti te tm (ov') is ak fh s)) (h0 : ∀ ov', ¬ (∃ t, Relation.TransGen R t t) → post 0 (yt A mN mD n dc cl sd kd fs sn th tl dk di dj tp tt ti te tm (ov') is ak fh s)) :
    ∃ n251 : Nat, wY_contradictory_251 post (nI A) (nI mN) (nI mD) (nI n) (nI dc) (nI (yp_np A)) (nI (2 ^ A - 1)) (nI (2 ^ yp_np A - 1)) (nI cl) (nI (s.1)) (nI sd) n251 0 (nA kd) (nA fs) (nA sn) (nA th) (nA tl) (nA dk) (nA di) (nA dj) (nA tp) (nA tt) (nA ti) (nA te) (nA tm) (nA (s.2.1)) (nA (s.2.2)) (nA ov) (nA is) (nA ak) (nA fh) := by
  refine loop_0 (fun k i (o : Nat → Nat) => wY_contradictory_251 post (nI A) (nI mN) (nI mD) (nI n) (nI dc) (nI (yp_np A)) (nI (2 ^ A - 1)) (nI (2 ^ yp_np A - 1)) (nI cl) (nI (s.1)) (nI sd) k (nI i) (nA kd) (nA fs) (nA sn) (nA th) (nA tl) (nA dk) (nA di) (nA dj) (nA tp) (nA tt) (nA ti) (nA te) (nA tm) (nA (s.2.1)) (nA (s.2.2)) (nA (o)) (nA is) (nA ak) (nA fh)) (fun i o => (∀ x y, x < n → y < n → o (x * 16 + y) = 0 ∨ (o (x * 16 + y) = 1 ∧ Relation.TransGen R x y)) ∧ (∀ x y, x < n → y < n → wp_P R i x y → o (x * 16 + y) = 1)) n ov ⟨fun x y hx hy => ?_, fun x y hx hy z => ?_⟩ ?_ ?_
  · rcases B x y hx hy with z | z
    · exact Or.inl z.1
    · exact Or.inr ⟨z.1, .single z.2⟩
  · rcases B x y hx hy with w | w
    · exact absurd z w.2
    · exact w.1
  · rintro k o ⟨I1, I2⟩
    refine br_t (nI_le (Nat.le_refl _) (by omega)) ?_
    refine loop_0 (fun k i (_ : Unit) => wY_contradictory_339 post (nI A) (nI mN) (nI mD) (nI n) (nI dc) (nI (yp_np A)) (nI (2 ^ A - 1)) (nI (2 ^ yp_np A - 1)) (nI cl) (nI (s.1)) (nI sd) (nA kd) (nA fs) (nA sn) (nA th) (nA tl) (nA dk) (nA di) (nA dj) (nA tp) (nA tt) (nA ti) (nA te) (nA tm) (nA (s.2.1)) (nA (s.2.2)) (nA (o)) (nA is) (nA ak) (nA fh) k (nI i)) (fun i _ => ∀ t, t < i → o (t * 16 + t) = 0) n () (fun t ht => by omega) ?_ ?_
    · rintro k' _ I
      refine br_t (nI_le (Nat.le_refl _) (by omega)) (h0 o fun ⟨t, z⟩ => ?_)
      obtain ⟨y, g1, _⟩ := tg_head z
      have ht := hR _ _ g1
      have := I2 t t ht ht (wp_all hR z)
      have := I t ht
      omega
    · rintro k' t _ ht I next'
      have q : (nA o (nI t * 16 + nI t).toNatClampNeg = 0) ↔ o (t * 16 + t) = 0 := by
        have : o (t * 16 + t) < 2 := by rcases I1 t t ht ht with z | z <;> omega
        rw [ya_16 (by omega), show (0 : Int32) = nI 0 from rfl, br_eq (by omega) (by decide)]
      refine br_f (nI_ge ht (by omega)) (And.intro (yv_16 (by omega)) (br_c (fun w => nm_r (nI_1 t) (next' () fun j hj => ?_)) (fun w => h1 o ⟨t, ((I1 t t ht ht).resolve_left fun z => w (q.mpr z)).2⟩)))
      by_cases e : j = t
      · rw [e]; exact q.mp w
      · exact I j (by omega)
  · rintro k u o hu ⟨I1, I2⟩ next
    refine br_f (nI_ge hu (by omega)) ?_
    refine loop_0 (fun k' i (o' : Nat → Nat) => wY_contradictory_261 post (wY_contradictory_251 post (nI A) (nI mN) (nI mD) (nI n) (nI dc) (nI (yp_np A)) (nI (2 ^ A - 1)) (nI (2 ^ yp_np A - 1)) (nI cl) (nI (s.1)) (nI sd) k) (nI u) (nI A) (nI mN) (nI mD) (nI n) (nI dc) (nI (yp_np A)) (nI (2 ^ A - 1)) (nI (2 ^ yp_np A - 1)) (nI cl) (nI (s.1)) (nI sd) k' (nI i) (nA kd) (nA fs) (nA sn) (nA th) (nA tl) (nA dk) (nA di) (nA dj) (nA tp) (nA tt) (nA ti) (nA te) (nA tm) (nA (s.2.1)) (nA (s.2.2)) (nA (o')) (nA is) (nA ak) (nA fh)) (fun i o' => (∀ x y, x < n → y < n → o' (x * 16 + y) = 0 ∨ (o' (x * 16 + y) = 1 ∧ Relation.TransGen R x y)) ∧ (∀ x y, x < n → y < n → o (x * 16 + y) = 1 → o' (x * 16 + y) = 1) ∧ (∀ x y, x < i → y < n → wp_P R (u + 1) x y → o' (x * 16 + y) = 1)) n o ⟨I1, fun _ _ _ _ z => z, fun x y hx => by omega⟩ ?_ ?_
    · rintro k' o' ⟨J1, J2, J3⟩
      exact br_t (nI_le (Nat.le_refl _) (by omega)) (nm_r (nI_1 u) (next o' ⟨J1, fun x y hx hy z => J3 x y hx hy z⟩))
    · rintro k' t o' ht ⟨J1, J2, J3⟩ next'
      refine br_f (nI_ge ht (by omega)) (yw_w271 (ov := o') hn hu ht J1 (fun x y hx hy z => J2 x y hx hy (I2 x y hx hy z)) fun o2 K1 K2 K3 => next' o2 ⟨K1, fun x y hx hy z => K2 x y hx hy (J2 x y hx hy z), fun x y hx hy z => ?_⟩)
      by_cases e : x = t
      · rw [e] at z ⊢; exact K3 y hy z
      · exact K2 x y (by omega) hy (J3 x y (by omega) hy z)
theorem yw_c64 {post : Int32 → SY → Prop} {J24 : Int32 → (Nat → Int32) → (Nat → Int32) → (Nat → Int32) → (Nat → Int32) → (Nat → Int32) → (Nat → Int32) → (Nat → Int32) → (Nat → Int32) → (Nat → Int32) → (Nat → Int32) → (Nat → Int32) → (Nat → Int32) → (Nat → Int32) → (Nat → Int32) → (Nat → Int32) → (Nat → Int32) → (Nat → Int32) → (Nat → Int32) → (Nat → Int32) → Prop} {t : Nat} {Q : Nat → Nat → Prop} (hA : yp_A A) (hn : n ≤ 16) (W : fd_wf n A kd fs sn th) (hb : ∀ i, s.2.1 i < 2 ^ yp_np A) (ht : t < n) (B : bA n ov Q)
    (h1 : ∀ ov' v, v < n → ct_l A (ye A s.2.1) t v → ct_df kd fs t v → post 1 (yt A mN mD n dc cl sd kd fs sn th tl dk di dj tp tt ti te tm (ov') is ak fh s))
    (h : ∀ ov', bA n ov' (fun x y => Q x y ∨ (x = t ∧ ∃ v w, v < n ∧ ct_l A (ye A s.2.1) t v ∧ ct_ch kd fs sn v w ∧ ct_l A (ye A s.2.1) w y)) → (∀ v, v < n → ct_l A (ye A s.2.1) t v → ¬ ct_df kd fs t v) → J24 (nI (t + 1)) (nA kd) (nA fs) (nA sn) (nA th) (nA tl) (nA dk) (nA di) (nA dj) (nA tp) (nA tt) (nA ti) (nA te) (nA tm) (nA (s.2.1)) (nA (s.2.2)) (nA (ov')) (nA is) (nA ak) (nA fh)) :
    ∃ n64 : Nat, wY_contradictory_64 post J24 (nI t) (nI A) (nI mN) (nI mD) (nI n) (nI dc) (nI (yp_np A)) (nI (2 ^ A - 1)) (nI (2 ^ yp_np A - 1)) (nI cl) (nI (s.1)) (nI sd) n64 0 (nA kd) (nA fs) (nA sn) (nA th) (nA tl) (nA dk) (nA di) (nA dj) (nA tp) (nA tt) (nA ti) (nA te) (nA tm) (nA (s.2.1)) (nA (s.2.2)) (nA ov) (nA is) (nA ak) (nA fh) := by
  have wt := W t ht
  refine loop_0 (fun k i (o : Nat → Nat) => wY_contradictory_64 post J24 (nI t) (nI A) (nI mN) (nI mD) (nI n) (nI dc) (nI (yp_np A)) (nI (2 ^ A - 1)) (nI (2 ^ yp_np A - 1)) (nI cl) (nI (s.1)) (nI sd) k (nI i) (nA kd) (nA fs) (nA sn) (nA th) (nA tl) (nA dk) (nA di) (nA dj) (nA tp) (nA tt) (nA ti) (nA te) (nA tm) (nA (s.2.1)) (nA (s.2.2)) (nA (o)) (nA is) (nA ak) (nA fh)) (fun i o => bA n o (fun x y => Q x y ∨ (x = t ∧ ∃ v w, v < i ∧ ct_l A (ye A s.2.1) t v ∧ ct_ch kd fs sn v w ∧ ct_l A (ye A s.2.1) w y)) ∧ ∀ v, v < i → ct_l A (ye A s.2.1) t v → ¬ ct_df kd fs t v) n ov ⟨bA_cg B fun x y _ _ => ⟨Or.inl, fun z => z.resolve_right fun ⟨_, v, w, hv, _⟩ => by omega⟩, fun v hv => by omega⟩ ?_ ?_
  · rintro k o ⟨I1, I2⟩
    exact br_t (nI_le (Nat.le_refl _) (by omega)) (nm_r (nI_1 t) (h o I1 I2))
  · rintro k v o hv ⟨I1, I2⟩ next
    have wv := W v hv
    have vt : vp_in (nI t) 16 := vp_in_nI (by omega) (by decide)
    have vv : vp_in (nI v) 16 := vp_in_nI (by omega) (by decide)
    have go : ct_l A (ye A s.2.1) t v → ¬ ct_df kd fs t v → ∃ n141 : Nat, wY_contradictory_141 post J24 (wY_contradictory_64 post J24 (nI t) (nI A) (nI mN) (nI mD) (nI n) (nI dc) (nI (yp_np A)) (nI (2 ^ A - 1)) (nI (2 ^ yp_np A - 1)) (nI cl) (nI (s.1)) (nI sd) k) (nI t) (nI v) (nI A) (nI mN) (nI mD) (nI n) (nI dc) (nI (yp_np A)) (nI (2 ^ A - 1)) (nI (2 ^ yp_np A - 1)) (nI cl) (nI (s.1)) (nI sd) n141 0 (nA kd) (nA fs) (nA sn) (nA th) (nA tl) (nA dk) (nA di) (nA dj) (nA tp) (nA tt) (nA ti) (nA te) (nA tm) (nA (s.2.1)) (nA (s.2.2)) (nA (o)) (nA is) (nA ak) (nA fh) := fun l nd => yw_c141 (ov := o) hA hn W hb ht hv I1 fun o2 B2 => next o2 ⟨bA_cg B2 fun x y hx hy => by
      constructor
      · rintro ((z | ⟨z1, v', w, z2, z3⟩) | ⟨z1, w, z2⟩)
        · exact Or.inl z
        · exact Or.inr ⟨z1, v', w, by omega, z3⟩
        · exact Or.inr ⟨z1, v, w, by omega, l, z2⟩
      · rintro (z | ⟨z1, v', w, z2, z3, z4⟩)
        · exact Or.inl (Or.inl z)
        · by_cases e : v' = v
          · rw [e] at z4; exact Or.inr ⟨z1, w, z4⟩
          · exact Or.inl (Or.inr ⟨z1, v', w, by omega, z3, z4⟩), fun v' hv' => by
      by_cases e : v' = v
      · rw [e]; exact fun _ => nd
      · exact I2 v' (by omega)⟩
    refine br_f (nI_ge hv (by omega)) (yw_linked rfl rfl hA (by omega) (by omega) (hb _) (fun l => br_f (by decide) (yw_rigid rfl hn W ht (fun rt => br_f (by decide) (yw_rigid rfl hn W hv (fun rv => br_f (by decide) (And.intro vt (And.intro vv ?_))) (fun rv => br_t rfl (go l fun z => rv z.2.1)))) (fun rt => br_t rfl (go l fun z => rt z.1)))) (fun l => br_t rfl (nm_r (nI_1 v) (next o ⟨bA_cg I1 fun x y hx hy => ?_, fun v' hv' => ?_⟩))))
    · by_cases ek : kd t = kd v
      · refine br_t ((br_aa (by omega) (by omega) (by omega) (by omega)).mpr ek) (And.intro vt ?_)
        by_cases k2 : kd t = 2
        · have := wt.2.2.1 k2
          have := wv.2.2.1 (by omega)
          refine br_t ((br_aq (j := 2) rfl (by omega) (by omega) (by decide)).mpr k2) (And.intro vt (And.intro vv ?_))
          by_cases e : fs t = fs v
          · exact br_t ((br_aa (by omega) (by omega) (by omega) (by omega)).mpr e) (go l fun z => by rcases z.2.2 with w | w <;> omega)
          · exact br_f (fun w => e ((br_aa (by omega) (by omega) (by omega) (by omega)).mp w)) (h1 o v hv l ⟨rt, rv, Or.inr ⟨k2, e⟩⟩)
        · exact br_f (fun w => k2 ((br_aq (j := 2) rfl (by omega) (by omega) (by decide)).mp w)) (go l fun z => by rcases z.2.2 with w | w <;> omega)
      · exact br_f (fun w => ek ((br_aa (by omega) (by omega) (by omega) (by omega)).mp w)) (h1 o v hv l ⟨rt, rv, Or.inl ek⟩)
    · refine or_congr Iff.rfl (and_congr Iff.rfl ⟨fun ⟨v', w, z1, z2⟩ => ⟨v', w, by omega, z2⟩, fun ⟨v', w, z1, z2, z3⟩ => ?_⟩)
      by_cases e : v' = v
      · rw [e] at z2; exact absurd z2 l
      · exact ⟨v', w, by omega, z2, z3⟩
    · by_cases e : v' = v
      · rw [e]; exact fun z => absurd z l
      · exact I2 v' (by omega)
theorem yw_contra {post : Int32 → SY → Prop} (hA : yp_A A) (hn : n ≤ 16) (W : fd_wf n A kd fs sn th) (hb : ∀ i, s.2.1 i < 2 ^ yp_np A) (ho : ∀ i, s.2.2 i < 2 ^ A)
    (h1 : ∀ ov', ct n A kd fs sn (ye A s.2.1) (yo s.2.2) → post 1 (yt A mN mD n dc cl sd kd fs sn th tl dk di dj tp tt ti te tm (ov') is ak fh s)) (h0 : ∀ ov', ¬ ct n A kd fs sn (ye A s.2.1) (yo s.2.2) → post 0 (yt A mN mD n dc cl sd kd fs sn th tl dk di dj tp tt ti te tm (ov') is ak fh s)) : wpY_contradictory post (yt A mN mD n dc cl sd kd fs sn th tl dk di dj tp tt ti te tm ov is ak fh s) := by
  have hA4 := yp_A4 hA
  have pw := gp_pw hA4
  unfold wpY_contradictory
  refine loop_0 (fun k i (o : Nat → Nat) => wY_contradictory_2 post (nI A) (nI mN) (nI mD) (nI n) (nI dc) (nI (yp_np A)) (nI (2 ^ A - 1)) (nI (2 ^ yp_np A - 1)) (nI cl) (nI (s.1)) (nI sd) k (nI i) (nA kd) (nA fs) (nA sn) (nA th) (nA tl) (nA dk) (nA di) (nA dj) (nA tp) (nA tt) (nA ti) (nA te) (nA tm) (nA (s.2.1)) (nA (s.2.2)) (nA (o)) (nA is) (nA ak) (nA fh)) (fun i o => ∀ j, j < i → o j = 0) 256 ov (fun j hj => by omega) ?_ ?_
  · rintro k o I
    refine br_t (nI_le (a := 256) (Nat.le_refl _) (by omega)) ?_
    refine loop_0 (fun k i (o : Nat → Nat) => wY_contradictory_24 post (nI A) (nI mN) (nI mD) (nI n) (nI dc) (nI (yp_np A)) (nI (2 ^ A - 1)) (nI (2 ^ yp_np A - 1)) (nI cl) (nI (s.1)) (nI sd) k (nI i) (nA kd) (nA fs) (nA sn) (nA th) (nA tl) (nA dk) (nA di) (nA dj) (nA tp) (nA tt) (nA ti) (nA te) (nA tm) (nA (s.2.1)) (nA (s.2.2)) (nA (o)) (nA is) (nA ak) (nA fh)) (fun i o => bA n o (fun x y => x < i ∧ ∃ v w, v < n ∧ ct_l A (ye A s.2.1) x v ∧ ct_ch kd fs sn v w ∧ ct_l A (ye A s.2.1) w y) ∧ (∀ t, t < i → kd t = 1 → ¬ yo s.2.2 t (fs t)) ∧ ∀ t, t < i → ∀ v, v < n → ct_l A (ye A s.2.1) t v → ¬ ct_df kd fs t v) n o ⟨fun x y hx hy => Or.inl ⟨I _ (by omega), fun z => by omega⟩, fun t ht => by omega, fun t ht => by omega⟩ ?_ ?_
    · rintro k' o' ⟨I1, I2, I3⟩
      refine br_t (nI_le (Nat.le_refl _) (by omega)) (yw_w251 (ov := o') (R := ct_ov n A kd fs sn (ye A s.2.1)) hn (fun a b z => z.1) (bA_cg I1 fun x y hx hy => ⟨fun z => ⟨hx, hy, z.2⟩, fun z => ⟨hx, z.2.2⟩⟩) (fun ov' z => h1 ov' (Or.inr (Or.inr z))) (fun ov' z => h0 ov' ?_))
      rintro (⟨t, ht, k1, y⟩ | ⟨t, u, ht, hu, y, y'⟩ | y)
      · exact I2 t ht k1 y
      · exact I3 t ht u hu y y'
      · exact z y
    · rintro k' t o' ht ⟨I1, I2, I3⟩ next
      have wt := W t ht
      have vt : vp_in (nI t) 16 := vp_in_nI (by omega) (by decide)
      have q : (nA kd (nI t).toNatClampNeg = 1 ↔ kd t = 1) := br_aq (j := 1) rfl (by omega) (by omega) (by decide)
      have go : (kd t = 1 → ¬ yo s.2.2 t (fs t)) → ∃ n64 : Nat, wY_contradictory_64 post (wY_contradictory_24 post (nI A) (nI mN) (nI mD) (nI n) (nI dc) (nI (yp_np A)) (nI (2 ^ A - 1)) (nI (2 ^ yp_np A - 1)) (nI cl) (nI (s.1)) (nI sd) k') (nI t) (nI A) (nI mN) (nI mD) (nI n) (nI dc) (nI (yp_np A)) (nI (2 ^ A - 1)) (nI (2 ^ yp_np A - 1)) (nI cl) (nI (s.1)) (nI sd) n64 0 (nA kd) (nA fs) (nA sn) (nA th) (nA tl) (nA dk) (nA di) (nA dj) (nA tp) (nA tt) (nA ti) (nA te) (nA tm) (nA (s.2.1)) (nA (s.2.2)) (nA (o')) (nA is) (nA ak) (nA fh) := fun z => yw_c64 (ov := o') hA hn W hb ht I1 (fun ov' v hv l d => h1 ov' (Or.inr (Or.inl ⟨t, v, ht, hv, l, d⟩))) fun o2 B2 nd => next o2 ⟨bA_cg B2 fun x y hx hy => by
        constructor
        · rintro (⟨z1, z2⟩ | ⟨z1, z2⟩)
          · exact ⟨by omega, z2⟩
          · rw [z1]; exact ⟨by omega, z2⟩
        · rintro ⟨z1, z2⟩
          by_cases e : x = t
          · rw [e] at z2; exact Or.inr ⟨e, z2⟩
          · exact Or.inl ⟨by omega, z2⟩, fun j hj => by
        by_cases e : j = t
        · rw [e]; exact z
        · exact I2 j (by omega), fun j hj => by
        by_cases e : j = t
        · rw [e]; exact nd
        · exact I3 j (by omega)⟩
      refine br_f (nI_ge ht (by omega)) (And.intro vt (br_c (fun w => And.intro vt (And.intro vt ?_)) (fun w => go fun z => absurd (q.mpr z) w)))
      have k1 := q.mp w
      have f1 := wt.2.1 k1
      have bo := ho t
      have q2 : (((nA s.2.2 (nI t).toNatClampNeg) >>> ((nA fs (nI t).toNatClampNeg) &&& 31)) &&& 1) = 0 ↔ (s.2.2 t).testBit (fs t) = false := by
        rw [nA_at (by omega), nA_at (by omega)]; exact br_bit (by omega) (by omega)
      refine br_c (fun w2 => go fun _ y => ?_) (fun w2 => h1 o' (Or.inl ⟨t, ht, k1, gp_nf fun z => w2 (q2.mpr z)⟩))
      unfold yo at y; rw [q2.mp w2] at y; exact absurd y (by decide)
  · rintro k i o hi I next
    refine br_f (nI_ge (b := 256) hi (by omega)) (And.intro (vp_in_nI hi (by decide)) (nm_r (nA_ud (f := o) (i := i) (x := 0) (by omega)) (nm_r (nI_1 i) (next _ fun j hj => ?_))))
    by_cases e : j = i
    · rw [e, ud_s]
    · rw [ud_n e]; exact I j (by omega)
end
end
section
def yB (A : Nat) (eq off : Nat → Nat) : Prop := (∀ i, eq i < 2 ^ yp_np A) ∧ (∀ i, off i < 2 ^ A)
def yq (n A : Nat) (kd fs sn th dk di dj : Nat → Nat) (m : Nat) (eq off : Nat → Nat) : Prop :=
  (∀ t u c, t < n → u < n → gp_P A c → (ye A eq t u c ↔ fd_LE n A kd fs sn th dk di dj m t u c)) ∧ (∀ t a, t < n → (yo off t a ↔ fd_LO n A kd fs sn th dk di dj m t a))
def yz (n A : Nat) (kd fs sn th dk di dj : Nat → Nat) (m cl : Nat) (eq off : Nat → Nat) : Prop :=
  (cl = 4294967295 ∧ yq n A kd fs sn th dk di dj m eq off ∧ ∀ k, k < m → ¬ ctL n A kd fs sn th dk di dj (k + 1)) ∨ (cl < m ∧ ctL n A kd fs sn th dk di dj (cl + 1) ∧ ∀ k, k < cl → ¬ ctL n A kd fs sn th dk di dj (k + 1))
section
variable {n A : Nat} {kd fs sn th dk di dj : Nat → Nat} {m : Nat}
theorem yq_V {s : YS} (b : yB A s.2.1 s.2.2) (q : yq n A kd fs sn th dk di dj m s.2.1 s.2.2) : ys_V n A (fd_LE n A kd fs sn th dk di dj (m + 1)) (fd_LO n A kd fs sn th dk di dj (m + 1)) s :=
  ⟨b.1, b.2, fun t u c ht hu hc z => fd_LE_m ((q.1 t u c ht hu hc).mp z), fun t a ht z => fd_LO_m ((q.2 t a ht).mp z)⟩
theorem yq_of {s : YS} (V : ys_V n A (fd_LE n A kd fs sn th dk di dj m) (fd_LO n A kd fs sn th dk di dj m) s) (Cl : fd_Cl n A kd fs sn th (ye A s.2.1) (yo s.2.2)) (B : fd_Bs m dk di dj (ye A s.2.1) (yo s.2.2)) : yB A s.2.1 s.2.2 ∧ yq n A kd fs sn th dk di dj m s.2.1 s.2.2 :=
  ⟨⟨V.1, V.2.1⟩, fun t u c ht hu hc => ⟨V.2.2.1 t u c ht hu hc, fun z => z _ _ Cl B⟩, fun t a ht => ⟨V.2.2.2 t a ht, fun z => z _ _ Cl B⟩⟩
theorem yq_ct (W : fd_wf n A kd fs sn th) {eq off : Nat → Nat} (q : yq n A kd fs sn th dk di dj m eq off) : ct n A kd fs sn (ye A eq) (yo off) ↔ ctL n A kd fs sn th dk di dj m :=
  ⟨ct_ext W q.1 fun t a ht _ => q.2 t a ht, ct_ext W (fun t u c ht hu hc => (q.1 t u c ht hu hc).symm) fun t a ht _ => (q.2 t a ht).symm⟩
/-- both sides name the same clash -/
theorem xz_yz {C P F eq off : Nat → Nat} {ca cl : Nat} (hx : xz n A kd fs sn th dk di dj m ca C P F) (hy : yz n A kd fs sn th dk di dj m cl eq off) : cl = ca := by
  rcases hx with ⟨e1, _, h1⟩ | ⟨l1, h1, g1⟩ <;> rcases hy with ⟨e2, _, h2⟩ | ⟨l2, h2, g2⟩
  · omega
  · exact absurd h2 (h1 cl l2)
  · exact absurd h1 (h2 ca l1)
  · rcases Nat.lt_trichotomy cl ca with z | z | z
    · exact absurd h2 (g1 cl z)
    · exact z
    · exact absurd h1 (g2 ca z)
end
section
variable {A mN mD n dc cl sd : Nat} {kd fs sn th tl dk di dj tp tt ti te tm ov is ak fh : Nat → Nat}
variable {s : YS}
theorem yw_u134 {post : Int32 → SY → Prop} {J71 : Int32 → Int32 → Int32 → Int32 → Int32 → Int32 → Int32 → Int32 → Int32 → Int32 → Int32 → Int32 → (Nat → Int32) → (Nat → Int32) → (Nat → Int32) → (Nat → Int32) → (Nat → Int32) → (Nat → Int32) → (Nat → Int32) → (Nat → Int32) → (Nat → Int32) → (Nat → Int32) → (Nat → Int32) → (Nat → Int32) → (Nat → Int32) → (Nat → Int32) → (Nat → Int32) → (Nat → Int32) → (Nat → Int32) → (Nat → Int32) → (Nat → Int32) → Prop} {k : Nat} (hA : yp_A A) (hn : n ≤ 16) (W : fd_wf n A kd fs sn th) (T : yT A tp tt ti te tm) (hd : fd_dw n A (k + 1) dk di dj) (V : ys_V n A (fd_LE n A kd fs sn th dk di dj (k + 1)) (fd_LO n A kd fs sn th dk di dj (k + 1)) s) (B : fd_Bs (k + 1) dk di dj (ye A s.2.1) (yo s.2.2))
    (h : ∀ (s' : YS) ov', yB A s'.2.1 s'.2.2 → yq n A kd fs sn th dk di dj (k + 1) s'.2.1 s'.2.2 → (ctL n A kd fs sn th dk di dj (k + 1) → J71 (nI (k + 1)) (nI A) (nI mN) (nI mD) (nI n) (nI dc) (nI (yp_np A)) (nI (2 ^ A - 1)) (nI (2 ^ yp_np A - 1)) (nI (k)) (nI (s'.1)) (nI sd) (nA kd) (nA fs) (nA sn) (nA th) (nA tl) (nA dk) (nA di) (nA dj) (nA tp) (nA tt) (nA ti) (nA te) (nA tm) (nA (s'.2.1)) (nA (s'.2.2)) (nA (ov')) (nA is) (nA ak) (nA fh)) ∧ (¬ ctL n A kd fs sn th dk di dj (k + 1) → J71 (nI (k + 1)) (nI A) (nI mN) (nI mD) (nI n) (nI dc) (nI (yp_np A)) (nI (2 ^ A - 1)) (nI (2 ^ yp_np A - 1)) (nI cl) (nI (s'.1)) (nI sd) (nA kd) (nA fs) (nA sn) (nA th) (nA tl) (nA dk) (nA di) (nA dj) (nA tp) (nA tt) (nA ti) (nA te) (nA tm) (nA (s'.2.1)) (nA (s'.2.2)) (nA (ov')) (nA is) (nA ak) (nA fh))) : wY_culprit_134 post J71 (nI k) (nI A) (nI mN) (nI mD) (nI n) (nI dc) (nI (yp_np A)) (nI (2 ^ A - 1)) (nI (2 ^ yp_np A - 1)) (nI cl) (nI (s.1)) (nI sd) (nA kd) (nA fs) (nA sn) (nA th) (nA tl) (nA dk) (nA di) (nA dj) (nA tp) (nA tt) (nA ti) (nA te) (nA tm) (nA (s.2.1)) (nA (s.2.2)) (nA ov) (nA is) (nA ak) (nA fh) := by
  have hA4 := yp_A4 hA
  unfold wY_culprit_134
  refine yw_saturate hA hn W T (fd_LCl hA4 W hd) V fun s' V' L' Cl' => ?_
  obtain ⟨b, q⟩ := yq_of V' Cl' fun j hj => ⟨fun z => L'.1 _ _ ((B j hj).1 z), fun z => L'.2 _ _ ((B j hj).2 z)⟩
  exact yw_contra hA hn W b.1 b.2 (fun ov' z => br_f (by decide) (nm_r (nI_1 k) ((h s' ov' b q).1 ((yq_ct W q).mp z)))) (fun ov' z => br_t rfl (nm_r (nI_1 k) ((h s' ov' b q).2 fun y => z ((yq_ct W q).mpr y))))
theorem yw_u71 {post : Int32 → SY → Prop} (hA : yp_A A) (hn : n ≤ 16) (hdc : dc ≤ 8) (W : fd_wf n A kd fs sn th) (T : yT A tp tt ti te tm) (hd : fd_dw n A dc dk di dj) (hdk : ∀ k, k < dc → dk k < 4294967296) (b : yB A s.2.1 s.2.2) (q : yq n A kd fs sn th dk di dj 0 s.2.1 s.2.2)
    (h : ∀ (s' : YS) cl' ov', yB A s'.2.1 s'.2.2 → yz n A kd fs sn th dk di dj dc cl' s'.2.1 s'.2.2 → post (nI cl') (yt A mN mD n dc (cl') sd kd fs sn th tl dk di dj tp tt ti te tm (ov') is ak fh s')) : ∃ n71 : Nat, wY_culprit_71 post n71 0 (nI A) (nI mN) (nI mD) (nI n) (nI dc) (nI (yp_np A)) (nI (2 ^ A - 1)) (nI (2 ^ yp_np A - 1)) (nI (4294967295)) (nI (s.1)) (nI sd) (nA kd) (nA fs) (nA sn) (nA th) (nA tl) (nA dk) (nA di) (nA dj) (nA tp) (nA tt) (nA ti) (nA te) (nA tm) (nA (s.2.1)) (nA (s.2.2)) (nA ov) (nA is) (nA ak) (nA fh) := by
  have hA4 := yp_A4 hA
  have pn := yb_pw hA
  refine loop_0 (fun k i (st : YS × Nat × (Nat → Nat)) => wY_culprit_71 post k (nI i) (nI A) (nI mN) (nI mD) (nI n) (nI dc) (nI (yp_np A)) (nI (2 ^ A - 1)) (nI (2 ^ yp_np A - 1)) (nI (st.2.1)) (nI (st.1.1)) (nI sd) (nA kd) (nA fs) (nA sn) (nA th) (nA tl) (nA dk) (nA di) (nA dj) (nA tp) (nA tt) (nA ti) (nA te) (nA tm) (nA (st.1.2.1)) (nA (st.1.2.2)) (nA (st.2.2)) (nA is) (nA ak) (nA fh)) (fun i st => yB A st.1.2.1 st.1.2.2 ∧ yz n A kd fs sn th dk di dj i st.2.1 st.1.2.1 st.1.2.2) dc (s, 4294967295, ov) ⟨b, Or.inl ⟨rfl, q, fun k hk => by omega⟩⟩ ?_ ?_
  · rintro k ⟨s', cl', ov'⟩ ⟨I1, I2⟩
    exact br_t (nI_le (Nat.le_refl _) (by omega)) (h s' cl' ov' I1 I2)
  · rintro k i ⟨s', cl', ov'⟩ hi ⟨I1, I2⟩ next
    refine br_f (nI_ge hi (by omega)) ?_
    rcases I2 with ⟨e, I2, I3⟩ | ⟨e, I2, I3⟩
    · have e' : cl' = 4294967295 := e
      have d := hd i hi
      have hd' : fd_dw n A (i + 1) dk di dj := fun j hj => hd j (by omega)
      have vi : vp_in (nI i) 8 := vp_in_nI (by omega) (by decide)
      have qk : (nA dk (nI i).toNatClampNeg = 0 ↔ dk i = 0) := br_aq (j := 0) rfl (by omega) (hdk i hi) (by decide)
      have V := yq_V I1 I2
      have Bi := fd_LBs (n := n) (A := A) (kd := kd) (fs := fs) (sn := sn) (th := th) (dk := dk) (di := di) (dj := dj) (m := i)
      have Bi1 := fd_LBs (n := n) (A := A) (kd := kd) (fs := fs) (sn := sn) (th := th) (dk := dk) (di := di) (dj := dj) (m := i + 1) i (by omega)
      have old : ∀ s2 : YS, ys_le s' s2 → ∀ j, j < i → (dk j = 0 → ye A s2.2.1 (di j) (dj j) 228) ∧ (dk j ≠ 0 → yo s2.2.2 (dj j) (di j)) := fun s2 L j hj => by
        have dj' := hd j (by omega)
        exact ⟨fun z => L.1 _ _ ((I2.1 _ _ _ (dj'.2.1 z) dj'.1 (gp_P_id A)).mpr ((Bi j hj).1 z)), fun z => L.2 _ _ ((I2.2 _ _ dj'.1).mpr ((Bi j hj).2 z))⟩
      have fin : ∀ (s2 : YS) ov2, yB A s2.2.1 s2.2.2 → yq n A kd fs sn th dk di dj (i + 1) s2.2.1 s2.2.2 → (ctL n A kd fs sn th dk di dj (i + 1) → wY_culprit_71 post k (nI (i + 1)) (nI A) (nI mN) (nI mD) (nI n) (nI dc) (nI (yp_np A)) (nI (2 ^ A - 1)) (nI (2 ^ yp_np A - 1)) (nI (i)) (nI (s2.1)) (nI sd) (nA kd) (nA fs) (nA sn) (nA th) (nA tl) (nA dk) (nA di) (nA dj) (nA tp) (nA tt) (nA ti) (nA te) (nA tm) (nA (s2.2.1)) (nA (s2.2.2)) (nA (ov2)) (nA is) (nA ak) (nA fh)) ∧ (¬ ctL n A kd fs sn th dk di dj (i + 1) → wY_culprit_71 post k (nI (i + 1)) (nI A) (nI mN) (nI mD) (nI n) (nI dc) (nI (yp_np A)) (nI (2 ^ A - 1)) (nI (2 ^ yp_np A - 1)) (nI (cl')) (nI (s2.1)) (nI sd) (nA kd) (nA fs) (nA sn) (nA th) (nA tl) (nA dk) (nA di) (nA dj) (nA tp) (nA tt) (nA ti) (nA te) (nA tm) (nA (s2.2.1)) (nA (s2.2.2)) (nA (ov2)) (nA is) (nA ak) (nA fh)) := fun s2 ov2 b2 q2 => by
        refine ⟨fun z => next (s2, i, ov2) ⟨b2, Or.inr ⟨by show i < i + 1; omega, z, I3⟩⟩, fun z => next (s2, cl', ov2) ⟨b2, Or.inl ⟨e, q2, fun j hj => ?_⟩⟩⟩
        by_cases w : j = i
        · rw [w]; exact z
        · exact I3 j (by omega)
      refine br_t (by rw [br_m1]; show nI cl' = _; rw [e']) (And.intro vi (br_c (fun w => And.intro vi (And.intro vi ?_)) (fun w => And.intro vi (And.intro vi ?_))))
      · have z := qk.mp w
        have hii := d.2.1 z
        have hjj := d.1
        have o1 : (1 : Nat) < 2 ^ yp_np A := Nat.one_lt_two_pow (by have := (yp_n24 hA).1; omega)
        obtain ⟨V1, R1, N1⟩ := yp_link_ok (t := di i) (u := dj i) (set := 1) hA hn V hii hjj o1 fun c hc y => by
          have e0 : (1 : Nat) = 2 ^ yp_ix A 228 := by rw [(yp_0 hA).1]
          rw [e0] at y
          rw [(yb_one hA (gp_P_id A) hc).mp y]; exact Bi1.1 z
        refine yw_link (t := di i) (u := dj i) (set := 1) (nA_at (by omega)) (nA_at (by omega)) rfl (by omega) (by omega) (by decide) (yw_u134 hA hn W T hd' V1 (fun j hj => ?_) fin)
        by_cases e2 : j = i
        · rw [e2]; exact ⟨fun _ => N1 _ (by rw [(yp_0 hA).1]; decide), fun y => absurd z y⟩
        · exact old _ R1.1 j (by omega)
      · have z : dk i ≠ 0 := fun y => w (qk.mpr y)
        have hii := d.2.2 z
        have hjj := d.1
        have pl : 2 ^ di i < 2 ^ A := Nat.pow_lt_pow_right (by decide) hii
        have pw := gp_pw hA4
        obtain ⟨V1, R1, N1⟩ := yp_spread_ok (t := dj i) (set := 2 ^ di i) hA4 hn V hjj pl fun a ha => by
          rw [Nat.testBit_two_pow, decide_eq_true_eq] at ha
          rw [← ha]; exact Bi1.2 z
        refine yw_spread (t := dj i) (set := 2 ^ di i) (nA_at (by omega)) (by rw [nA_at (by omega)]; exact br_1 (by omega)) (by omega) (by omega) (yw_u134 hA hn W T hd' V1 (fun j hj => ?_) fin)
        by_cases e2 : j = i
        · rw [e2]; exact ⟨fun y => absurd y z, fun _ => N1 _ (by rw [Nat.testBit_two_pow]; simp)⟩
        · exact old _ R1.1 j (by omega)
    · have e' : cl' < i := e
      exact br_f (by rw [br_m1]; show ¬ nI cl' = _; rw [br_eq (by omega) (by decide)]; omega) (h s' cl' ov' I1 (Or.inr ⟨by show cl' < dc; omega, I2, I3⟩))
theorem yw_culprit {post : Int32 → SY → Prop} (hA : yp_A A) (hn : n ≤ 16) (hdc : dc ≤ 8) (W : fd_wf n A kd fs sn th) (T : yT A tp tt ti te tm) (hd : fd_dw n A dc dk di dj) (hdk : ∀ k, k < dc → dk k < 4294967296) (b : yB A s.2.1 s.2.2) (hs : sd = 0 ∨ (sd = 1 ∧ yz n A kd fs sn th dk di dj dc cl s.2.1 s.2.2))
    (h : ∀ (s' : YS) cl' ov', yB A s'.2.1 s'.2.2 → yz n A kd fs sn th dk di dj dc cl' s'.2.1 s'.2.2 → post (nI cl') (yt A mN mD n dc (cl') (1) kd fs sn th tl dk di dj tp tt ti te tm (ov') is ak fh s')) : wpY_culprit post (yt A mN mD n dc cl sd kd fs sn th tl dk di dj tp tt ti te tm ov is ak fh s) := by
  have hA4 := yp_A4 hA
  have d0 : fd_dw n A 0 dk di dj := fun k hk => by omega
  unfold wpY_culprit
  rcases hs with e | ⟨e, hz⟩
  · subst e
    refine br_t rfl ?_
    refine loop_0 (fun k i (o : Nat → Nat) => wY_culprit_24 post (nI A) (nI mN) (nI mD) (nI n) (nI dc) (nI (yp_np A)) (nI (2 ^ A - 1)) (nI (2 ^ yp_np A - 1)) (nI (4294967295)) (nI (s.1)) (nI (1)) k (nI i) (nA kd) (nA fs) (nA sn) (nA th) (nA tl) (nA dk) (nA di) (nA dj) (nA tp) (nA tt) (nA ti) (nA te) (nA tm) (nA (o)) (nA (s.2.2)) (nA ov) (nA is) (nA ak) (nA fh)) (fun i o => (∀ j, o j < 2 ^ yp_np A) ∧ ∀ j, j < i → o j = 0) 256 s.2.1 ⟨b.1, fun j hj => by omega⟩ ?_ ?_
    · rintro k o ⟨I1, I2⟩
      refine br_t (nI_le (a := 256) (Nat.le_refl _) (by omega)) ?_
      refine loop_0 (fun k i (f : Nat → Nat) => wY_culprit_46 post (nI A) (nI mN) (nI mD) (nI n) (nI dc) (nI (yp_np A)) (nI (2 ^ A - 1)) (nI (2 ^ yp_np A - 1)) (nI (4294967295)) (nI (s.1)) (nI (1)) k (nI i) (nA kd) (nA fs) (nA sn) (nA th) (nA tl) (nA dk) (nA di) (nA dj) (nA tp) (nA tt) (nA ti) (nA te) (nA tm) (nA (o)) (nA (f)) (nA ov) (nA is) (nA ak) (nA fh)) (fun i f => (∀ j, f j < 2 ^ A) ∧ ∀ j, j < i → f j = 0) 16 s.2.2 ⟨b.2, fun j hj => by omega⟩ ?_ ?_
      · rintro k' f ⟨J1, J2⟩
        have V : ys_V n A (fd_LE n A kd fs sn th dk di dj 0) (fd_LO n A kd fs sn th dk di dj 0) (s.1, o, f) := by
          refine ⟨I1, J1, fun t u c ht hu hc z => ?_, fun t a ht z => ?_⟩
          · have z' : (o (t * 16 + u)).testBit (yp_ix A c) = true := z
            rw [I2 _ (by omega), Nat.zero_testBit] at z'; exact absurd z' (by decide)
          · have z' : (f t).testBit a = true := z
            rw [J2 t (by omega), Nat.zero_testBit] at z'; exact absurd z' (by decide)
        refine br_t (nI_le (a := 16) (Nat.le_refl _) (by omega)) (yw_saturate (s := (s.1, o, f)) (cl := 4294967295) (sd := 1) hA hn W T (fd_LCl hA4 W d0) V fun s' V' L' Cl' => ?_)
        obtain ⟨b', q'⟩ := yq_of V' Cl' fun j hj => by omega
        exact yw_u71 (sd := 1) hA hn hdc W T hd hdk b' q' h
      · rintro k' i f hi ⟨J1, J2⟩ next
        refine br_f (nI_ge (b := 16) hi (by omega)) (And.intro (vp_in_nI hi (by decide)) (nm_r (nA_ud (f := f) (i := i) (x := 0) (by omega)) (nm_r (nI_1 i) (next _ ⟨fun j => ?_, fun j hj => ?_⟩))))
        · by_cases e : j = i
          · rw [e, ud_s]; exact Nat.two_pow_pos A
          · rw [ud_n e]; exact J1 j
        · by_cases e : j = i
          · rw [e, ud_s]
          · rw [ud_n e]; exact J2 j (by omega)
    · rintro k i o hi ⟨I1, I2⟩ next
      refine br_f (nI_ge (b := 256) hi (by omega)) (And.intro (vp_in_nI hi (by decide)) (nm_r (nA_ud (f := o) (i := i) (x := 0) (by omega)) (nm_r (nI_1 i) (next _ ⟨fun j => ?_, fun j hj => ?_⟩))))
      · by_cases e : j = i
        · rw [e, ud_s]; exact Nat.two_pow_pos _
        · rw [ud_n e]; exact I1 j
      · by_cases e : j = i
        · rw [e, ud_s]
        · rw [ud_n e]; exact I2 j (by omega)
  · subst e
    exact br_f (by decide) (h s cl ov b hz)
end
end
section
/-! the reference's constructor: its tables -/
def yg (A c : Nat) : Bool := decide (c / 64 ≠ c / 16 % 4 ∧ c / 64 ≠ c / 4 % 4 ∧ c / 64 ≠ c % 4 ∧ c / 16 % 4 ≠ c / 4 % 4 ∧ c / 16 % 4 ≠ c % 4 ∧ c / 4 % 4 ≠ c % 4 ∧ (2 < A ∨ c / 4 % 4 = 2) ∧ (3 < A ∨ c % 4 = 3))
def yg_d (A c p : Nat) : Prop := gp_ap (yp_c A p) 0 = c / 64 ∧ gp_ap (yp_c A p) 1 = c / 16 % 4 ∧ gp_ap (yp_c A p) 2 = c / 4 % 4 ∧ gp_ap (yp_c A p) 3 = c % 4
theorem yg_2 : ∀ c, c < 256 → yg 2 c = true → cn (yg 2) c < 2 ∧ gp_ap (yp_c 2 (cn (yg 2) c)) 0 = c / 64 ∧ gp_ap (yp_c 2 (cn (yg 2) c)) 1 = c / 16 % 4 ∧ gp_ap (yp_c 2 (cn (yg 2) c)) 2 = c / 4 % 4 ∧ gp_ap (yp_c 2 (cn (yg 2) c)) 3 = c % 4 := by decide +kernel
theorem yg_3 : ∀ c, c < 256 → yg 3 c = true → cn (yg 3) c < 6 ∧ gp_ap (yp_c 3 (cn (yg 3) c)) 0 = c / 64 ∧ gp_ap (yp_c 3 (cn (yg 3) c)) 1 = c / 16 % 4 ∧ gp_ap (yp_c 3 (cn (yg 3) c)) 2 = c / 4 % 4 ∧ gp_ap (yp_c 3 (cn (yg 3) c)) 3 = c % 4 := by decide +kernel
theorem yg_4 : ∀ c, c < 256 → yg 4 c = true → cn (yg 4) c < 24 ∧ gp_ap (yp_c 4 (cn (yg 4) c)) 0 = c / 64 ∧ gp_ap (yp_c 4 (cn (yg 4) c)) 1 = c / 16 % 4 ∧ gp_ap (yp_c 4 (cn (yg 4) c)) 2 = c / 4 % 4 ∧ gp_ap (yp_c 4 (cn (yg 4) c)) 3 = c % 4 := by decide +kernel
theorem yg_n2 : cn (yg 2) 256 = 2 := by decide +kernel
theorem yg_n3 : cn (yg 3) 256 = 6 := by decide +kernel
theorem yg_n4 : cn (yg 4) 256 = 24 := by decide +kernel
theorem yg_A {A c : Nat} (hA : yp_A A) (hc : c < 256) (h : yg A c = true) : cn (yg A) c < yp_np A ∧ yg_d A c (cn (yg A) c) := by
  rcases hA with e | e | e <;> subst e
  · exact yg_2 c hc h
  · exact yg_3 c hc h
  · exact yg_4 c hc h
theorem yg_n {A : Nat} (hA : yp_A A) : cn (yg A) 256 = yp_np A := by
  rcases hA with e | e | e <;> subst e
  · exact yg_n2
  · exact yg_n3
  · exact yg_n4
def yT1 (A : Nat) (tp : Nat → Nat) (N : Nat) : Prop := ∀ p a, p < N → a < 4 → tp (p * 4 + a) = gp_ap (yp_c A p) a
section
variable {f_atoms f_maxNodes f_maxDemands f_count f_posed f_perms f_every f_all f_clash f_changed f_settled : Int32} {a_kind a_first a_second a_third a_trial a_sort a_left a_right a_perm a_times a_inv a_exch a_move a_eq a_off a_over a_inside a_alike a_fresh : Nat → Int32} {post : Int32 → Prop} {A : Nat} {tp : Nat → Nat}
theorem yw_nOf3 {c : Nat} {x1 x2 x3 x4 : Int32} (hA : yp_A A) (hc : gp_P A c) (T : yT1 A tp (yp_np A)) (ea : a_perm = nA tp) (ep : f_perms = nI (yp_np A)) (e1 : x1 = nI (gp_ap c 0)) (e2 : x2 = nI (gp_ap c 1)) (e3 : x3 = nI (gp_ap c 2)) (e4 : x4 = nI (gp_ap c 3)) (h : post (nI (yp_ix A c))) :
    ∃ n3 : Nat, wY_numberOf_3 post x1 x2 x3 x4 f_atoms f_maxNodes f_maxDemands f_count f_posed f_perms f_every f_all f_clash f_changed f_settled a_kind a_first a_second a_third a_trial a_sort a_left a_right a_perm a_times a_inv a_exch a_move a_eq a_off a_over a_inside a_alike a_fresh n3 0 := by
  subst ea ep e1 e2 e3 e4
  have n24 := (yp_n24 hA).2
  have iP := yp_iP hA hc
  refine loop_0 (fun k i (_ : Unit) => wY_numberOf_3 post (nI (gp_ap c 0)) (nI (gp_ap c 1)) (nI (gp_ap c 2)) (nI (gp_ap c 3)) f_atoms f_maxNodes f_maxDemands f_count f_posed (nI (yp_np A)) f_every f_all f_clash f_changed f_settled a_kind a_first a_second a_third a_trial a_sort a_left a_right (nA tp) a_times a_inv a_exch a_move a_eq a_off a_over a_inside a_alike a_fresh k (nI i)) (fun i _ => i ≤ yp_ix A c) (yp_np A) () (Nat.zero_le _) ?_ ?_
  · rintro k _ I
    omega
  · rintro k p _ hp I next
    have l0 := gp_ap_lt c 0
    have l1 := gp_ap_lt c 1
    have l2 := gp_ap_lt c 2
    have l3 := gp_ap_lt c 3
    have m0 := gp_ap_lt (yp_c A p) 0
    have m1 := gp_ap_lt (yp_c A p) 1
    have m2 := gp_ap_lt (yp_c A p) 2
    have m3 := gp_ap_lt (yp_c A p) 3
    have i0 : nI p * 4 = nI (p * 4 + 0) := by rw [show (4 : Int32) = nI 4 from rfl, pk_mul]; rfl
    have i1 : nI p * 4 + 1 = nI (p * 4 + 1) := yi_4 p 1
    have i2 : nI p * 4 + 2 = nI (p * 4 + 2) := yi_4 p 2
    have i3 : nI p * 4 + 3 = nI (p * 4 + 3) := yi_4 p 3
    have q : ∀ a, a < 4 → (nA tp (nI (p * 4 + a)).toNatClampNeg = nI (gp_ap c a) ↔ gp_ap (yp_c A p) a = gp_ap c a) := fun a ha => by
      have := gp_ap_lt c a
      have := gp_ap_lt (yp_c A p) a
      rw [nA_at (by omega), T p a hp ha, br_eq (by omega) (by omega)]
    have nx : ∀ a, a < 4 → gp_ap (yp_c A p) a ≠ gp_ap c a → p + 1 ≤ yp_ix A c := fun a ha z => by
      have : p ≠ yp_ix A c := fun e => z (by rw [e, iP.2])
      omega
    refine br_f (nI_ge hp (by omega)) (And.intro (by rw [i0]; exact vp_in_nI (by omega) (by decide)) (br_c (fun w0 => And.intro (by rw [i1]; exact vp_in_nI (by omega) (by decide)) (br_c (fun w1 => And.intro (by rw [i2]; exact vp_in_nI (by omega) (by decide)) (br_c (fun w2 => And.intro (by rw [i3]; exact vp_in_nI (by omega) (by decide)) (br_c (fun w3 => ?_) (fun w3 => ?_))) (fun w2 => ?_))) (fun w1 => ?_))) (fun w0 => ?_)))
    · rw [i0] at w0
      rw [i1] at w1
      rw [i2] at w2
      rw [i3] at w3
      have e : yp_c A p = c := gp_ext (yp_cP hA hp).1.1 hc.1 (gp_lt4 ((q 0 (by decide)).mp w0) ((q 1 (by decide)).mp w1) ((q 2 (by decide)).mp w2) ((q 3 (by decide)).mp w3))
      have : p = yp_ix A c := by rw [← e, (yp_cP hA hp).2]
      rw [this]; exact h
    · rw [i3] at w3
      exact nm_r (nI_1 p) (next () (nx 3 (by decide) fun z => w3 ((q 3 (by decide)).mpr z)))
    · rw [i2] at w2
      exact nm_r (nI_1 p) (next () (nx 2 (by decide) fun z => w2 ((q 2 (by decide)).mpr z)))
    · rw [i1] at w1
      exact nm_r (nI_1 p) (next () (nx 1 (by decide) fun z => w1 ((q 1 (by decide)).mpr z)))
    · rw [i0] at w0
      exact nm_r (nI_1 p) (next () (nx 0 (by decide) fun z => w0 ((q 0 (by decide)).mpr z)))
end
end
section
def yMV (A p q i m j : Nat) : Prop := ∃ q', q' < q ∧ q' / 4 = i ∧ m.testBit (q' % 4) = true ∧ j = yp_ix A (gp_cm (yp_c A p) (yp_c A q'))
def yTm (A : Nat) (tm : Nat → Nat) (p q : Nat) : Prop := ∀ i m j, i < 6 → m < 16 → ((tm ((p * 6 + i) * 16 + m)).testBit j = true ↔ yMV A p q i m j)
theorem yMV_s {A p q i m j : Nat} : yMV A p (q + 1) i m j ↔ yMV A p q i m j ∨ (q / 4 = i ∧ m.testBit (q % 4) = true ∧ j = yp_ix A (gp_cm (yp_c A p) (yp_c A q))) := by
  constructor
  · rintro ⟨q', h1, h2⟩
    by_cases e : q' = q
    · rw [e] at h2; exact Or.inr h2
    · exact Or.inl ⟨q', by omega, h2⟩
  · rintro (⟨q', h1, h2⟩ | h2)
    · exact ⟨q', by omega, h2⟩
    · exact ⟨q, by omega, h2⟩
section
variable {A mN mD n dc cl sd : Nat} {kd fs sn th tl dk di dj tp tt ti te tm ov is ak fh : Nat → Nat}
variable {s : YS}
theorem yw_i612 {post : SY → Prop} {J468 J480 : Int32 → (Nat → Int32) → (Nat → Int32) → (Nat → Int32) → (Nat → Int32) → (Nat → Int32) → (Nat → Int32) → (Nat → Int32) → (Nat → Int32) → (Nat → Int32) → (Nat → Int32) → (Nat → Int32) → (Nat → Int32) → (Nat → Int32) → (Nat → Int32) → (Nat → Int32) → (Nat → Int32) → (Nat → Int32) → (Nat → Int32) → (Nat → Int32) → Prop} {p q : Nat} (hA : yp_A A) (hp : p < yp_np A) (hq : q < yp_np A) (ett : tt (p * 24 + q) = yp_ix A (gp_cm (yp_c A p) (yp_c A q))) (B : yTm A tm p q)
    (h : ∀ tm' : Nat → Nat, yTm A tm' p (q + 1) → (∀ k, k / 96 ≠ p → tm' k = tm k) → J480 (nI (q + 1)) (nA kd) (nA fs) (nA sn) (nA th) (nA tl) (nA dk) (nA di) (nA dj) (nA tp) (nA tt) (nA ti) (nA te) (nA (tm')) (nA (s.2.1)) (nA (s.2.2)) (nA ov) (nA is) (nA ak) (nA fh)) :
    ∃ n612 : Nat, wY_init_612 post J468 J480 (nI p) (nI q) (nI A) (nI mN) (nI mD) (nI n) (nI dc) (nI (yp_np A)) (nI (2 ^ A - 1)) (nI (2 ^ yp_np A - 1)) (nI cl) (nI (s.1)) (nI sd) n612 0 (nA kd) (nA fs) (nA sn) (nA th) (nA tl) (nA dk) (nA di) (nA dj) (nA tp) (nA tt) (nA ti) (nA te) (nA tm) (nA (s.2.1)) (nA (s.2.2)) (nA ov) (nA is) (nA ak) (nA fh) := by
  have n24 := (yp_n24 hA).2
  have Pm := gp_P_cm (yp_cP hA hp).1 (yp_cP hA hq).1
  have il := yp_cix hA Pm
  have q4 : q % 4 < 4 := Nat.mod_lt _ (by decide)
  refine loop_0 (fun k i (o : Nat → Nat) => wY_init_612 post J468 J480 (nI p) (nI q) (nI A) (nI mN) (nI mD) (nI n) (nI dc) (nI (yp_np A)) (nI (2 ^ A - 1)) (nI (2 ^ yp_np A - 1)) (nI cl) (nI (s.1)) (nI sd) k (nI i) (nA kd) (nA fs) (nA sn) (nA th) (nA tl) (nA dk) (nA di) (nA dj) (nA tp) (nA tt) (nA ti) (nA te) (nA (o)) (nA (s.2.1)) (nA (s.2.2)) (nA ov) (nA is) (nA ak) (nA fh)) (fun m o => (∀ k, k / 96 ≠ p → o k = tm k) ∧ ∀ i m' j, i < 6 → m' < 16 → ((o ((p * 6 + i) * 16 + m')).testBit j = true ↔ yMV A p (if m' < m then q + 1 else q) i m' j)) 16 tm ⟨fun _ _ => rfl, fun i m' j hi hm => by rw [if_neg (by omega)]; exact B i m' j hi hm⟩ ?_ ?_
  · rintro k o ⟨I1, I2⟩
    refine br_t (nI_le (a := 16) (Nat.le_refl _) (by omega)) (nm_r (nI_1 q) (h o (fun i m' j hi hm => ?_) I1))
    have := I2 i m' j hi hm
    rw [if_pos hm] at this; exact this
  · rintro k m o hm ⟨I1, I2⟩ next
    have e3 : nI q &&& 3 = nI (q % 4) := pk_andN (n := q) (by omega) 2 (by decide +kernel)
    have qb : (((nI m >>> ((nI q &&& 3) &&& 31)) &&& 1) = 0) ↔ m.testBit (q % 4) = false := by
      rw [e3]; exact br_bit (by omega) (by omega)
    have ei : ((nI p * 6 + (nI q >>> ((2 : Int32) &&& 31))) * 16) + nI m = nI ((p * 6 + q / 4) * 16 + m) := by
      have e2 : nI q >>> ((2 : Int32) &&& 31) = nI (q / 2 ^ 2) := br_shr (m := q) (a := 2) (by omega) (by decide)
      rw [e2, show (6 : Int32) = nI 6 from rfl, pk_mul, nI_add, yi_16]
    have vi : vp_in (((nI p * 6 + (nI q >>> ((2 : Int32) &&& 31))) * 16) + nI m) 2304 := by rw [ei]; exact vp_in_nI (by omega) (by decide)
    have ix : ∀ i m', i < 6 → m' < 16 → ((p * 6 + i) * 16 + m' = (p * 6 + q / 4) * 16 + m ↔ i = q / 4 ∧ m' = m) := fun i m' hi hm' => by omega
    refine br_f (nI_ge (b := 16) hm (by omega)) (br_c (fun w => nm_r (nI_1 m) (next o ⟨I1, fun i m' j hi hm' => ?_⟩)) (fun w => And.intro vi (And.intro (yv_24 (by omega)) (And.intro vi (nm_r (e' := nA (ud o ((p * 6 + q / 4) * 16 + m) (o ((p * 6 + q / 4) * 16 + m) ||| 2 ^ yp_ix A (gp_cm (yp_c A p) (yp_c A q))))) ?_ (nm_r (nI_1 m) (next _ ⟨fun k' hk => ?_, fun i m' j hi hm' => ?_⟩)))))))
    · rw [I2 i m' j hi hm']
      by_cases e : m' = m
      · rw [if_neg (by omega), if_pos (by omega), yMV_s, e]
        exact ⟨Or.inl, fun z => z.resolve_right fun y => by rw [qb.mp w] at y; exact absurd y.2.1 (by decide)⟩
      · by_cases z : m' < m
        · rw [if_pos z, if_pos (by omega)]
        · rw [if_neg z, if_neg (by omega)]
    · rw [ei, nA_at (by omega), ya_24 (by omega), ett, br_1 (by omega), br_or, nA_ud (by omega)]
    · rw [ud_n (by omega)]; exact I1 k' hk
    · by_cases e : (p * 6 + i) * 16 + m' = (p * 6 + q / 4) * 16 + m
      · obtain ⟨e1, e2⟩ := (ix i m' hi hm').mp e
        rw [e, ud_s, if_pos (by omega), Nat.testBit_or, Bool.or_eq_true, Nat.testBit_two_pow, decide_eq_true_eq, yMV_s]
        have := I2 i m' j hi hm'
        rw [e, if_neg (by omega)] at this
        rw [this]
        refine or_congr Iff.rfl ⟨fun z => ⟨e1.symm, ?_, z.symm⟩, fun z => z.2.2.symm⟩
        rw [e2]; exact gp_nf fun z => w (qb.mpr z)
      · rw [ud_n e, I2 i m' j hi hm']
        by_cases e2 : m' = m
        · have e3 : i ≠ q / 4 := fun z => e ((ix i m' hi hm').mpr ⟨z, e2⟩)
          rw [if_neg (by omega), if_pos (by omega), yMV_s]
          exact ⟨Or.inl, fun z => z.resolve_right fun y => e3 y.1.symm⟩
        · by_cases z : m' < m
          · rw [if_pos z, if_pos (by omega)]
          · rw [if_neg z, if_neg (by omega)]
/-- the rows of one permutation -/
theorem yw_i480 {post : SY → Prop} {J468 : Int32 → (Nat → Int32) → (Nat → Int32) → (Nat → Int32) → (Nat → Int32) → (Nat → Int32) → (Nat → Int32) → (Nat → Int32) → (Nat → Int32) → (Nat → Int32) → (Nat → Int32) → (Nat → Int32) → (Nat → Int32) → (Nat → Int32) → (Nat → Int32) → (Nat → Int32) → (Nat → Int32) → (Nat → Int32) → (Nat → Int32) → (Nat → Int32) → Prop} {p : Nat} (hA : yp_A A) (T : yT1 A tp (yp_np A)) (hp : p < yp_np A) (B0 : ∀ i m, i < 6 → m < 16 → tm ((p * 6 + i) * 16 + m) = 0)
    (h : ∀ tt' ti' tm' : Nat → Nat, (∀ q, q < yp_np A → tt' (p * 24 + q) = yp_ix A (gp_cm (yp_c A p) (yp_c A q))) → (∀ k, k / 24 ≠ p → tt' k = tt k) → ti' p = yp_ix A (gp_iv (yp_c A p)) → (∀ k, k ≠ p → ti' k = ti k) → yTm A tm' p (yp_np A) → (∀ k, k / 96 ≠ p → tm' k = tm k) → J468 (nI (p + 1)) (nA kd) (nA fs) (nA sn) (nA th) (nA tl) (nA dk) (nA di) (nA dj) (nA tp) (nA (tt')) (nA (ti')) (nA te) (nA (tm')) (nA (s.2.1)) (nA (s.2.2)) (nA ov) (nA is) (nA ak) (nA fh)) :
    ∃ n480 : Nat, wY_init_480 post J468 (nI p) (nI A) (nI mN) (nI mD) (nI n) (nI dc) (nI (yp_np A)) (nI (2 ^ A - 1)) (nI (2 ^ yp_np A - 1)) (nI cl) (nI (s.1)) (nI sd) n480 0 (nA kd) (nA fs) (nA sn) (nA th) (nA tl) (nA dk) (nA di) (nA dj) (nA tp) (nA tt) (nA ti) (nA te) (nA tm) (nA (s.2.1)) (nA (s.2.2)) (nA ov) (nA is) (nA ak) (nA fh) := by
  have n24 := (yp_n24 hA).2
  have Pp := (yp_cP hA hp).1
  have iI := yp_iP hA (gp_P_iv Pp)
  refine loop_0 (fun k i (st : (Nat → Nat) × (Nat → Nat) × (Nat → Nat)) => wY_init_480 post J468 (nI p) (nI A) (nI mN) (nI mD) (nI n) (nI dc) (nI (yp_np A)) (nI (2 ^ A - 1)) (nI (2 ^ yp_np A - 1)) (nI cl) (nI (s.1)) (nI sd) k (nI i) (nA kd) (nA fs) (nA sn) (nA th) (nA tl) (nA dk) (nA di) (nA dj) (nA tp) (nA (st.1)) (nA (st.2.1)) (nA te) (nA (st.2.2)) (nA (s.2.1)) (nA (s.2.2)) (nA ov) (nA is) (nA ak) (nA fh)) (fun q st => (∀ q', q' < q → st.1 (p * 24 + q') = yp_ix A (gp_cm (yp_c A p) (yp_c A q'))) ∧ (∀ k, k / 24 ≠ p → st.1 k = tt k) ∧ (yp_ix A (gp_iv (yp_c A p)) < q → st.2.1 p = yp_ix A (gp_iv (yp_c A p))) ∧ (∀ k, k ≠ p → st.2.1 k = ti k) ∧ yTm A st.2.2 p q ∧ (∀ k, k / 96 ≠ p → st.2.2 k = tm k)) (yp_np A) (tt, ti, tm) ⟨fun q hq => by omega, fun _ _ => rfl, fun z => by omega, fun _ _ => rfl, fun i m j hi hm => ?_, fun _ _ => rfl⟩ ?_ ?_
  · show (tm ((p * 6 + i) * 16 + m)).testBit j = true ↔ _
    rw [B0 i m hi hm, Nat.zero_testBit]
    exact ⟨fun z => absurd z (by decide), fun ⟨q', z, _⟩ => by omega⟩
  · rintro k ⟨t1, t2, t3⟩ ⟨I1, I2, I3, I4, I5, I6⟩
    exact br_t (nI_le (Nat.le_refl _) (by omega)) (nm_r (nI_1 p) (h t1 t2 t3 I1 I2 (I3 iI.1) I4 I5 I6))
  · rintro k q ⟨t1, t2, t3⟩ hq ⟨I1, I2, I3, I4, I5, I6⟩ next
    have Pq := (yp_cP hA hq).1
    have Pm := gp_P_cm Pp Pq
    have im := yp_cix hA Pm
    have e4p : nI p * 4 = nI (p * 4 + 0) := by rw [show (4 : Int32) = nI 4 from rfl, pk_mul]; rfl
    have e4q : nI q * 4 = nI (q * 4 + 0) := by rw [show (4 : Int32) = nI 4 from rfl, pk_mul]; rfl
    have ja : ∀ a, a < 4 → ∀ x : Int32, x = nI (q * 4 + a) → nA tp x.toNatClampNeg = nI (gp_ap (yp_c A q) a) := fun a ha x ex => by
      rw [ex, nA_at (by omega), T q a hq ha]
    have jb : ∀ a, a < 4 → ∀ x : Int32, x = nI (q * 4 + a) → nI (p * 4 + 0) + nA tp x.toNatClampNeg = nI (p * 4 + gp_ap (yp_c A q) a) := fun a ha x ex => by
      rw [ja a ha x ex, nI_add]; rfl
    have jc : ∀ a, a < 4 → ∀ x : Int32, x = nI (q * 4 + a) → nA tp (nI (p * 4 + 0) + nA tp x.toNatClampNeg).toNatClampNeg = nI (gp_ap (gp_cm (yp_c A p) (yp_c A q)) a) := fun a ha x ex => by
      have := gp_ap_lt (yp_c A q) a
      rw [jb a ha x ex, nA_at (by omega), T p _ hp (gp_ap_lt _ _), gp_cm_ap _ _ a ha]
    have v1 : ∀ a, a < 4 → ∀ x : Int32, x = nI (q * 4 + a) → vp_in x 96 := fun a ha x ex => by rw [ex]; exact vp_in_nI (by omega) (by decide)
    have v2 : ∀ a, a < 4 → ∀ x : Int32, x = nI (q * 4 + a) → vp_in (nI (p * 4 + 0) + nA tp x.toNatClampNeg) 96 := fun a ha x ex => by
      have := gp_ap_lt (yp_c A q) a
      rw [jb a ha x ex]; exact vp_in_nI (by omega) (by decide)
    have x0 : nI (q * 4 + 0) = nI (q * 4 + 0) := rfl
    have x1 : nI (q * 4 + 0) + 1 = nI (q * 4 + 1) := nI_1 _
    have x2 : nI (q * 4 + 0) + 2 = nI (q * 4 + 2) := nI_add _ 2
    have x3 : nI (q * 4 + 0) + 3 = nI (q * 4 + 3) := nI_add _ 3
    have T1' : ∀ q', q' < q + 1 → ud t1 (p * 24 + q) (yp_ix A (gp_cm (yp_c A p) (yp_c A q))) (p * 24 + q') = yp_ix A (gp_cm (yp_c A p) (yp_c A q')) := fun q' hq' => by
      by_cases e : q' = q
      · rw [e, ud_s]
      · rw [ud_n (by omega)]; exact I1 q' (by omega)
    have T2' : ∀ k, k / 24 ≠ p → ud t1 (p * 24 + q) (yp_ix A (gp_cm (yp_c A p) (yp_c A q))) k = tt k := fun k hk => by
      rw [ud_n (by omega)]; exact I2 k hk
    refine br_f (nI_ge hq (by omega)) (nm_r e4p (nm_r e4q (And.intro (v1 0 (by decide) _ x0) (And.intro (v2 0 (by decide) _ x0) (And.intro (v1 1 (by decide) _ x1) (And.intro (v2 1 (by decide) _ x1) (And.intro (v1 2 (by decide) _ x2) (And.intro (v2 2 (by decide) _ x2) (And.intro (v1 3 (by decide) _ x3) (And.intro (v2 3 (by decide) _ x3) ?_))))))))))
    refine yw_nOf3 (c := gp_cm (yp_c A p) (yp_c A q)) hA Pm T rfl rfl (jc 0 (by decide) _ x0) (jc 1 (by decide) _ x1) (jc 2 (by decide) _ x2) (jc 3 (by decide) _ x3) (And.intro (yv_24 (by omega)) (nm_r (e' := nA (ud t1 (p * 24 + q) (yp_ix A (gp_cm (yp_c A p) (yp_c A q))))) (by rw [yi_24]; exact nA_ud (by omega)) (And.intro (yv_24 (by omega)) ?_)))
    have qz : (nA (ud t1 (p * 24 + q) (yp_ix A (gp_cm (yp_c A p) (yp_c A q)))) (nI p * 24 + nI q).toNatClampNeg = 0) ↔ gp_cm (yp_c A p) (yp_c A q) = 228 := by
      rw [ya_24 (by omega), ud_s, show (0 : Int32) = nI 0 from rfl, br_eq (by omega) (by decide), ← (yp_0 hA).1]
      exact ⟨fun z => yp_inj hA Pm (gp_P_id A) z, fun z => by rw [z]⟩
    refine br_c (fun w => And.intro (vp_in_nI (by omega) (by decide)) (nm_r (e' := nA (ud t2 p q)) (nA_ud (by omega)) ?_)) (fun w => ?_)
    · have eI : q = yp_ix A (gp_iv (yp_c A p)) := by rw [← gp_ivu Pp Pq.1 (qz.mp w), (yp_cP hA hq).2]
      refine yw_i612 (tt := ud t1 (p * 24 + q) (yp_ix A (gp_cm (yp_c A p) (yp_c A q)))) (ti := ud t2 p q) (tm := t3) hA hp hq ud_s I5 fun tm' K1 K2 => next (_, _, tm') ⟨T1', T2', fun _ => ?_, fun k hk => ?_, K1, fun k hk => (K2 k hk).trans (I6 k hk)⟩
      · show ud t2 p q p = _
        rw [ud_s]; exact eI
      · show ud t2 p q k = _
        rw [ud_n hk]; exact I4 k hk
    · refine yw_i612 (tt := ud t1 (p * 24 + q) (yp_ix A (gp_cm (yp_c A p) (yp_c A q)))) (ti := t2) (tm := t3) hA hp hq ud_s I5 fun tm' K1 K2 => next (_, _, tm') ⟨T1', T2', fun z => I3 ?_, I4, K1, fun k hk => (K2 k hk).trans (I6 k hk)⟩
      have : yp_ix A (gp_iv (yp_c A p)) ≠ q := fun e => w (qz.mpr (by
        rw [← e, iI.2]; exact gp_vr Pp))
      omega
end
end
section
theorem yi_s1 {a b k : Nat} (ha : a < 4) (hk : k < 4) (h : nI a = nI k) : nI b = nI (gp_sw a b k) := by
  have e := (br_eq (by omega) (by omega)).mp h
  rw [e, gp_sw_l]
theorem yi_s2 {a b k : Nat} (hb : b < 4) (hk : k < 4) (h : nI b = nI k) : nI a = nI (gp_sw a b k) := by
  have e := (br_eq (by omega) (by omega)).mp h
  rw [← e, gp_sw_r]
theorem yi_s3 {a b k : Nat} (h : ¬ nI a = nI k) (h' : ¬ nI b = nI k) : nI k = nI (gp_sw a b k) := by
  rw [gp_sw_o (fun z => h (by rw [z])) (fun z => h' (by rw [z]))]
section
variable {A mN mD n dc cl sd : Nat} {kd fs sn th tl dk di dj tp tt ti te tm ov is ak fh : Nat → Nat}
variable {s : YS}
theorem yw_i703 {post : SY → Prop} {J691 : Int32 → (Nat → Int32) → (Nat → Int32) → (Nat → Int32) → (Nat → Int32) → (Nat → Int32) → (Nat → Int32) → (Nat → Int32) → (Nat → Int32) → (Nat → Int32) → (Nat → Int32) → (Nat → Int32) → (Nat → Int32) → (Nat → Int32) → (Nat → Int32) → (Nat → Int32) → (Nat → Int32) → (Nat → Int32) → (Nat → Int32) → (Nat → Int32) → Prop} {a : Nat} (hA : yp_A A) (T : yT1 A tp (yp_np A)) (ha : a < A)
    (h : ∀ te' : Nat → Nat, (∀ b, b < A → te' (a * 4 + b) = yp_ix A (gp_tr a b)) → (∀ k, k / 4 ≠ a → te' k = te k) → J691 (nI (a + 1)) (nA kd) (nA fs) (nA sn) (nA th) (nA tl) (nA dk) (nA di) (nA dj) (nA tp) (nA tt) (nA ti) (nA (te')) (nA tm) (nA (s.2.1)) (nA (s.2.2)) (nA ov) (nA is) (nA ak) (nA fh)) :
    ∃ n703 : Nat, wY_init_703 post J691 (nI a) (nI A) (nI mN) (nI mD) (nI n) (nI dc) (nI (yp_np A)) (nI (2 ^ A - 1)) (nI (2 ^ yp_np A - 1)) (nI cl) (nI (s.1)) (nI sd) n703 0 (nA kd) (nA fs) (nA sn) (nA th) (nA tl) (nA dk) (nA di) (nA dj) (nA tp) (nA tt) (nA ti) (nA te) (nA tm) (nA (s.2.1)) (nA (s.2.2)) (nA ov) (nA is) (nA ak) (nA fh) := by
  have hA4 := yp_A4 hA
  refine loop_0 (fun k i (o : Nat → Nat) => wY_init_703 post J691 (nI a) (nI A) (nI mN) (nI mD) (nI n) (nI dc) (nI (yp_np A)) (nI (2 ^ A - 1)) (nI (2 ^ yp_np A - 1)) (nI cl) (nI (s.1)) (nI sd) k (nI i) (nA kd) (nA fs) (nA sn) (nA th) (nA tl) (nA dk) (nA di) (nA dj) (nA tp) (nA tt) (nA ti) (nA (o)) (nA tm) (nA (s.2.1)) (nA (s.2.2)) (nA ov) (nA is) (nA ak) (nA fh)) (fun i o => (∀ b, b < i → o (a * 4 + b) = yp_ix A (gp_tr a b)) ∧ (∀ k, k / 4 ≠ a → o k = te k)) A te ⟨fun b hb => by omega, fun _ _ => rfl⟩ ?_ ?_
  · rintro k o ⟨I1, I2⟩
    exact br_t (nI_le (Nat.le_refl _) (by omega)) (nm_r (nI_1 a) (h o I1 I2))
  · rintro k b o hb ⟨I1, I2⟩ next
    have hT := gp_P_tr hA4 ha hb
    have d : ∀ c, c < 4 → gp_ap (gp_tr a b) c = gp_sw a b c := gp_tr_ap (by omega) (by omega)
    have K3 : ∀ z0 z1 z2 z3 : Int32, z0 = nI (gp_sw a b 3) → z1 = nI (gp_sw a b 2) → z2 = nI (gp_sw a b 1) → z3 = nI (gp_sw a b 0) → wY_init_814 post J691 (wY_init_703 post J691 (nI a) (nI A) (nI mN) (nI mD) (nI n) (nI dc) (nI (yp_np A)) (nI (2 ^ A - 1)) (nI (2 ^ yp_np A - 1)) (nI cl) (nI (s.1)) (nI sd) k) (nI a) (nI b) z0 z1 z2 z3 (nI a * 4 + nI b) (nI A) (nI mN) (nI mD) (nI n) (nI dc) (nI (yp_np A)) (nI (2 ^ A - 1)) (nI (2 ^ yp_np A - 1)) (nI cl) (nI (s.1)) (nI sd) (nA kd) (nA fs) (nA sn) (nA th) (nA tl) (nA dk) (nA di) (nA dj) (nA tp) (nA tt) (nA ti) (nA (o)) (nA tm) (nA (s.2.1)) (nA (s.2.2)) (nA ov) (nA is) (nA ak) (nA fh) := fun z0 z1 z2 z3 e0 e1 e2 e3 => by
      unfold wY_init_814
      refine yw_nOf3 (c := gp_tr a b) hA hT T rfl rfl (by rw [e3, d 0 (by decide)]) (by rw [e2, d 1 (by decide)]) (by rw [e1, d 2 (by decide)]) (by rw [e0, d 3 (by decide)]) (And.intro (yv_4 (by omega) (by decide)) (nm_r (e' := nA (ud o (a * 4 + b) (yp_ix A (gp_tr a b)))) (by rw [yi_4]; exact nA_ud (by omega)) (nm_r (nI_1 b) (next _ ⟨fun b' hb' => ?_, fun k' hk => ?_⟩))))
      · by_cases e : b' = b
        · rw [e, ud_s]
        · rw [ud_n (by omega)]; exact I1 b' (by omega)
      · rw [ud_n (by omega)]; exact I2 k' hk
    have K2 : ∀ z0 z1 z2 : Int32, z0 = nI (gp_sw a b 2) → z1 = nI (gp_sw a b 1) → z2 = nI (gp_sw a b 0) → wY_init_791 post J691 (wY_init_703 post J691 (nI a) (nI A) (nI mN) (nI mD) (nI n) (nI dc) (nI (yp_np A)) (nI (2 ^ A - 1)) (nI (2 ^ yp_np A - 1)) (nI cl) (nI (s.1)) (nI sd) k) (nI a) (nI b) z0 z1 z2 (nI a * 4 + nI b) (nI A) (nI mN) (nI mD) (nI n) (nI dc) (nI (yp_np A)) (nI (2 ^ A - 1)) (nI (2 ^ yp_np A - 1)) (nI cl) (nI (s.1)) (nI sd) (nA kd) (nA fs) (nA sn) (nA th) (nA tl) (nA dk) (nA di) (nA dj) (nA tp) (nA tt) (nA ti) (nA (o)) (nA tm) (nA (s.2.1)) (nA (s.2.2)) (nA ov) (nA is) (nA ak) (nA fh) := fun z0 z1 z2 e0 e1 e2 =>
      br_c (fun w => K3 _ _ _ _ (yi_s1 (k := 3) (by omega) (by decide) w) e0 e1 e2) (fun w => br_c (fun w' => K3 _ _ _ _ (yi_s2 (k := 3) (by omega) (by decide) w') e0 e1 e2) (fun w' => K3 _ _ _ _ (yi_s3 (k := 3) w w') e0 e1 e2))
    have K1 : ∀ z0 z1 : Int32, z0 = nI (gp_sw a b 1) → z1 = nI (gp_sw a b 0) → wY_init_768 post J691 (wY_init_703 post J691 (nI a) (nI A) (nI mN) (nI mD) (nI n) (nI dc) (nI (yp_np A)) (nI (2 ^ A - 1)) (nI (2 ^ yp_np A - 1)) (nI cl) (nI (s.1)) (nI sd) k) (nI a) (nI b) z0 z1 (nI a * 4 + nI b) (nI A) (nI mN) (nI mD) (nI n) (nI dc) (nI (yp_np A)) (nI (2 ^ A - 1)) (nI (2 ^ yp_np A - 1)) (nI cl) (nI (s.1)) (nI sd) (nA kd) (nA fs) (nA sn) (nA th) (nA tl) (nA dk) (nA di) (nA dj) (nA tp) (nA tt) (nA ti) (nA (o)) (nA tm) (nA (s.2.1)) (nA (s.2.2)) (nA ov) (nA is) (nA ak) (nA fh) := fun z0 z1 e0 e1 =>
      br_c (fun w => K2 _ _ _ (yi_s1 (k := 2) (by omega) (by decide) w) e0 e1) (fun w => br_c (fun w' => K2 _ _ _ (yi_s2 (k := 2) (by omega) (by decide) w') e0 e1) (fun w' => K2 _ _ _ (yi_s3 (k := 2) w w') e0 e1))
    have K0 : ∀ z0 : Int32, z0 = nI (gp_sw a b 0) → wY_init_745 post J691 (wY_init_703 post J691 (nI a) (nI A) (nI mN) (nI mD) (nI n) (nI dc) (nI (yp_np A)) (nI (2 ^ A - 1)) (nI (2 ^ yp_np A - 1)) (nI cl) (nI (s.1)) (nI sd) k) (nI a) (nI b) z0 (nI a * 4 + nI b) (nI A) (nI mN) (nI mD) (nI n) (nI dc) (nI (yp_np A)) (nI (2 ^ A - 1)) (nI (2 ^ yp_np A - 1)) (nI cl) (nI (s.1)) (nI sd) (nA kd) (nA fs) (nA sn) (nA th) (nA tl) (nA dk) (nA di) (nA dj) (nA tp) (nA tt) (nA ti) (nA (o)) (nA tm) (nA (s.2.1)) (nA (s.2.2)) (nA ov) (nA is) (nA ak) (nA fh) := fun z0 e0 =>
      br_c (fun w => K1 _ _ (yi_s1 (k := 1) (by omega) (by decide) w) e0) (fun w => br_c (fun w' => K1 _ _ (yi_s2 (k := 1) (by omega) (by decide) w') e0) (fun w' => K1 _ _ (yi_s3 (k := 1) w w') e0))
    exact br_f (nI_ge hb (by omega)) (br_c (fun w => K0 _ (yi_s1 (k := 0) (by omega) (by decide) w)) (fun w => br_c (fun w' => K0 _ (yi_s2 (k := 0) (by omega) (by decide) w')) (fun w' => K0 _ (yi_s3 (k := 0) w w'))))
theorem yw_i468 {post : SY → Prop} (hA : yp_A A) (T : yT1 A tp (yp_np A)) (B0 : ∀ k, tm k = 0)
    (h : ∀ tt' ti' te' tm' : Nat → Nat, yT A tp tt' ti' te' tm' → post (yt A mN mD n dc cl sd kd fs sn th tl dk di dj tp (tt') (ti') (te') (tm') ov is ak fh s)) :
    ∃ n468 : Nat, wY_init_468 post (nI A) (nI mN) (nI mD) (nI n) (nI dc) (nI (yp_np A)) (nI (2 ^ A - 1)) (nI (2 ^ yp_np A - 1)) (nI cl) (nI (s.1)) (nI sd) n468 0 (nA kd) (nA fs) (nA sn) (nA th) (nA tl) (nA dk) (nA di) (nA dj) (nA tp) (nA tt) (nA ti) (nA te) (nA tm) (nA (s.2.1)) (nA (s.2.2)) (nA ov) (nA is) (nA ak) (nA fh) := by
  have hA4 := yp_A4 hA
  have n24 := (yp_n24 hA).2
  refine loop_0 (fun k i (st : (Nat → Nat) × (Nat → Nat) × (Nat → Nat)) => wY_init_468 post (nI A) (nI mN) (nI mD) (nI n) (nI dc) (nI (yp_np A)) (nI (2 ^ A - 1)) (nI (2 ^ yp_np A - 1)) (nI cl) (nI (s.1)) (nI sd) k (nI i) (nA kd) (nA fs) (nA sn) (nA th) (nA tl) (nA dk) (nA di) (nA dj) (nA tp) (nA (st.1)) (nA (st.2.1)) (nA te) (nA (st.2.2)) (nA (s.2.1)) (nA (s.2.2)) (nA ov) (nA is) (nA ak) (nA fh)) (fun i st => (∀ p q, p < i → q < yp_np A → st.1 (p * 24 + q) = yp_ix A (gp_cm (yp_c A p) (yp_c A q))) ∧ (∀ p, p < i → st.2.1 p = yp_ix A (gp_iv (yp_c A p))) ∧ (∀ p, p < i → yTm A st.2.2 p (yp_np A)) ∧ (∀ k, i ≤ k / 96 → st.2.2 k = 0)) (yp_np A) (tt, ti, tm) ⟨fun p q hp => by omega, fun p hp => by omega, fun p hp => by omega, fun k _ => B0 k⟩ ?_ ?_
  · rintro k ⟨t1, t2, t3⟩ ⟨I1, I2, I3, I4⟩
    refine br_t (nI_le (Nat.le_refl _) (by omega)) ?_
    refine loop_0 (fun k i (o : Nat → Nat) => wY_init_691 post (nI A) (nI mN) (nI mD) (nI n) (nI dc) (nI (yp_np A)) (nI (2 ^ A - 1)) (nI (2 ^ yp_np A - 1)) (nI cl) (nI (s.1)) (nI sd) k (nI i) (nA kd) (nA fs) (nA sn) (nA th) (nA tl) (nA dk) (nA di) (nA dj) (nA tp) (nA (t1)) (nA (t2)) (nA (o)) (nA (t3)) (nA (s.2.1)) (nA (s.2.2)) (nA ov) (nA is) (nA ak) (nA fh)) (fun i o => ∀ a b, a < i → b < A → o (a * 4 + b) = yp_ix A (gp_tr a b)) A te (fun a b ha => by omega) ?_ ?_
    · rintro k' o J
      exact br_t (nI_le (Nat.le_refl _) (by omega)) (h t1 t2 o t3 ⟨T, I1, I2, J, fun p i m j hp hi hm => I3 p hp i m j hi hm⟩)
    · rintro k' a o ha J next
      refine br_f (nI_ge ha (by omega)) (yw_i703 (te := o) (tt := t1) (ti := t2) (tm := t3) hA T ha fun te' K1 K2 => next te' fun a' b' ha' hb' => ?_)
      by_cases e : a' = a
      · rw [e]; exact K1 b' hb'
      · rw [K2 _ (by omega)]; exact J a' b' (by omega) hb'
  · rintro k p ⟨t1, t2, t3⟩ hp ⟨I1, I2, I3, I4⟩ next
    refine br_f (nI_ge hp (by omega)) (yw_i480 (tt := t1) (ti := t2) (tm := t3) hA T hp (fun i m hi hm => I4 _ (by omega)) fun tt' ti' tm' K1 K2 K3 K4 K5 K6 => next (tt', ti', tm') ⟨fun p' q' hp' hq' => ?_, fun p' hp' => ?_, fun p' hp' => ?_, fun k' hk' => ?_⟩)
    · by_cases e : p' = p
      · rw [e]; exact K1 q' hq'
      · show tt' _ = _
        rw [K2 _ (by omega)]; exact I1 p' q' (by omega) hq'
    · by_cases e : p' = p
      · rw [e]; exact K3
      · show ti' _ = _
        rw [K4 _ e]; exact I2 p' (by omega)
    · by_cases e : p' = p
      · rw [e]; exact K5
      · intro i m j hi hm
        have := I3 p' (by omega) i m j hi hm
        show (tm' _).testBit j = true ↔ _
        rw [K6 _ (by omega)]; exact this
    · show tm' _ = _
      rw [K6 _ (by omega)]; exact I4 k' (by omega)
theorem yw_i239 {post : SY → Prop} {fe fa : Int32} (hA : yp_A A) (B0 : ∀ k, tm k = 0)
    (h : ∀ tp' tt' ti' te' tm' : Nat → Nat, yT A tp' tt' ti' te' tm' → post (yt A mN mD n dc cl sd kd fs sn th tl dk di dj (tp') (tt') (ti') (te') (tm') ov is ak fh s)) :
    ∃ n239 : Nat, wY_init_239 post (nI A) (nI mN) (nI mD) (nI n) (nI dc) fe fa (nI cl) (nI s.1) (nI sd) n239 0 0 (nA kd) (nA fs) (nA sn) (nA th) (nA tl) (nA dk) (nA di) (nA dj) (nA tp) (nA tt) (nA ti) (nA te) (nA tm) (nA (s.2.1)) (nA (s.2.2)) (nA ov) (nA is) (nA ak) (nA fh) := by
  have hA4 := yp_A4 hA
  have hA2 : 2 ≤ A := by unfold yp_A at hA; omega
  have n24 := (yp_n24 hA).2
  refine loop_0 (fun k i (st : Nat × (Nat → Nat)) => wY_init_239 post (nI A) (nI mN) (nI mD) (nI n) (nI dc) fe fa (nI cl) (nI s.1) (nI sd) k (nI i) (nI st.1) (nA kd) (nA fs) (nA sn) (nA th) (nA tl) (nA dk) (nA di) (nA dj) (nA (st.2)) (nA tt) (nA ti) (nA te) (nA tm) (nA (s.2.1)) (nA (s.2.2)) (nA ov) (nA is) (nA ak) (nA fh)) (fun i st => st.1 = cn (yg A) i ∧ yT1 A st.2 st.1) 256 (0, tp) ⟨rfl, fun p a hp => by have : p < 0 := hp; omega⟩ ?_ ?_
  · rintro k ⟨c, o⟩ ⟨I1, I2⟩
    have ec : c = yp_np A := by
      have : c = cn (yg A) 256 := I1
      rw [this, yg_n hA]
    subst ec
    have e1 : ((1 : Int32) <<< (nI A &&& 31)) - 1 = nI (2 ^ A - 1) := by
      rw [br_1 (by omega)]; exact pk_sub (b := 1) (Nat.two_pow_pos A)
    have e2 : ((1 : Int32) <<< (nI (yp_np A) &&& 31)) - 1 = nI (2 ^ yp_np A - 1) := by
      rw [br_1 (by omega)]; exact pk_sub (b := 1) (Nat.two_pow_pos _)
    exact br_t (nI_le (a := 256) (Nat.le_refl _) (by omega)) (nm_r e1 (nm_r e2 (yw_i468 (tp := o) hA I2 B0 (h o))))
  · rintro k i ⟨c, o⟩ hi ⟨I1, I2⟩ next
    have I1' : c = cn (yg A) i := I1
    have I2' : yT1 A o c := I2
    have f5 : nI i >>> ((6 : Int32) &&& 31) = nI (i / 64) := br_shr (m := i) (a := 6) (by omega) (by decide)
    have f6 : (nI i >>> ((4 : Int32) &&& 31)) &&& 3 = nI (i / 16 % 4) := by
      have e : nI i >>> ((4 : Int32) &&& 31) = nI (i / 2 ^ 4) := br_shr (m := i) (a := 4) (by omega) (by decide)
      rw [e]; exact pk_andN (by have := Nat.div_le_self i (2 ^ 4); omega) 2 (by decide +kernel)
    have f7 : (nI i >>> ((2 : Int32) &&& 31)) &&& 3 = nI (i / 4 % 4) := by
      have e : nI i >>> ((2 : Int32) &&& 31) = nI (i / 2 ^ 2) := br_shr (m := i) (a := 2) (by omega) (by decide)
      rw [e]; exact pk_andN (by have := Nat.div_le_self i (2 ^ 2); omega) 2 (by decide +kernel)
    have f8 : nI i &&& 3 = nI (i % 4) := pk_andN (by omega) 2 (by decide +kernel)
    have ne : ∀ a b : Nat, a < 256 → b < 256 → (nI a = nI b ↔ a = b) := fun a b ha hb => br_eq (by omega) (by omega)
    have l5 : i / 64 < 256 := by omega
    have l6 : i / 16 % 4 < 256 := by omega
    have l7 : i / 4 % 4 < 256 := by omega
    have l8 : i % 4 < 256 := by omega
    have skip : yg A i = false → wY_init_239 post (nI A) (nI mN) (nI mD) (nI n) (nI dc) fe fa (nI cl) (nI s.1) (nI sd) k (nI (i + 1)) (nI c) (nA kd) (nA fs) (nA sn) (nA th) (nA tl) (nA dk) (nA di) (nA dj) (nA (o)) (nA tt) (nA ti) (nA te) (nA tm) (nA (s.2.1)) (nA (s.2.2)) (nA ov) (nA is) (nA ak) (nA fh) := fun z => next (c, o) ⟨by
      show c = cn (yg A) i + (if yg A i then 1 else 0)
      rw [z, I1']; rfl, I2⟩
    have put : yg A i = true → wY_init_367 post (wY_init_239 post (nI A) (nI mN) (nI mD) (nI n) (nI dc) fe fa (nI cl) (nI s.1) (nI sd) k) (nI i) (nI (i / 64)) (nI (i / 16 % 4)) (nI (i / 4 % 4)) (nI (i % 4)) (nI A) (nI mN) (nI mD) (nI n) (nI dc) (nI c) fe fa (nI cl) (nI s.1) (nI sd) (nA kd) (nA fs) (nA sn) (nA th) (nA tl) (nA dk) (nA di) (nA dj) (nA (o)) (nA tt) (nA ti) (nA te) (nA tm) (nA (s.2.1)) (nA (s.2.2)) (nA ov) (nA is) (nA ak) (nA fh) := fun z => by
      have g := yg_A hA hi z
      rw [← I1'] at g
      have e0 : nI c * 4 = nI (c * 4 + 0) := by rw [show (4 : Int32) = nI 4 from rfl, pk_mul]; rfl
      have e1 : nI c * 4 + 1 = nI (c * 4 + 1) := yi_4 c 1
      have e2 : nI c * 4 + 2 = nI (c * 4 + 2) := yi_4 c 2
      have e3 : nI c * 4 + 3 = nI (c * 4 + 3) := yi_4 c 3
      unfold wY_init_367
      refine And.intro (by rw [e0]; exact vp_in_nI (by omega) (by decide)) (nm_r (e' := nA (ud o (c * 4 + 0) (i / 64))) (by rw [e0]; exact nA_ud (by omega)) (And.intro (by rw [e1]; exact vp_in_nI (by omega) (by decide)) (nm_r (e' := nA (ud (ud o (c * 4 + 0) (i / 64)) (c * 4 + 1) (i / 16 % 4))) (by rw [e1]; exact nA_ud (by omega)) (And.intro (by rw [e2]; exact vp_in_nI (by omega) (by decide)) (nm_r (e' := nA (ud (ud (ud o (c * 4 + 0) (i / 64)) (c * 4 + 1) (i / 16 % 4)) (c * 4 + 2) (i / 4 % 4))) (by rw [e2]; exact nA_ud (by omega)) (And.intro (by rw [e3]; exact vp_in_nI (by omega) (by decide)) (nm_r (e' := nA (ud (ud (ud (ud o (c * 4 + 0) (i / 64)) (c * 4 + 1) (i / 16 % 4)) (c * 4 + 2) (i / 4 % 4)) (c * 4 + 3) (i % 4))) (by rw [e3]; exact nA_ud (by omega)) (nm_r (nI_1 c) (nm_r (nI_1 i) (next (c + 1, _) ⟨?_, fun p a hp ha => ?_⟩))))))))))
      · show c + 1 = cn (yg A) i + (if yg A i then 1 else 0)
        rw [z, I1']; rfl
      · have hp' : p < c + 1 := hp
        show ud (ud (ud (ud o (c * 4 + 0) (i / 64)) (c * 4 + 1) (i / 16 % 4)) (c * 4 + 2) (i / 4 % 4)) (c * 4 + 3) (i % 4) (p * 4 + a) = _
        by_cases e : p = c
        · rw [e]
          rcases (by omega : a = 0 ∨ a = 1 ∨ a = 2 ∨ a = 3) with w | w | w | w
          · rw [w, ud_n (by omega), ud_n (by omega), ud_n (by omega), ud_s]; exact g.2.1.symm
          · rw [w, ud_n (by omega), ud_n (by omega), ud_s]; exact g.2.2.1.symm
          · rw [w, ud_n (by omega), ud_s]; exact g.2.2.2.1.symm
          · rw [w, ud_s]; exact g.2.2.2.2.symm
        · rw [ud_n (by omega), ud_n (by omega), ud_n (by omega), ud_n (by omega)]
          exact I2' p a (by omega) ha
    have J1 : ∀ z0 : Int32, z0 = 0 → yg A i = false → wY_init_323 post (wY_init_239 post (nI A) (nI mN) (nI mD) (nI n) (nI dc) fe fa (nI cl) (nI s.1) (nI sd) k) (nI i) (nI (i / 64)) (nI (i / 16 % 4)) (nI (i / 4 % 4)) (nI (i % 4)) z0 (nI A) (nI mN) (nI mD) (nI n) (nI dc) (nI c) fe fa (nI cl) (nI s.1) (nI sd) (nA kd) (nA fs) (nA sn) (nA th) (nA tl) (nA dk) (nA di) (nA dj) (nA (o)) (nA tt) (nA ti) (nA te) (nA tm) (nA (s.2.1)) (nA (s.2.2)) (nA ov) (nA is) (nA ak) (nA fh) := fun z0 e z => br_t e (nm_r (nI_1 i) (skip z))
    refine br_f (nI_ge (b := 256) hi (by omega)) (nm_r f5 (nm_r f6 (nm_r f7 (nm_r f8 ?_))))
    refine br_c (fun w1 => J1 0 rfl ?_) (fun w1 => br_c (fun w2 => J1 0 rfl ?_) (fun w2 => br_c (fun w3 => J1 0 rfl ?_) (fun w3 => br_c (fun w4 => J1 0 rfl ?_) (fun w4 => br_c (fun w5 => J1 0 rfl ?_) (fun w5 => br_c (fun w6 => J1 0 rfl ?_) (fun w6 => br_f (by decide) ?_))))))
    · exact decide_eq_false fun z => z.1 ((ne _ _ l5 l6).mp w1)
    · exact decide_eq_false fun z => z.2.1 ((ne _ _ l5 l7).mp w2)
    · exact decide_eq_false fun z => z.2.2.1 ((ne _ _ l5 l8).mp w3)
    · exact decide_eq_false fun z => z.2.2.2.1 ((ne _ _ l6 l7).mp w4)
    · exact decide_eq_false fun z => z.2.2.2.2.1 ((ne _ _ l6 l8).mp w5)
    · exact decide_eq_false fun z => z.2.2.2.2.2.1 ((ne _ _ l7 l8).mp w6)
    · have yes : (2 < A ∨ i / 4 % 4 = 2) → (3 < A ∨ i % 4 = 3) → yg A i = true := fun z1 z2 => decide_eq_true ⟨fun z => w1 ((ne _ _ l5 l6).mpr z), fun z => w2 ((ne _ _ l5 l7).mpr z), fun z => w3 ((ne _ _ l5 l8).mpr z), fun z => w4 ((ne _ _ l6 l7).mpr z), fun z => w5 ((ne _ _ l6 l8).mpr z), fun z => w6 ((ne _ _ l7 l8).mpr z), z1, z2⟩
      have j353 : (2 < A ∨ i / 4 % 4 = 2) → wY_init_353 post (wY_init_239 post (nI A) (nI mN) (nI mD) (nI n) (nI dc) fe fa (nI cl) (nI s.1) (nI sd) k) (nI i) (nI (i / 64)) (nI (i / 16 % 4)) (nI (i / 4 % 4)) (nI (i % 4)) (nI A) (nI mN) (nI mD) (nI n) (nI dc) (nI c) fe fa (nI cl) (nI s.1) (nI sd) (nA kd) (nA fs) (nA sn) (nA th) (nA tl) (nA dk) (nA di) (nA dj) (nA (o)) (nA tt) (nA ti) (nA te) (nA tm) (nA (s.2.1)) (nA (s.2.2)) (nA ov) (nA is) (nA ak) (nA fh) := fun z1 => by
        refine pk_lt (x := 3) 3 A (fun z2 => put (yes z1 (Or.inl z2))) (fun z2 => pk_eq (y := 3) (i % 4) 3 (fun z3 => put (yes z1 (Or.inr z3))) (fun z3 => nm_r (nI_1 i) (skip (decide_eq_false fun y => ?_))))
        rcases y.2.2.2.2.2.2.2 with y | y
        · omega
        · exact z3 y
      refine br_c (fun w7 => ?_) (fun w7 => pk_lt (x := 2) 2 A (fun z1 => j353 (Or.inl z1)) (fun z1 => pk_eq (y := 2) (i / 4 % 4) 2 (fun z2 => j353 (Or.inr z2)) (fun z2 => nm_r (nI_1 i) (skip (decide_eq_false fun y => ?_)))))
      · refine nm_r (nI_1 i) (skip ?_)
        cases z : yg A i
        · rfl
        · have g := (yg_A hA hi z).1
          have w8 : nI 24 ≤ nI c := w7
          have : c ≤ 24 := by rw [I1']; omega
          rw [nI_leI (by decide) (by omega)] at w8
          omega
      · rcases y.2.2.2.2.2.2.1 with y | y
        · omega
        · exact z2 y
end
end
section
/-! values: the equations that E, O solve -/
def ev_r (A : Nat) (kd fs sn th tl : Nat → Nat) (E : Nat → Nat → Nat → Prop) (O : Nat → Nat → Prop) (t u c : Nat) : Prop :=
  if kd t = 0 then E (tl t) u c else if kd t = 3 then E (th t) u (gp_cm (gp_tr (fs t) (sn t)) c) else
  if kd u = 0 then E t (tl u) c else if kd u = 3 then E t (th u) (gp_cm c (gp_tr (fs u) (sn u))) else fd_sh kd fs sn E O t u c
def ev_o (A : Nat) (kd fs sn th tl : Nat → Nat) (O : Nat → Nat → Prop) (t a : Nat) : Prop :=
  if kd t = 0 then O (tl t) a else if kd t = 3 then O (th t) (gp_ap (gp_tr (fs t) (sn t)) a) else fd_ow A kd fs sn O t a
def ev (n A : Nat) (kd fs sn th tl : Nat → Nat) (E : Nat → Nat → Nat → Prop) (O : Nat → Nat → Prop) : Prop :=
  (∀ t u c, t < n → u < n → gp_P A c → (E t u c ↔ ev_r A kd fs sn th tl E O t u c)) ∧ (∀ t a, t < n → a < A → (O t a ↔ ev_o A kd fs sn th tl O t a)) ∧ fd_Gd (fun t => t < n) A E O
/-! the component's slots from 16 on; pr: the nodes that have a value already -/
def ev_D (pr : Nat → Prop) (x : Nat) : Prop := 16 ≤ x ∧ pr (x - 16)
theorem ev_De (pr : Nat → Prop) : (fun t => ev_D pr (16 + t)) = pr := by
  funext t
  refine propext ⟨fun h => ?_, fun h => ⟨by omega, ?_⟩⟩
  · have e : 16 + t - 16 = t := by omega
    have := h.2
    rw [e] at this; exact this
  · have e : 16 + t - 16 = t := by omega
    rw [e]; exact h
theorem ev_Di {pr : Nat → Prop} {t : Nat} : ev_D pr (16 + t) ↔ pr t := by
  have := congrFun (ev_De pr) t
  exact Iff.of_eq this
def xv (n A : Nat) (kd fs sn th tl : Nat → Nat) (pr : Nat → Prop) (C P F : Nat → Nat) : Prop :=
  xr_I (ev_D pr) A C P F ∧ (∀ t, t < n → ¬ pr t → C (16 + t) = 4294967295) ∧ (∀ t, pr t → ∃ r, pr r ∧ fd_rg kd r ∧ C (16 + t) = 16 + r) ∧
  (∀ t, pr t → kd t = 0 → C (16 + t) = C (16 + tl t) ∧ P (16 + t) = P (16 + tl t)) ∧
  (∀ t, pr t → kd t = 3 → C (16 + t) = C (16 + th t) ∧ P (16 + t) = gp_cm (gp_tr (fs t) (sn t)) (P (16 + th t))) ∧
  (∀ t r, pr t → fd_rg kd t → C (16 + t) = 16 + r → fd_sh kd fs sn (xm_e 16 C P F) (xm_o 16 C P F) t r (P (16 + t))) ∧
  (∀ r, pr r → C (16 + r) = 16 + r → ∀ a, ((F (16 + r)).testBit a = true ↔ fd_ow A kd fs sn (xm_o 16 C P F) r a)) ∧
  (∀ r r', pr r → pr r' → r ≠ r' → C (16 + r) = 16 + r → C (16 + r') = 16 + r' → ∀ c, gp_P A c → ¬ fd_sh kd fs sn (xm_e 16 C P F) (xm_o 16 C P F) r r' c)
section
variable {n A : Nat} {kd fs sn th tl : Nat → Nat} {pr : Nat → Prop} {C P F : Nat → Nat}
theorem xv_Gd (hA : A ≤ 4) (X : xv n A kd fs sn th tl pr C P F) : fd_Gd pr A (xm_e 16 C P F) (xm_o 16 C P F) := by
  have := xm_Gd (b := 16) hA X.1
  rw [ev_De] at this; exact this
/-- all values there: the equations hold -/
theorem xv_ev (hA : A ≤ 4) (W : fd_wf n A kd fs sn th) (htl : ∀ t, t < n → kd t = 0 → tl t < n) (X : xv n A kd fs sn th tl (fun t => t < n) C P F) : ev n A kd fs sn th tl (xm_e 16 C P F) (xm_o 16 C P F) := by
  have G := xv_Gd hA X
  obtain ⟨I, U, Rt, V0, V3, V1, F1, S1⟩ := X
  have K : ∀ t, t < n → fd_K (fun t => t < n) A kd fs sn t := fun t ht => fd_wK W ht
  have Px : ∀ t, t < n → gp_P A (P (16 + t)) := fun t ht => (I (16 + t) (ev_Di.mpr ht)).2.2.2.1
  have root : ∀ t, t < n → ∃ r, r < n ∧ fd_rg kd r ∧ C (16 + t) = 16 + r ∧ C (16 + r) = 16 + r ∧ P (16 + r) = 228 ∧ xm_e 16 C P F t r (P (16 + t)) := fun t ht => by
    obtain ⟨r, hr, hg, e⟩ := Rt t ht
    have i := I (16 + t) (ev_Di.mpr ht)
    have e1 := i.2.1
    have e2 := i.2.2.1
    rw [e] at e1 e2
    refine ⟨r, hr, hg, e, e1, e2, ?_⟩
    show xr_e C P F (16 + t) (16 + r) (P (16 + t))
    refine ⟨by rw [e, e1], fun a ha _ => ?_⟩
    rw [e2, gp_id_ap a ha]
  have xo_r : ∀ r a, r < n → C (16 + r) = 16 + r → P (16 + r) = 228 → (xm_o 16 C P F r a ↔ fd_ow A kd fs sn (xm_o 16 C P F) r a) := fun r a hr e1 e2 => by
    rw [← F1 r hr e1 a]
    show xr_o C P F (16 + r) a ↔ _
    constructor
    · rintro ⟨b, hb, hf, eb⟩
      rw [e2, gp_id_ap b hb] at eb
      rw [e1, eb] at hf; exact hf
    · intro hf
      have hb : a < 4 := by
        have := gp_bit_lt (I (16 + r) (ev_Di.mpr hr)).2.2.2.2 (by rw [e1]; exact hf)
        omega
      exact ⟨a, hb, by rw [e1]; exact hf, by rw [e2, gp_id_ap a hb]⟩
  refine ⟨fun t u c ht hu hc => ?_, fun t a ht ha => ?_, G⟩
  · unfold ev_r
    have w3 := (W t ht).2.2.2.1
    have z3 := (W u hu).2.2.2.1
    by_cases k0 : kd t = 0
    · rw [if_pos k0]
      have v := V0 t ht k0
      show xr_e C P F (16 + t) (16 + u) c ↔ xr_e C P F (16 + tl t) (16 + u) c
      unfold xr_e; rw [v.1, v.2]
    · rw [if_neg k0]
      by_cases k3 : kd t = 3
      · rw [if_pos k3]
        have v := V3 t ht k3
        have w := w3 k3
        have T := gp_P_tr hA w.1 w.2.1
        show xr_e C P F (16 + t) (16 + u) c ↔ xr_e C P F (16 + th t) (16 + u) (gp_cm (gp_tr (fs t) (sn t)) c)
        unfold xr_e; rw [v.1, v.2]
        refine and_congr Iff.rfl ⟨fun z a ha hf => ?_, fun z a ha hf => ?_⟩
        · rw [gp_cm_ap _ _ _ (gp_ap_lt _ _), z a ha hf, gp_cm_ap _ _ a ha, ← gp_cm_ap _ _ _ (gp_ap_lt _ _), gp_tr2 (by omega) (by omega), gp_id_ap _ (gp_ap_lt _ _)]
        · have := z a ha hf
          rw [gp_cm_ap _ _ _ (gp_ap_lt _ _)] at this
          rw [gp_cm_ap _ _ a ha, ← this, ← gp_cm_ap _ _ _ (gp_ap_lt _ _), gp_tr2 (by omega) (by omega), gp_id_ap _ (gp_ap_lt _ _)]
      · rw [if_neg k3]
        by_cases j0 : kd u = 0
        · rw [if_pos j0]
          have v := V0 u hu j0
          show xr_e C P F (16 + t) (16 + u) c ↔ xr_e C P F (16 + t) (16 + tl u) c
          unfold xr_e; rw [v.1, v.2]
        · rw [if_neg j0]
          by_cases j3 : kd u = 3
          · rw [if_pos j3]
            have v := V3 u hu j3
            show xr_e C P F (16 + t) (16 + u) c ↔ xr_e C P F (16 + t) (16 + th u) (gp_cm c (gp_tr (fs u) (sn u)))
            unfold xr_e; rw [v.1, v.2]
            refine and_congr Iff.rfl ⟨fun z a ha hf => ?_, fun z a ha hf => ?_⟩
            · rw [← z a ha hf, gp_cm_ap _ _ _ (gp_ap_lt _ _), gp_cm_ap _ _ a ha]
            · rw [← z a ha hf, gp_cm_ap _ _ _ (gp_ap_lt _ _), gp_cm_ap _ _ a ha]
          · rw [if_neg j3]
            have rt : fd_rg kd t := by have := (W t ht).1; unfold fd_rg; omega
            have ru : fd_rg kd u := by have := (W u hu).1; unfold fd_rg; omega
            obtain ⟨r, hr, gr, er, err, epr, Er⟩ := root t ht
            obtain ⟨q, hq, gq, eq, eqq, epq, Eq⟩ := root u hu
            have st := V1 t r ht rt er
            have su := V1 u q hu ru eq
            have Pt := Px t ht
            have Pu := Px u hu
            have Pm := gp_P_cm (gp_P_iv Pt) (gp_P_cm hc Pu)
            have back : gp_cm (gp_cm (P (16 + t)) (gp_cm (gp_iv (P (16 + t))) (gp_cm c (P (16 + u))))) (gp_iv (P (16 + u))) = c := by
              rw [gp_kl Pt (gp_cm_lt _ _), gp_assoc, gp_vr Pu, gp_1r hc.1]
            constructor
            · intro z
              have e : r = q := by
                have := z.1
                have h2 : C (16 + t) = C (16 + u) := this
                omega
              subst e
              have m1 := fd_ml G hr ht hr (gp_P_iv Pt) (gp_P_cm hc Pu) (fd_iv G ht hr Pt Er) (fd_ml G ht hu hr hc Pu z Eq)
              have m2 := (fd_sh_st G hA (K r hr) Pm gr).mpr fun a ha hn => (xo_r r a hr err epr).mp ((fd_st G hr Pm).mp m1 a ha hn)
              have m3 := fd_sh_ml G hA (K t ht) (K r hr) (K u hu) (gp_P_cm Pt Pm) (gp_P_iv Pu) (fd_sh_ml G hA (K t ht) (K r hr) (K r hr) Pt Pm st m2) (fd_sh_iv G hA (K u hu) (K r hr) Pu su)
              rw [back] at m3; exact m3
            · intro z
              have m1 := fd_sh_ml G hA (K r hr) (K t ht) (K q hq) (gp_P_iv Pt) (gp_P_cm hc Pu) (fd_sh_iv G hA (K t ht) (K r hr) Pt st) (fd_sh_ml G hA (K t ht) (K u hu) (K q hq) hc Pu z su)
              have e : r = q := Classical.byContradiction fun no => S1 r q hr hq no err eqq _ Pm m1
              subst e
              have m2 := (fd_st G hr Pm).mpr fun a ha hn => (xo_r r a hr err epr).mpr ((fd_sh_st G hA (K r hr) Pm gr).mp m1 a ha hn)
              have m3 := fd_ml G ht hr hu (gp_P_cm Pt Pm) (gp_P_iv Pu) (fd_ml G ht hr hr Pt Pm Er m2) (fd_iv G hu hr Pu Eq)
              rw [back] at m3; exact m3
  · unfold ev_o
    by_cases k0 : kd t = 0
    · rw [if_pos k0]
      have v := V0 t ht k0
      show xr_o C P F (16 + t) a ↔ xr_o C P F (16 + tl t) a
      unfold xr_o; rw [v.1, v.2]
    · rw [if_neg k0]
      by_cases k3 : kd t = 3
      · rw [if_pos k3]
        have v := V3 t ht k3
        have w := (W t ht).2.2.2.1 k3
        have inv2 : ∀ b, b < 4 → gp_ap (gp_tr (fs t) (sn t)) (gp_ap (gp_tr (fs t) (sn t)) b) = b := fun b hb => by
          rw [← gp_cm_ap _ _ b hb, gp_tr2 (by omega) (by omega), gp_id_ap b hb]
        show xr_o C P F (16 + t) a ↔ xr_o C P F (16 + th t) (gp_ap (gp_tr (fs t) (sn t)) a)
        unfold xr_o; rw [v.1, v.2]
        constructor
        · rintro ⟨b, hb, hf, e⟩
          refine ⟨b, hb, hf, ?_⟩
          rw [← e, gp_cm_ap _ _ b hb, inv2 _ (gp_ap_lt _ _)]
        · rintro ⟨b, hb, hf, e⟩
          refine ⟨b, hb, hf, ?_⟩
          rw [gp_cm_ap _ _ b hb, e, inv2 a (by omega)]
      · rw [if_neg k3]
        have rt : fd_rg kd t := by have := (W t ht).1; unfold fd_rg; omega
        obtain ⟨r, hr, gr, er, err, epr, Er⟩ := root t ht
        have st := V1 t r ht rt er
        have Pt := Px t ht
        have ha4 : a < 4 := by omega
        have eb : gp_ap (P (16 + t)) (gp_ap (gp_iv (P (16 + t))) a) = a := gp_iv_r Pt ha4
        constructor
        · intro z
          rw [← eb] at z
          have o1 := (xo_r r _ hr err epr).mp (fd_bk G ht hr Pt (gp_ap_lt _ _) Er z)
          have o2 := fd_sh_ow G hA (K t ht) (K r hr) Pt st o1
          rw [eb] at o2; exact o2
        · intro z
          have o1 := fd_sh_ow G hA (K r hr) (K t ht) (gp_P_iv Pt) (fd_sh_iv G hA (K t ht) (K r hr) Pt st) z
          have o2 := fd_tp G ht hr Pt o1.1 Er ((xo_r r _ hr err epr).mpr o1)
          rw [eb] at o2; exact o2
end
end
section
section
variable {n A : Nat} {kd fs sn th tl : Nat → Nat} {pr : Nat → Prop} {C P F : Nat → Nat}
def xv_K (A : Nat) (kd fs sn th tl : Nat → Nat) (pr : Nat → Prop) (t : Nat) : Prop := fd_K pr A kd fs sn t ∧ (kd t = 0 → pr (tl t)) ∧ (kd t = 3 → pr (th t))
theorem xv_cg {pr' : Nat → Prop} (h : xv n A kd fs sn th tl pr C P F) (e : ∀ x, pr x ↔ pr' x) : xv n A kd fs sn th tl pr' C P F := by
  have : pr = pr' := funext fun x => propext (e x)
  rw [← this]; exact h
theorem xv_add {C' P' F' : Nat → Nat} {t : Nat} (hA : A ≤ 4) (X : xv n A kd fs sn th tl pr C P F) (K : ∀ x, pr x → x < n ∧ xv_K A kd fs sn th tl pr x) (ht : t < n) (np : ¬ pr t) (Kt : xv_K A kd fs sn th tl pr t)
    (fr : ∀ x, x ≠ 16 + t → C' x = C x ∧ P' x = P x ∧ F' x = F x) (nP : gp_P A (P' (16 + t)))
    (nr : (∃ r, pr r ∧ fd_rg kd r ∧ C' (16 + t) = 16 + r ∧ C (16 + r) = 16 + r) ∨ (fd_rg kd t ∧ C' (16 + t) = 16 + t ∧ P' (16 + t) = 228 ∧ (∀ a, (F' (16 + t)).testBit a = true ↔ fd_ow A kd fs sn (xm_o 16 C P F) t a) ∧ ∀ r, pr r → C (16 + r) = 16 + r → ∀ c, gp_P A c → ¬ fd_sh kd fs sn (xm_e 16 C P F) (xm_o 16 C P F) t r c))
    (n0 : kd t = 0 → C' (16 + t) = C (16 + tl t) ∧ P' (16 + t) = P (16 + tl t)) (n3 : kd t = 3 → C' (16 + t) = C (16 + th t) ∧ P' (16 + t) = gp_cm (gp_tr (fs t) (sn t)) (P (16 + th t)))
    (n1 : fd_rg kd t → ∀ r, pr r → C' (16 + t) = 16 + r → fd_sh kd fs sn (xm_e 16 C P F) (xm_o 16 C P F) t r (P' (16 + t))) :
    xv n A kd fs sn th tl (fun x => pr x ∨ x = t) C' P' F' := by
  have G := xv_Gd hA X
  obtain ⟨I, U, Rt, V0, V3, V1, F1, S1⟩ := X
  have nt : ∀ x, pr x → x ≠ t := fun x hx e => np (e ▸ hx)
  have fC : ∀ x, pr x → C' (16 + x) = C (16 + x) := fun x hx => (fr _ (by have := nt x hx; omega)).1
  have fP : ∀ x, pr x → P' (16 + x) = P (16 + x) := fun x hx => (fr _ (by have := nt x hx; omega)).2.1
  have fF : ∀ x, pr x → F' (C (16 + x)) = F (C (16 + x)) := fun x hx => by
    obtain ⟨r, hr, _, e⟩ := Rt x hx
    rw [e]; exact (fr _ (by have := nt r hr; omega)).2.2
  have hE : ∀ x y d, pr x → pr y → (xm_e 16 C' P' F' x y d ↔ xm_e 16 C P F x y d) := fun x y d hx hy => by
    show xr_e C' P' F' (16 + x) (16 + y) d ↔ xr_e C P F (16 + x) (16 + y) d
    unfold xr_e; rw [fC x hx, fC y hy, fP x hx, fP y hy, fF x hx]
  have hO : ∀ x a, pr x → (xm_o 16 C' P' F' x a ↔ xm_o 16 C P F x a) := fun x a hx => by
    show xr_o C' P' F' (16 + x) a ↔ xr_o C P F (16 + x) a
    unfold xr_o; rw [fC x hx, fP x hx, fF x hx]
  have shT : ∀ x y c, fd_K pr A kd fs sn x → fd_K pr A kd fs sn y → gp_P A c → (fd_sh kd fs sn (xm_e 16 C' P' F') (xm_o 16 C' P' F') x y c ↔ fd_sh kd fs sn (xm_e 16 C P F) (xm_o 16 C P F) x y c) := fun x y c kx ky hc =>
    ⟨fd_sh_mP hA hc kx ky (fun x y d hx hy _ z => (hE x y d hx hy).mp z) (fun x a hx z => (hO x a hx).mp z), fd_sh_mP hA hc kx ky (fun x y d hx hy _ z => (hE x y d hx hy).mpr z) (fun x a hx z => (hO x a hx).mpr z)⟩
  have owT : ∀ x a, fd_K pr A kd fs sn x → (fd_ow A kd fs sn (xm_o 16 C' P' F') x a ↔ fd_ow A kd fs sn (xm_o 16 C P F) x a) := fun x a kx => by
    have hp : ∀ y, (kd x = 4 ∧ y = sn x) ∨ (kd x = 5 ∧ (y = fs x ∨ y = sn x)) → pr y := fun y hy => by
      rcases hy with ⟨k, e⟩ | ⟨k, e | e⟩
      · rw [e]; exact (kx.2.1 k).2
      · rw [e]; exact (kx.2.2 k).1
      · rw [e]; exact (kx.2.2 k).2
    exact ⟨fd_ow_mono fun y hy z => (hO y a (hp y hy)).mp z, fd_ow_mono fun y hy z => (hO y a (hp y hy)).mpr z⟩
  have Kx : ∀ x, pr x ∨ x = t → fd_K pr A kd fs sn x := fun x hx => by
    rcases hx with hx | hx
    · exact (K x hx).2.1
    · rw [hx]; exact Kt.1
  have shtt : fd_rg kd t → fd_sh kd fs sn (xm_e 16 C P F) (xm_o 16 C P F) t t 228 := fun g => (fd_sh_st G hA Kt.1 (gp_P_id A) g).mpr fun a ha hn => absurd (gp_id_ap a ha) hn
  refine ⟨?_, ?_, ?_, ?_, ?_, ?_, ?_, ?_⟩
  · intro x hx
    obtain ⟨h16, hx⟩ := hx
    have ex : x = 16 + (x - 16) := by omega
    generalize x - 16 = y at hx ex
    subst ex
    rcases hx with hx | hx
    · have i := I (16 + y) (ev_Di.mpr hx)
      obtain ⟨r, hr, hg, e⟩ := Rt y hx
      rw [fC y hx, fP y hx]
      rw [e] at i ⊢
      rw [fC r hr, fP r hr, (fr (16 + r) (by have := nt r hr; omega)).2.2]
      exact ⟨ev_Di.mpr (Or.inl hr), i.2.1, i.2.2.1, i.2.2.2.1, i.2.2.2.2⟩
    · subst hx
      rcases nr with ⟨r, hr, hg, e, e2⟩ | ⟨g, e, e2, e3, _⟩
      · have i := I (16 + r) (ev_Di.mpr hr)
        rw [e2] at i
        rw [e, fC r hr, fP r hr, (fr (16 + r) (by have := nt r hr; omega)).2.2, e2]
        exact ⟨ev_Di.mpr (Or.inl hr), rfl, i.2.2.1, nP, i.2.2.2.2⟩
      · rw [e, e, e2]
        exact ⟨ev_Di.mpr (Or.inr rfl), rfl, rfl, gp_P_id A, xr_lt2 fun a ha => ((e3 a).mp ha).1⟩
  · intro x hx hn
    have : x ≠ t := fun e => hn (Or.inr e)
    rw [(fr _ (by omega)).1]
    exact U x hx fun z => hn (Or.inl z)
  · intro x hx
    rcases hx with hx | hx
    · obtain ⟨r, hr, hg, e⟩ := Rt x hx
      exact ⟨r, Or.inl hr, hg, by rw [fC x hx]; exact e⟩
    · subst hx
      rcases nr with ⟨r, hr, hg, e, e2⟩ | ⟨g, e, _⟩
      · exact ⟨r, Or.inl hr, hg, e⟩
      · exact ⟨x, Or.inr rfl, g, e⟩
  · intro x hx k
    rcases hx with hx | hx
    · have hl := (K x hx).2.2.1 k
      rw [fC x hx, fP x hx, fC _ hl, fP _ hl]; exact V0 x hx k
    · subst hx
      have hl := Kt.2.1 k
      rw [fC _ hl, fP _ hl]; exact n0 k
  · intro x hx k
    rcases hx with hx | hx
    · have hl := (K x hx).2.2.2 k
      rw [fC x hx, fP x hx, fC _ hl, fP _ hl]; exact V3 x hx k
    · subst hx
      have hl := Kt.2.2 k
      rw [fC _ hl, fP _ hl]; exact n3 k
  · intro x r hx g e
    rcases hx with hx | hx
    · rw [fC x hx] at e
      obtain ⟨r', hr', _, e'⟩ := Rt x hx
      have er : r = r' := by omega
      subst er
      rw [fP x hx]
      exact (shT x r _ (K x hx).2.1 (K r hr').2.1 (I (16 + x) (ev_Di.mpr hx)).2.2.2.1).mpr (V1 x r hx g e)
    · subst hx
      rcases nr with ⟨r', hr', hg, e', e2⟩ | ⟨_, e', e2, _⟩
      · have er : r = r' := by omega
        subst er
        exact (shT x r _ Kt.1 (K r hr').2.1 nP).mpr (n1 g r hr' e)
      · have er : r = x := by omega
        rw [er, e2]
        exact (shT x x 228 Kt.1 Kt.1 (gp_P_id A)).mpr (shtt g)
  · intro r hr e a
    rcases hr with hr | hr
    · rw [fC r hr] at e
      rw [owT r a (K r hr).2.1, (fr (16 + r) (by have := nt r hr; omega)).2.2]
      exact F1 r hr e a
    · subst hr
      rcases nr with ⟨r', hr', hg, e', e2⟩ | ⟨_, e', e2, e3, _⟩
      · have := nt r' hr'
        omega
      · rw [owT r a Kt.1]; exact e3 a
  · intro r r' hr hr' hne e e' c hc z
    have z' := (shT r r' c (Kx r hr) (Kx r' hr') hc).mp z
    rcases hr with hr | hr <;> rcases hr' with hr' | hr'
    · rw [fC r hr] at e
      rw [fC r' hr'] at e'
      exact S1 r r' hr hr' hne e e' c hc z'
    · subst hr'
      rw [fC r hr] at e
      rcases nr with ⟨q, hq, _, e2, _⟩ | ⟨_, _, _, _, no⟩
      · have := nt q hq
        omega
      · exact no r hr e _ (gp_P_iv hc) (fd_sh_iv G hA (K r hr).2.1 Kt.1 hc z')
    · subst hr
      rw [fC r' hr'] at e'
      rcases nr with ⟨q, hq, _, e2, _⟩ | ⟨_, _, _, _, no⟩
      · have := nt q hq
        omega
      · exact no r' hr' e' c hc z'
    · omega
end
section
variable {A mN mD n dc ca : Nat} {kd fs sn th tl cz dk di dj bl : Nat → Nat}
variable {s : XS} {pr : Nat → Prop}
theorem xw_place {post : SX → Prop} {t p y : Nat} {vt vp vy : Int32} (et : vt = nI t) (ep : vp = nI p) (ey : vy = nI y) (ht : t < 16) (hy : y < 32) (hp : p < 256) (hP : s.2.2.2.1 y < 256)
    (h : post (xt A mN mD n dc ca kd fs sn th tl cz dk di dj bl (s.1, s.2.1, ud s.2.2.1 (16 + t) (s.2.2.1 y), ud s.2.2.2.1 (16 + t) (gp_cm p (s.2.2.2.1 y)), s.2.2.2.2.1, s.2.2.2.2.2))) : wpX_place post (xt A mN mD n dc ca kd fs sn th tl cz dk di dj bl s) vt vp vy := by
  subst et ep ey
  have e16 : (16 : Int32) + nI t = nI (16 + t) := nI_add 16 t
  have vi : vp_in ((16 : Int32) + nI t) 32 := by rw [e16]; exact vp_in_nI (by omega) (by decide)
  unfold wpX_place
  exact And.intro (vp_in_nI hy (by decide)) (And.intro vi (nm_r (e' := nA (ud s.2.2.1 (16 + t) (s.2.2.1 y))) (by rw [e16, nA_at (by omega)]; exact nA_ud (by omega)) (And.intro (vp_in_nI hy (by decide)) (xw_compose' rfl (nA_at (by omega)) hp hP (And.intro vi (nm_r (e' := nA (ud s.2.2.2.1 (16 + t) (gp_cm p (s.2.2.2.1 y)))) (by rw [e16]; exact nA_ud (by omega)) h))))))
def xv_lo (s s' : XS) : Prop := ∀ x, x < 16 → s'.2.2.1 x = s.2.2.1 x ∧ s'.2.2.2.1 x = s.2.2.2.1 x ∧ s'.2.2.2.2.1 x = s.2.2.2.2.1 x
theorem xw_valuate {post : SX → Prop} {t : Nat} {vt : Int32} (et : vt = nI t) (hA : yp_A A) (hn : n ≤ 16) (W : fd_wf n A kd fs sn th) (X : xv n A kd fs sn th tl pr s.2.2.1 s.2.2.2.1 s.2.2.2.2.1) (K : ∀ x, pr x → x < n ∧ xv_K A kd fs sn th tl pr x) (ht : t < n) (np : ¬ pr t) (Kt : xv_K A kd fs sn th tl pr t)
    (h : ∀ s', xv n A kd fs sn th tl (fun x => pr x ∨ x = t) s'.2.2.1 s'.2.2.2.1 s'.2.2.2.2.1 → xv_lo s s' → post (xt A mN mD n dc ca kd fs sn th tl cz dk di dj bl s')) : wpX_valuate post (xt A mN mD n dc ca kd fs sn th tl cz dk di dj bl s) vt := by
  subst et
  have hA4 := yp_A4 hA
  have G := xv_Gd hA4 X
  have pw := gp_pw hA4
  have wt := W t ht
  have vt : vp_in (nI t) 16 := vp_in_nI (by omega) (by decide)
  have q : ∀ (j : Nat) (v : Int32), v = nI j → j < 4294967296 → (nA kd (nI t).toNatClampNeg = v ↔ kd t = j) := fun j v hv hj => br_aq hv (by omega) (by omega) hj
  have lo : ∀ (a b c d : Nat) (L : Nat → Nat), xv_lo s (a, b, ud s.2.2.1 (16 + t) c, ud s.2.2.2.1 (16 + t) d, s.2.2.2.2.1, L) := fun a b c d L x hx => ⟨ud_n (by omega), ud_n (by omega), rfl⟩
  have fr : ∀ c d x, x ≠ 16 + t → ud s.2.2.1 (16 + t) c x = s.2.2.1 x ∧ ud s.2.2.2.1 (16 + t) d x = s.2.2.2.1 x ∧ s.2.2.2.2.1 x = s.2.2.2.2.1 x := fun c d x hx => ⟨ud_n hx, ud_n hx, rfl⟩
  have Ix : ∀ x, pr x → gp_P A (s.2.2.2.1 (16 + x)) := fun x hx => (X.1 (16 + x) (ev_Di.mpr hx)).2.2.2.1
  have rr : ∀ x, pr x → ∃ r, pr r ∧ fd_rg kd r ∧ s.2.2.1 (16 + x) = 16 + r ∧ s.2.2.1 (16 + r) = 16 + r := fun x hx => by
    obtain ⟨r, hr, hg, e⟩ := X.2.2.1 x hx
    have i := (X.1 (16 + x) (ev_Di.mpr hx)).2.1
    rw [e] at i
    exact ⟨r, hr, hg, e, i⟩
  unfold wpX_valuate
  refine And.intro vt ?_
  by_cases k0 : kd t = 0
  · have hl := Kt.2.1 k0
    have hln := (K _ hl).1
    refine br_t ((q 0 0 rfl (by decide)).mpr k0) (And.intro vt (xw_place (y := 16 + tl t) (p := 228) rfl rfl (by rw [nA_at (by omega)]; exact nI_add 16 _) (by omega) (by omega) (by decide) (Ix _ hl).1 (h _ (xv_add hA4 X K ht np Kt (fr _ _) ?_ ?_ (fun _ => ?_) (fun k3 => by omega) (fun g => ?_)) (lo _ _ _ _ _))))
    · dsimp only; rw [ud_s, gp_1l (Ix _ hl).1]; exact Ix _ hl
    · obtain ⟨r, hr, hg, e, e2⟩ := rr _ hl
      exact Or.inl ⟨r, hr, hg, by dsimp only; rw [ud_s]; exact e, e2⟩
    · dsimp only; rw [ud_s, ud_s, gp_1l (Ix _ hl).1]; exact ⟨rfl, rfl⟩
    · unfold fd_rg at g; omega
  · refine br_f (fun w => k0 ((q 0 0 rfl (by decide)).mp w)) (And.intro vt ?_)
    by_cases k3 : kd t = 3
    · have hl := Kt.2.2 k3
      have hln := (K _ hl).1
      have w3 := wt.2.2.2.1 k3
      have hT := gp_P_tr hA4 w3.1 w3.2.1
      refine br_t ((q 3 3 rfl (by decide)).mpr k3) (And.intro vt (And.intro vt (xw_trans' (nA_at (by omega)) (nA_at (by omega)) (by omega) (by omega) (And.intro vt (xw_place (y := 16 + th t) rfl rfl (by rw [nA_at (by omega)]; exact nI_add 16 _) (by omega) (by omega) hT.1 (Ix _ hl).1 (h _ (xv_add hA4 X K ht np Kt (fr _ _) ?_ ?_ (fun k => by omega) (fun _ => ?_) (fun g => ?_)) (lo _ _ _ _ _)))))))
      · dsimp only; rw [ud_s]; exact gp_P_cm hT (Ix _ hl)
      · obtain ⟨r, hr, hg, e, e2⟩ := rr _ hl
        exact Or.inl ⟨r, hr, hg, by dsimp only; rw [ud_s]; exact e, e2⟩
      · dsimp only; rw [ud_s, ud_s]; exact ⟨rfl, rfl⟩
      · unfold fd_rg at g; omega
    · have gt : fd_rg kd t := by unfold fd_rg; omega
      have KD : fd_K (fun x => ev_D pr (16 + x)) A kd fs sn t := by rw [ev_De]; exact Kt.1
      have hD : ∀ x, ev_D pr x → x < 32 := fun x hx => by have := (K _ hx.2).1; omega
      refine br_f (fun w => k3 ((q 3 3 rfl (by decide)).mp w)) ?_
      unfold wpX_valuateRigid
      refine loop_0 (fun k i (st : Nat × (Nat → Nat)) => wX_valuateRigid_2 post (nI t) k (nI i) 228 16 (nI A) (nI (2 ^ A - 1)) (nI mN) (nI mD) (nI n) (nI dc) (nI ca) (nI (s.1)) (nI (st.1)) (nA kd) (nA fs) (nA sn) (nA th) (nA tl) (nA cz) (nA dk) (nA di) (nA dj) (nA (s.2.2.1)) (nA (s.2.2.2.1)) (nA (s.2.2.2.2.1)) (nA bl) (nA (st.2))) (fun i _ => ∀ r, r < i → pr r → s.2.2.1 (16 + r) = 16 + r → ∀ c, gp_P A c → ¬ fd_sh kd fs sn (xm_e 16 s.2.2.1 s.2.2.2.1 s.2.2.2.2.1) (xm_o 16 s.2.2.1 s.2.2.2.1 s.2.2.2.2.1) t r c) n (s.2.1, s.2.2.2.2.2) (fun r hr => by omega) ?_ ?_
      · rintro k ⟨tk, L⟩ J
        have e16 : (16 : Int32) + nI t = nI (16 + t) := nI_add 16 t
        have vi : vp_in ((16 : Int32) + nI t) 32 := by rw [e16]; exact vp_in_nI (by omega) (by decide)
        have pn : ∀ x, pr x → x ≠ t := fun x hx e => np (e ▸ hx)
        have R2 : xr_I (ev_D pr) A (ud s.2.2.1 (16 + t) (16 + t)) (ud s.2.2.2.1 (16 + t) 228) s.2.2.2.2.1 := fun x hx => by
          have i := X.1 x hx
          have n1 : x ≠ 16 + t := fun e => np (by have := hx.2; rw [e] at this; have e2 : 16 + t - 16 = t := by omega
                                                  rw [e2] at this; exact this)
          have n2 : s.2.2.1 x ≠ 16 + t := fun e => np (by have := i.1.2; rw [e] at this; have e2 : 16 + t - 16 = t := by omega
                                                          rw [e2] at this; exact this)
          rw [ud_n n1, ud_n n1, ud_n n2, ud_n n2]; exact i
        have same : ∀ x a, pr x → (xm_o 16 (ud s.2.2.1 (16 + t) (16 + t)) (ud s.2.2.2.1 (16 + t) 228) s.2.2.2.2.1 x a ↔ xm_o 16 s.2.2.1 s.2.2.2.1 s.2.2.2.2.1 x a) := fun x a hx => by
          show xr_o _ _ _ (16 + x) a ↔ xr_o _ _ _ (16 + x) a
          unfold xr_o
          rw [ud_n (by have := pn x hx; omega), ud_n (by have := pn x hx; omega)]
        refine br_t (nI_le (Nat.le_refl _) (by omega)) (And.intro vi (nm_r (e' := nA (ud s.2.2.1 (16 + t) (16 + t))) (by rw [e16]; exact nA_ud (by omega)) (And.intro vi (nm_r (e' := nA (ud s.2.2.2.1 (16 + t) 228)) (by rw [e16]; exact nA_ud (x := 228) (by omega)) ?_))))
        refine xw_ownFresh (D := ev_D pr) (b := 16) (s := (s.1, tk, ud s.2.2.1 (16 + t) (16 + t), ud s.2.2.2.1 (16 + t) 228, s.2.2.2.2.1, L)) rfl rfl hA4 hn W hD R2 ht KD fun w hw hb => And.intro vi (nm_r (e' := nA (ud s.2.2.2.2.1 (16 + t) w)) (by rw [e16]; exact nA_ud (by omega)) (h (s.1, tk, ud s.2.2.1 (16 + t) (16 + t), ud s.2.2.2.1 (16 + t) 228, ud s.2.2.2.2.1 (16 + t) w, L) (xv_add hA4 X K ht np Kt (fun x hx => ⟨ud_n hx, ud_n hx, ud_n hx⟩) (by dsimp only; rw [ud_s]; exact gp_P_id A) (Or.inr ⟨gt, ud_s, ud_s, fun a => ?_, fun r hr e => J r (K r hr).1 hr e⟩) (fun k => by omega) (fun k => by omega) (fun _ r hr e => ?_)) (fun x hx => ⟨ud_n (by omega), ud_n (by omega), ud_n (by omega)⟩)))
        · dsimp only; rw [ud_s, hb]
          have hp : ∀ y, (kd t = 4 ∧ y = sn t) ∨ (kd t = 5 ∧ (y = fs t ∨ y = sn t)) → pr y := fun y hy => by
            rcases hy with ⟨k, e⟩ | ⟨k, e | e⟩
            · rw [e]; exact (Kt.1.2.1 k).2
            · rw [e]; exact (Kt.1.2.2 k).1
            · rw [e]; exact (Kt.1.2.2 k).2
          exact ⟨fd_ow_mono fun y hy z => (same y a (hp y hy)).mp z, fd_ow_mono fun y hy z => (same y a (hp y hy)).mpr z⟩
        · dsimp only at e; rw [ud_s] at e
          have := pn r hr
          omega
      · rintro k u ⟨tk, L⟩ hu J next
        have e16 : (16 : Int32) + nI u = nI (16 + u) := nI_add 16 u
        have vi : vp_in ((16 : Int32) + nI u) 32 := by rw [e16]; exact vp_in_nI (by omega) (by decide)
        have bC : s.2.2.1 (16 + u) < 4294967296 := by
          by_cases z : pr u
          · obtain ⟨r, hr, _, e, _⟩ := rr u z
            have := (K r hr).1
            omega
          · rw [X.2.1 u hu z]; decide
        have qc : (nA s.2.2.1 ((16 : Int32) + nI u).toNatClampNeg = (16 : Int32) + nI u) ↔ s.2.2.1 (16 + u) = 16 + u := by
          rw [e16, nA_at (by omega), br_eq bC (by omega)]
        have step : (pr u → s.2.2.1 (16 + u) = 16 + u → ∀ c, gp_P A c → ¬ fd_sh kd fs sn (xm_e 16 s.2.2.1 s.2.2.2.1 s.2.2.2.2.1) (xm_o 16 s.2.2.1 s.2.2.2.1 s.2.2.2.2.1) t u c) → ∀ r, r < u + 1 → pr r → s.2.2.1 (16 + r) = 16 + r → ∀ c, gp_P A c → ¬ fd_sh kd fs sn (xm_e 16 s.2.2.1 s.2.2.2.1 s.2.2.2.2.1) (xm_o 16 s.2.2.1 s.2.2.2.1 s.2.2.2.2.1) t r c := fun z r hr => by
          by_cases e : r = u
          · rw [e]; exact z
          · exact J r (by omega)
        refine br_f (nI_ge hu (by omega)) (And.intro vi (br_c (fun w => ?_) (fun w => nm_r (nI_1 u) (next (tk, L) (step fun _ e => absurd (qc.mpr e) w)))))
        have ec := qc.mp w
        have pu : pr u := Classical.byContradiction fun z => by
          rw [X.2.1 u hu z] at ec; omega
        have KU : fd_K (fun x => ev_D pr (16 + x)) A kd fs sn u := by rw [ev_De]; exact (K u pu).2.1
        have epu : s.2.2.2.1 (16 + u) = 228 := by
          have := (X.1 (16 + u) (ev_Di.mpr pu)).2.2.1
          rw [ec] at this; exact this
        have gu : fd_rg kd u := by
          obtain ⟨r, hr, hg, e, _⟩ := rr u pu
          have : r = u := by omega
          rw [← this]; exact hg
        refine xw_match (ch := s.1) (tk := tk) (L := L) (D := ev_D pr) (b := 16) (C := s.2.2.1) (P := s.2.2.2.1) (F := s.2.2.2.2.1) rfl rfl (show (16 : Int32) = nI 16 from rfl) hA hn W hD X.1 ht hu KD KU fun r tk' L' hr => ?_
        rcases hr with ⟨e, hr⟩ | ⟨c, hc, hr, e⟩
        · exact br_t e (nm_r (nI_1 u) (next (tk', L') (step fun _ _ => hr)))
        · refine br_f (by rw [e, br_m1, br_eq (by have := hc.1; omega) (by decide)]; have := hc.1; omega) (xw_place (s := (s.1, tk', s.2.2.1, s.2.2.2.1, s.2.2.2.2.1, L')) (y := 16 + u) rfl e e16 (by omega) (by omega) hc.1 (by show s.2.2.2.1 (16 + u) < 256; rw [epu]; decide) (h _ (xv_add hA4 X K ht np Kt (fr _ _) ?_ ?_ (fun k => by omega) (fun k => by omega) (fun _ r hr' e' => ?_)) (lo _ _ _ _ _)))
          · show gp_P A (ud s.2.2.2.1 (16 + t) (gp_cm c (s.2.2.2.1 (16 + u))) (16 + t))
            rw [ud_s, epu, gp_1r hc.1]; exact hc
          · refine Or.inl ⟨u, pu, gu, ?_, ec⟩
            show ud s.2.2.1 (16 + t) (s.2.2.1 (16 + u)) (16 + t) = _
            rw [ud_s]; exact ec
          · have e'' : ud s.2.2.1 (16 + t) (s.2.2.1 (16 + u)) (16 + t) = 16 + r := e'
            rw [ud_s, ec] at e''
            have er : r = u := by omega
            show fd_sh _ _ _ _ _ t r (ud s.2.2.2.1 (16 + t) (gp_cm c (s.2.2.2.1 (16 + u))) (16 + t))
            rw [ud_s, epu, gp_1r hc.1, er]; exact hr
end
end
section
def cz_ok (n : Nat) (kd fs sn th cz : Nat → Nat) : Prop :=
  ∀ t, t < n → cz t < 2 ∧ (kd t = 0 → cz t = 0) ∧ ((kd t = 1 ∨ kd t = 2) → cz t = 1) ∧ (kd t = 3 → cz t = cz (th t)) ∧ (kd t = 4 → cz t = cz (sn t)) ∧ (kd t = 5 → (cz t = 1 ↔ cz (fs t) = 1 ∧ cz (sn t) = 1))
section
variable {A mN mD n dc ca : Nat} {kd fs sn th tl cz dk di dj bl : Nat → Nat}
variable {s : XS}
theorem xv_K1 (W : fd_wf n A kd fs sn th) (Z : cz_ok n kd fs sn th cz) {i t : Nat} (ht : t < n) (hz : cz t = 1) (hi : t ≤ i) : xv_K A kd fs sn th tl (fun x => x < n ∧ cz x = 1 ∧ x < i) t := by
  have w := W t ht
  have z := Z t ht
  refine ⟨⟨w.2.1, fun k => ⟨(w.2.2.2.2.1 k).1, ?_⟩, fun k => ?_⟩, fun k => ?_, fun k => ?_⟩
  · have := (w.2.2.2.2.1 k).2
    have := z.2.2.2.2.1 k
    exact ⟨by omega, by omega, by omega⟩
  · have h := w.2.2.2.2.2 k
    have h2 := (z.2.2.2.2.2 k).mp hz
    exact ⟨⟨by omega, h2.1, by omega⟩, ⟨by omega, h2.2, by omega⟩⟩
  · have := z.2.1 k; omega
  · have := (w.2.2.2.1 k).2.2
    have := z.2.2.2.1 k
    exact ⟨by omega, by omega, by omega⟩
theorem xv_K2 (W : fd_wf n A kd fs sn th) (Z : cz_ok n kd fs sn th cz) (T : ∀ t, t < n → kd t = 0 → tl t < n ∧ cz (tl t) = 1) {i t : Nat} (ht : t < n) (hi : cz t = 1 ∨ t ≤ i) : xv_K A kd fs sn th tl (fun x => x < n ∧ (cz x = 1 ∨ x < i)) t := by
  have w := W t ht
  have z := Z t ht
  refine ⟨⟨w.2.1, fun k => ⟨(w.2.2.2.2.1 k).1, ?_⟩, fun k => ?_⟩, fun k => ?_, fun k => ?_⟩
  · have := (w.2.2.2.2.1 k).2
    have := z.2.2.2.2.1 k
    exact ⟨by omega, by omega⟩
  · have h := w.2.2.2.2.2 k
    have h2 := z.2.2.2.2.2 k
    rcases hi with hi | hi
    · have h3 := h2.mp hi
      exact ⟨⟨by omega, Or.inl h3.1⟩, ⟨by omega, Or.inl h3.2⟩⟩
    · exact ⟨⟨by omega, Or.inr (by omega)⟩, ⟨by omega, Or.inr (by omega)⟩⟩
  · have := T t ht k
    exact ⟨this.1, Or.inl this.2⟩
  · have := (w.2.2.2.1 k).2.2
    have := z.2.2.2.1 k
    exact ⟨by omega, by omega⟩
theorem xv_lo_tr {s s' s'' : XS} (h : xv_lo s s') (h' : xv_lo s' s'') : xv_lo s s'' := fun x hx => ⟨(h' x hx).1.trans (h x hx).1, (h' x hx).2.1.trans (h x hx).2.1, (h' x hx).2.2.trans (h x hx).2.2⟩
theorem xw_evaluate {post : SX → Prop} (hA : yp_A A) (hn : n ≤ 16) (W : fd_wf n A kd fs sn th) (Z : cz_ok n kd fs sn th cz) (T : ∀ t, t < n → kd t = 0 → tl t < n ∧ cz (tl t) = 1)
    (h : ∀ s', xv n A kd fs sn th tl (fun t => t < n) s'.2.2.1 s'.2.2.2.1 s'.2.2.2.2.1 → xv_lo s s' → post (xt A mN mD n dc ca kd fs sn th tl cz dk di dj bl s')) : wpX_evaluate post (xt A mN mD n dc ca kd fs sn th tl cz dk di dj bl s) := by
  unfold wpX_evaluate
  have qz : ∀ i, i < n → (nA cz (nI i).toNatClampNeg = 0 ↔ cz i = 0) := fun i hi => br_aq (j := 0) rfl (by omega) (by have := (Z i hi).1; omega) (by decide)
  refine loop_0 (fun k i (C : Nat → Nat) => wX_evaluate_2 post 228 16 (nI A) (nI (2 ^ A - 1)) (nI mN) (nI mD) (nI n) (nI dc) (nI ca) (nI (s.1)) (nI (s.2.1)) k (nI i) (nA kd) (nA fs) (nA sn) (nA th) (nA tl) (nA cz) (nA dk) (nA di) (nA dj) (nA (C)) (nA (s.2.2.2.1)) (nA (s.2.2.2.2.1)) (nA bl) (nA (s.2.2.2.2.2))) (fun i C => (∀ t, t < i → C (16 + t) = 4294967295) ∧ ∀ x, x < 16 → C x = s.2.2.1 x) n s.2.2.1 ⟨fun t ht => by omega, fun _ _ => rfl⟩ ?_ ?_
  · rintro k C ⟨I1, I2⟩
    have X0 : xv n A kd fs sn th tl (fun x => x < n ∧ cz x = 1 ∧ x < 0) C s.2.2.2.1 s.2.2.2.2.1 := by
      exact ⟨fun x hx => absurd hx.2.2.2 (Nat.not_lt_zero _), fun t ht _ => I1 t ht, fun t ht => absurd ht.2.2 (Nat.not_lt_zero _), fun t ht => absurd ht.2.2 (Nat.not_lt_zero _), fun t ht => absurd ht.2.2 (Nat.not_lt_zero _), fun t r ht => absurd ht.2.2 (Nat.not_lt_zero _), fun t ht => absurd ht.2.2 (Nat.not_lt_zero _), fun t r ht => absurd ht.2.2 (Nat.not_lt_zero _)⟩
    refine br_t (nI_le (Nat.le_refl _) (by omega)) ?_
    refine loop_0 (fun k i (st : XS) => wX_evaluate_28 post k (nI i) 228 16 (nI A) (nI (2 ^ A - 1)) (nI mN) (nI mD) (nI n) (nI dc) (nI ca) (nI (st.1)) (nI (st.2.1)) (nA kd) (nA fs) (nA sn) (nA th) (nA tl) (nA cz) (nA dk) (nA di) (nA dj) (nA (st.2.2.1)) (nA (st.2.2.2.1)) (nA (st.2.2.2.2.1)) (nA bl) (nA (st.2.2.2.2.2))) (fun i st => xv n A kd fs sn th tl (fun x => x < n ∧ cz x = 1 ∧ x < i) st.2.2.1 st.2.2.2.1 st.2.2.2.2.1 ∧ xv_lo s st) n (s.1, s.2.1, C, s.2.2.2.1, s.2.2.2.2.1, s.2.2.2.2.2) ⟨X0, fun x hx => ⟨I2 x hx, rfl, rfl⟩⟩ ?_ ?_
    · rintro k' st ⟨J1, J2⟩
      have X1 : xv n A kd fs sn th tl (fun x => x < n ∧ (cz x = 1 ∨ x < 0)) st.2.2.1 st.2.2.2.1 st.2.2.2.2.1 := xv_cg J1 fun x => ⟨fun z => ⟨z.1, Or.inl z.2.1⟩, fun z => ⟨z.1, by omega, z.1⟩⟩
      refine br_t (nI_le (Nat.le_refl _) (by omega)) ?_
      refine loop_0 (fun k i (st : XS) => wX_evaluate_58 post k (nI i) 228 16 (nI A) (nI (2 ^ A - 1)) (nI mN) (nI mD) (nI n) (nI dc) (nI ca) (nI (st.1)) (nI (st.2.1)) (nA kd) (nA fs) (nA sn) (nA th) (nA tl) (nA cz) (nA dk) (nA di) (nA dj) (nA (st.2.2.1)) (nA (st.2.2.2.1)) (nA (st.2.2.2.2.1)) (nA bl) (nA (st.2.2.2.2.2))) (fun i st => xv n A kd fs sn th tl (fun x => x < n ∧ (cz x = 1 ∨ x < i)) st.2.2.1 st.2.2.2.1 st.2.2.2.2.1 ∧ xv_lo s st) n st ⟨X1, J2⟩ ?_ ?_
      · rintro k2 st2 ⟨L1, L2⟩
        exact br_t (nI_le (Nat.le_refl _) (by omega)) (h st2 (xv_cg L1 fun x => ⟨fun z => z.1, fun z => ⟨z, Or.inr z⟩⟩) L2)
      · rintro k2 i st2 hi ⟨L1, L2⟩ next
        have vi : vp_in (nI i) 16 := vp_in_nI (by omega) (by decide)
        have zi := (Z i hi).1
        refine br_f (nI_ge hi (by omega)) (And.intro vi (br_c (fun w => ?_) (fun w => nm_r (nI_1 i) (next st2 ⟨xv_cg L1 fun x => ⟨fun z => ⟨z.1, by omega⟩, fun z => ⟨z.1, ?_⟩⟩, L2⟩))))
        · have c0 := (qz i hi).mp w
          refine xw_valuate rfl hA hn W L1 (fun x hx => ⟨hx.1, xv_K2 W Z T hx.1 (by omega)⟩) hi (fun z => by omega) (xv_K2 W Z T hi (Or.inr (Nat.le_refl _))) fun s' X' lo' => nm_r (nI_1 i) (next s' ⟨xv_cg X' fun x => ⟨fun z => ?_, fun z => ?_⟩, xv_lo_tr L2 lo'⟩)
          · rcases z with z | z
            · exact ⟨z.1, by omega⟩
            · exact ⟨by omega, by omega⟩
          · by_cases e : x = i
            · exact Or.inr e
            · exact Or.inl ⟨z.1, by omega⟩
        · have c1 : cz i ≠ 0 := fun z => w ((qz i hi).mpr z)
          by_cases e : x = i
          · rw [e]; omega
          · omega
    · rintro k' i st hi ⟨J1, J2⟩ next
      have vi : vp_in (nI i) 16 := vp_in_nI (by omega) (by decide)
      have zi := (Z i hi).1
      refine br_f (nI_ge hi (by omega)) (And.intro vi (br_c (fun w => nm_r (nI_1 i) (next st ⟨xv_cg J1 fun x => ⟨fun z => ⟨z.1, z.2.1, by omega⟩, fun z => ⟨z.1, z.2.1, ?_⟩⟩, J2⟩)) (fun w => ?_)))
      · have c0 := (qz i hi).mp w
        have : x ≠ i := fun e => by rw [e] at z; omega
        omega
      · have c1 : cz i = 1 := by
          have : cz i ≠ 0 := fun z => w ((qz i hi).mpr z)
          omega
        refine xw_valuate rfl hA hn W J1 (fun x hx => ⟨hx.1, xv_K1 W Z hx.1 hx.2.1 (by omega)⟩) hi (fun z => by omega) (xv_K1 W Z hi c1 (Nat.le_refl _)) fun s' X' lo' => nm_r (nI_1 i) (next s' ⟨xv_cg X' fun x => ⟨fun z => ?_, fun z => ?_⟩, xv_lo_tr J2 lo'⟩)
        · rcases z with z | z
          · exact ⟨z.1, z.2.1, by omega⟩
          · exact ⟨by omega, by rw [z]; exact c1, by omega⟩
        · by_cases e : x = i
          · exact Or.inr e
          · exact Or.inl ⟨z.1, z.2.1, by omega⟩
  · rintro k i C hi ⟨I1, I2⟩ next
    have e16 : (16 : Int32) + nI i = nI (16 + i) := nI_add 16 i
    refine br_f (nI_ge hi (by omega)) (And.intro (by rw [e16]; exact vp_in_nI (by omega) (by decide)) (nm_r (e' := nA (ud C (16 + i) 4294967295)) (by rw [e16, br_m1]; exact nA_ud (by omega)) (nm_r (nI_1 i) (next _ ⟨fun t ht => ?_, fun x hx => ?_⟩))))
    · by_cases e : t = i
      · rw [e, ud_s]
      · rw [ud_n (by omega)]; exact I1 t (by omega)
    · rw [ud_n (by omega)]; exact I2 x hx
theorem xw_unset {post : Int32 → Prop} (hn : n ≤ 16) (W : fd_wf n A kd fs sn th) (bt : ∀ t, t < n → tl t < 4294967296) (h1 : (∃ t, t < n ∧ kd t = 0 ∧ tl t = 4294967295) → post 1) (h0 : (∀ t, t < n → kd t = 0 → tl t ≠ 4294967295) → post 0) : wpX_unset post (xt A mN mD n dc ca kd fs sn th tl cz dk di dj bl s) := by
  unfold wpX_unset
  refine loop_0 (fun k i (_ : Unit) => wX_unset_2 post 228 16 (nI A) (nI (2 ^ A - 1)) (nI mN) (nI mD) (nI n) (nI dc) (nI ca) (nI (s.1)) (nI (s.2.1)) (nA kd) (nA fs) (nA sn) (nA th) (nA tl) (nA cz) (nA dk) (nA di) (nA dj) (nA (s.2.2.1)) (nA (s.2.2.2.1)) (nA (s.2.2.2.2.1)) (nA bl) (nA (s.2.2.2.2.2)) k (nI i)) (fun i _ => ∀ t, t < i → kd t = 0 → tl t ≠ 4294967295) n () (fun t ht => by omega) ?_ ?_
  · rintro k _ I
    exact br_t (nI_le (Nat.le_refl _) (by omega)) (h0 I)
  · rintro k i _ hi I next
    have vi : vp_in (nI i) 16 := vp_in_nI (by omega) (by decide)
    have wi := (W i hi).1
    have q0 : (nA kd (nI i).toNatClampNeg = 0 ↔ kd i = 0) := br_aq (j := 0) rfl (by omega) (by omega) (by decide)
    have q1 : (nA tl (nI i).toNatClampNeg = -1 ↔ tl i = 4294967295) := br_aq br_m1 (by omega) (bt i hi) (by decide)
    refine br_f (nI_ge hi (by omega)) (And.intro vi (br_c (fun w => And.intro vi (br_c (fun w2 => h1 ⟨i, hi, q0.mp w, q1.mp w2⟩) (fun w2 => nm_r (nI_1 i) (next () fun t ht k0 => ?_)))) (fun w => nm_r (nI_1 i) (next () fun t ht k0 => ?_))))
    · by_cases e : t = i
      · rw [e]; exact fun z => w2 (q1.mpr z)
      · exact I t (by omega) k0
    · by_cases e : t = i
      · rw [e] at k0; exact absurd (q0.mpr k0) w
      · exact I t (by omega) k0
end
end
section
section
variable {A mN mD n dc cl sd : Nat} {kd fs sn th tl dk di dj tp tt ti te tm ov is ak fh : Nat → Nat}
variable {s : YS}
theorem yw_freshNow {post : Int32 → Prop} {t : Nat} {x : Int32} (ex : x = nI t) (hA : yp_A A) (hn : n ≤ 16) (W : fd_wf n A kd fs sn th) (T : yT A tp tt ti te tm) (L : ∀ t, t < n → kd t = 0 → tl t < n) (B : ∀ i, fh i < 2 ^ A) (ht : t < n)
    (h : ∀ w, w < 2 ^ A → (∀ a, a < A → (w.testBit a = true ↔ ev_o A kd fs sn th tl (yo fh) t a)) → post (nI w)) : wpY_freshNow post (yt A mN mD n dc cl sd kd fs sn th tl dk di dj tp tt ti te tm ov is ak fh s) x := by
  subst ex
  have hA4 := yp_A4 hA
  have pw := gp_pw hA4
  have pp := Nat.two_pow_pos A
  obtain ⟨kt, kt1, kt2, kt3, kt4, kt5⟩ := W t ht
  have vt : vp_in (nI t) 16 := vp_in_nI (by omega) (by decide)
  have nk : ∀ j : Nat, j < 4294967296 → kd t ≠ j → ¬ nI (kd t) = nI j := fun j hj z => by rw [br_eq (by omega) hj]; exact z
  unfold wpY_freshNow
  refine And.intro vt (nm_r (nA_at (by omega)) (And.intro vt (nm_r (nA_at (by omega)) (And.intro vt (nm_r (nA_at (by omega)) ?_)))))
  rcases (by omega : kd t = 0 ∨ kd t = 1 ∨ kd t = 2 ∨ kd t = 3 ∨ kd t = 4 ∨ kd t = 5) with k | k | k | k | k | k
  · have l := L t ht k
    have e : nA fh (nA tl (nI t).toNatClampNeg).toNatClampNeg = nI (fh (tl t)) := by rw [nA_at (by omega), nA_at (by omega)]
    refine br_t (by rw [k]; rfl) (And.intro vt (And.intro (by rw [nA_at (by omega)]; exact vp_in_nI (by omega) (by decide)) ?_))
    rw [e]
    refine h _ (B _) fun a ha => ?_
    unfold ev_o; rw [if_pos k]; exact Iff.rfl
  · have f1 := kt1 k
    have nl := br_nl (2 ^ A - 1) (2 ^ fs t)
    refine br_f (nk 0 (by decide) (by omega)) (br_f (nk 3 (by decide) (by omega)) (br_f (nk 4 (by decide) (by omega)) (br_f (nk 5 (by decide) (by omega)) (br_f (nk 2 (by decide) (by omega)) ?_))))
    have e : nI (2 ^ A - 1) &&& (((1 : Int32) <<< (nI (fs t) &&& 31)) ^^^ (-1)) = nI (gp_nd (2 ^ A - 1) (2 ^ fs t)) := by
      rw [br_1 (by omega), br_nd (by omega)]
    show post (nI (2 ^ A - 1) &&& (((1 : Int32) <<< (nI (fs t) &&& 31)) ^^^ (-1)))
    rw [e]
    refine h _ (by omega) fun a ha => ?_
    unfold ev_o; rw [if_neg (by omega), if_neg (by omega), gp_nd_bit, br_all, Nat.testBit_two_pow]
    simp only [Bool.and_eq_true, decide_eq_true_eq, Bool.not_eq_true', decide_eq_false_iff_not]
    constructor
    · rintro ⟨h1, h2⟩
      exact ⟨h1, Or.inl ⟨k, fun z => h2 z.symm⟩⟩
    · rintro ⟨h1, ⟨_, z⟩ | z | ⟨z, _⟩ | ⟨z, _⟩⟩
      · exact ⟨h1, fun w => z w.symm⟩
      all_goals omega
  · refine br_f (nk 0 (by decide) (by omega)) (br_f (nk 3 (by decide) (by omega)) (br_f (nk 4 (by decide) (by omega)) (br_f (nk 5 (by decide) (by omega)) (br_t (by rw [k]; rfl) (h _ (by omega) fun a ha => ?_)))))
    unfold ev_o; rw [if_neg (by omega), if_neg (by omega), br_all, decide_eq_true_eq]
    exact ⟨fun z => ⟨z, Or.inr (Or.inl k)⟩, fun z => z.1⟩
  · have f3 := kt3 k
    have hT := gp_P_tr hA4 f3.1 f3.2.1
    have i := yp_iP hA hT
    have b := B (th t)
    refine br_f (nk 0 (by decide) (by omega)) (br_t (by rw [k]; rfl) (And.intro (yv_4 (by omega) (by decide)) (And.intro vt (And.intro (by rw [nA_at (by omega)]; exact vp_in_nI (by omega) (by decide)) (yw_image (p := yp_ix A (gp_tr (fs t) (sn t))) (m := fh (th t)) (by rw [ya_4 (by omega), T.2.2.2.1 _ _ f3.1 f3.2.1]) (by rw [nA_at (by omega), nA_at (by omega)]) hA T i.1 (by omega) ?_)))))
    rw [i.2]
    have inv2 : ∀ b, b < 4 → gp_ap (gp_tr (fs t) (sn t)) (gp_ap (gp_tr (fs t) (sn t)) b) = b := fun b hb => by
      rw [← gp_cm_ap _ _ b hb, gp_tr2 (by omega) (by omega), gp_id_ap b hb]
    refine h _ (xr_lt2 fun a ha => ?_) fun a ha => ?_
    · obtain ⟨c, _, y, e⟩ := gp_im_bit.mp ha
      rw [← e]; exact gp_ltA hT (by have := gp_bit_lt b y; omega) (gp_bit_lt b y)
    · unfold ev_o; rw [if_neg (by omega), if_pos k, gp_im_bit]
      constructor
      · rintro ⟨c, hc, y, e⟩
        rw [← e, inv2 c hc]; exact y
      · intro z
        exact ⟨_, gp_ap_lt _ _, z, inv2 a (by omega)⟩
  · have f4 := kt4 k
    have b := B (sn t)
    have lf : 2 ^ fs t < 2 ^ A := Nat.pow_lt_pow_right (by decide) f4.1
    refine br_f (nk 0 (by decide) (by omega)) (br_f (nk 3 (by decide) (by omega)) (br_t (by rw [k]; rfl) (And.intro (vp_in_nI (by omega) (by decide)) ?_)))
    have e : nA fh (nI (sn t)).toNatClampNeg ||| ((1 : Int32) <<< (nI (fs t) &&& 31)) = nI (fh (sn t) ||| 2 ^ fs t) := by
      rw [nA_at (by omega), br_1 (by omega), br_or]
    show post (nA fh (nI (sn t)).toNatClampNeg ||| ((1 : Int32) <<< (nI (fs t) &&& 31)))
    rw [e]
    refine h _ (Nat.or_lt_two_pow b lf) fun a ha => ?_
    unfold ev_o; rw [if_neg (by omega), if_neg (by omega), Nat.testBit_or, Bool.or_eq_true, Nat.testBit_two_pow, decide_eq_true_eq]
    constructor
    · rintro (z | z)
      · exact ⟨ha, Or.inr (Or.inr (Or.inl ⟨k, Or.inr z⟩))⟩
      · exact ⟨ha, Or.inr (Or.inr (Or.inl ⟨k, Or.inl z.symm⟩))⟩
    · rintro ⟨_, ⟨z, _⟩ | z | ⟨_, z⟩ | ⟨z, _⟩⟩
      · omega
      · omega
      · rcases z with z | z
        · exact Or.inr z.symm
        · exact Or.inl z
      · omega
  · have f5 := kt5 k
    have b := B (sn t)
    refine br_f (nk 0 (by decide) (by omega)) (br_f (nk 3 (by decide) (by omega)) (br_f (nk 4 (by decide) (by omega)) (br_t (by rw [k]; rfl) (And.intro (vp_in_nI (by omega) (by decide)) (And.intro (vp_in_nI (by omega) (by decide)) ?_)))))
    have e : nA fh (nI (fs t)).toNatClampNeg &&& nA fh (nI (sn t)).toNatClampNeg = nI (fh (fs t) &&& fh (sn t)) := by
      rw [nA_at (by omega), nA_at (by omega), nx_and]
    show post (nA fh (nI (fs t)).toNatClampNeg &&& nA fh (nI (sn t)).toNatClampNeg)
    rw [e]
    refine h _ (Nat.and_lt_two_pow _ b) fun a ha => ?_
    unfold ev_o; rw [if_neg (by omega), if_neg (by omega), Nat.testBit_and, Bool.and_eq_true]
    constructor
    · rintro ⟨z, z'⟩
      exact ⟨ha, Or.inr (Or.inr (Or.inr ⟨k, z, z'⟩))⟩
    · rintro ⟨_, ⟨z, _⟩ | z | ⟨z, _⟩ | ⟨_, z⟩⟩
      · omega
      · omega
      · omega
      · exact z
/-- a loop that gathers the numbers p with Q p -/
theorem yb_gather {N i r : Nat} {Q : Nat → Prop} (hi : i < N) (I : ∀ j, r.testBit j = true ↔ j < i ∧ Q j) : (Q i → ∀ j, (r ||| 2 ^ i).testBit j = true ↔ j < i + 1 ∧ Q j) ∧ (¬ Q i → ∀ j, r.testBit j = true ↔ j < i + 1 ∧ Q j) := by
  refine ⟨fun q j => ?_, fun q j => ?_⟩
  · rw [Nat.testBit_or, Bool.or_eq_true, Nat.testBit_two_pow, decide_eq_true_eq, I]
    constructor
    · rintro (z | z)
      · exact ⟨by omega, z.2⟩
      · rw [← z]; exact ⟨by omega, q⟩
    · rintro ⟨z, z'⟩
      by_cases e : j = i
      · exact Or.inr e.symm
      · exact Or.inl ⟨by omega, z'⟩
  · rw [I]
    constructor
    · exact fun z => ⟨by omega, z.2⟩
    · rintro ⟨z, z'⟩
      by_cases e : j = i
      · rw [e] at z'; exact absurd z' q
      · exact ⟨by omega, z'⟩
theorem yw_an172 {post : Int32 → Prop} {set sx : Nat} (hA : yp_A A) (T : yT A tp tt ti te tm) (hs : set < 2 ^ yp_np A) (hx : sx < yp_np A)
    (h : ∀ M, (∀ j, M.testBit j = true ↔ j < yp_np A ∧ set.testBit (yp_ix A (gp_cm (yp_c A j) (yp_c A sx))) = true) → post (nI M)) : ∃ n172 : Nat, wY_alikeNow_172 post (nI set) (nI sx) (nI A) (nI mN) (nI mD) (nI n) (nI dc) (nI (yp_np A)) (nI (2 ^ A - 1)) (nI (2 ^ yp_np A - 1)) (nI cl) (nI (s.1)) (nI sd) (nA kd) (nA fs) (nA sn) (nA th) (nA tl) (nA dk) (nA di) (nA dj) (nA tp) (nA tt) (nA ti) (nA te) (nA tm) (nA (s.2.1)) (nA (s.2.2)) (nA ov) (nA is) (nA ak) (nA fh) n172 0 0 := by
  have n24 := (yp_n24 hA).2
  have pn := yb_pw hA
  refine loop_0 (fun k i (r : Nat) => wY_alikeNow_172 post (nI set) (nI sx) (nI A) (nI mN) (nI mD) (nI n) (nI dc) (nI (yp_np A)) (nI (2 ^ A - 1)) (nI (2 ^ yp_np A - 1)) (nI cl) (nI (s.1)) (nI sd) (nA kd) (nA fs) (nA sn) (nA th) (nA tl) (nA dk) (nA di) (nA dj) (nA tp) (nA tt) (nA ti) (nA te) (nA tm) (nA (s.2.1)) (nA (s.2.2)) (nA ov) (nA is) (nA ak) (nA fh) k (nI r) (nI i)) (fun i r => ∀ j, r.testBit j = true ↔ j < i ∧ set.testBit (yp_ix A (gp_cm (yp_c A j) (yp_c A sx))) = true) (yp_np A) 0 (fun j => ?_) ?_ ?_
  · rw [Nat.zero_testBit]
    exact ⟨fun z => absurd z (by decide), fun z => by omega⟩
  · rintro k r I
    exact br_t (nI_le (Nat.le_refl _) (by omega)) (h r I)
  · rintro k p r hp I next
    have im := yp_cix hA (gp_P_cm (yp_cP hA hp).1 (yp_cP hA hx).1)
    have g := yb_gather hp I
    have q : (((nI set >>> ((nA tt (nI p * 24 + nI sx).toNatClampNeg) &&& 31)) &&& 1) = 0) ↔ set.testBit (yp_ix A (gp_cm (yp_c A p) (yp_c A sx))) = false := by
      rw [ya_24 (by omega), T.2.1 p sx hp hx]; exact br_bit (by omega) (by omega)
    refine br_f (nI_ge hp (by omega)) (And.intro (yv_24 (by omega)) (br_c (fun w => nm_r (nI_1 p) (next r (g.2 fun z => ?_))) (fun w => nm_r (e' := nI (r ||| 2 ^ p)) (by rw [br_1 (by omega), br_or]) (nm_r (nI_1 p) (next _ (g.1 (gp_nf fun z => w (q.mpr z))))))))
    rw [q.mp w] at z; exact absurd z (by decide)
theorem yw_an289 {post : Int32 → Prop} {t u : Nat} (hA : yp_A A) (hn : n ≤ 16) (W : fd_wf n A kd fs sn th) (T : yT A tp tt ti te tm) (B : ∀ i, fh i < 2 ^ A) (B2 : ∀ i, ak i < 2 ^ yp_np A) (ht : t < n) (hu : u < n) (ek : kd t = kd u) (kt : kd t = 1 ∨ kd t = 4)
    (h : ∀ M, (∀ j, M.testBit j = true ↔ j < yp_np A ∧ fd_sh kd fs sn (ye A ak) (yo fh) t u (yp_c A j)) → post (nI M)) : ∃ n289 : Nat, wY_alikeNow_289 post (nI (kd t)) (nI (fs t)) (nI (fs u)) (nI (sn t)) (nI (sn u)) (nI A) (nI mN) (nI mD) (nI n) (nI dc) (nI (yp_np A)) (nI (2 ^ A - 1)) (nI (2 ^ yp_np A - 1)) (nI cl) (nI (s.1)) (nI sd) (nA kd) (nA fs) (nA sn) (nA th) (nA tl) (nA dk) (nA di) (nA dj) (nA tp) (nA tt) (nA ti) (nA te) (nA tm) (nA (s.2.1)) (nA (s.2.2)) (nA ov) (nA is) (nA ak) (nA fh) n289 0 0 := by
  have hA4 := yp_A4 hA
  have n24 := (yp_n24 hA).2
  have pn := yb_pw hA
  have pw := gp_pw hA4
  have ft : fs t < A := by
    rcases kt with k | k
    · exact (W t ht).2.1 k
    · exact ((W t ht).2.2.2.2.1 k).1
  have fu : fs u < A := by
    rcases kt with k | k
    · exact (W u hu).2.1 (by omega)
    · exact ((W u hu).2.2.2.2.1 (by omega)).1
  refine loop_0 (fun k i (r : Nat) => wY_alikeNow_289 post (nI (kd t)) (nI (fs t)) (nI (fs u)) (nI (sn t)) (nI (sn u)) (nI A) (nI mN) (nI mD) (nI n) (nI dc) (nI (yp_np A)) (nI (2 ^ A - 1)) (nI (2 ^ yp_np A - 1)) (nI cl) (nI (s.1)) (nI sd) (nA kd) (nA fs) (nA sn) (nA th) (nA tl) (nA dk) (nA di) (nA dj) (nA tp) (nA tt) (nA ti) (nA te) (nA tm) (nA (s.2.1)) (nA (s.2.2)) (nA ov) (nA is) (nA ak) (nA fh) k (nI r) (nI i)) (fun i r => ∀ j, r.testBit j = true ↔ j < i ∧ fd_sh kd fs sn (ye A ak) (yo fh) t u (yp_c A j)) (yp_np A) 0 (fun j => ?_) ?_ ?_
  · rw [Nat.zero_testBit]
    exact ⟨fun z => absurd z (by decide), fun z => by omega⟩
  · rintro k r I
    exact br_t (nI_le (Nat.le_refl _) (by omega)) (h r I)
  · rintro k p r hp I next
    have g := yb_gather hp I
    have Pc := (yp_cP hA hp).1
    have eA : gp_ap (yp_c A p) (fs u) < A := gp_ltA Pc (by omega) fu
    have e1 : nA tp (nI p * 4 + nI (fs u)).toNatClampNeg = nI (gp_ap (yp_c A p) (fs u)) := by rw [ya_4 (by omega), T.1 p _ hp (by omega)]
    have qe : (nI (fs t) = nI (gp_ap (yp_c A p) (fs u))) ↔ fs t = gp_ap (yp_c A p) (fs u) := br_eq (by omega) (by omega)
    have skip : ¬ fd_sh kd fs sn (ye A ak) (yo fh) t u (yp_c A p) → wY_alikeNow_289 post (nI (kd t)) (nI (fs t)) (nI (fs u)) (nI (sn t)) (nI (sn u)) (nI A) (nI mN) (nI mD) (nI n) (nI dc) (nI (yp_np A)) (nI (2 ^ A - 1)) (nI (2 ^ yp_np A - 1)) (nI cl) (nI (s.1)) (nI sd) (nA kd) (nA fs) (nA sn) (nA th) (nA tl) (nA dk) (nA di) (nA dj) (nA tp) (nA tt) (nA ti) (nA te) (nA tm) (nA (s.2.1)) (nA (s.2.2)) (nA ov) (nA is) (nA ak) (nA fh) k (nI r) (nI (p + 1)) := fun z => next r (g.2 z)
    have put : fd_sh kd fs sn (ye A ak) (yo fh) t u (yp_c A p) → wY_alikeNow_406 post (wY_alikeNow_289 post (nI (kd t)) (nI (fs t)) (nI (fs u)) (nI (sn t)) (nI (sn u)) (nI A) (nI mN) (nI mD) (nI n) (nI dc) (nI (yp_np A)) (nI (2 ^ A - 1)) (nI (2 ^ yp_np A - 1)) (nI cl) (nI (s.1)) (nI sd) (nA kd) (nA fs) (nA sn) (nA th) (nA tl) (nA dk) (nA di) (nA dj) (nA tp) (nA tt) (nA ti) (nA te) (nA tm) (nA (s.2.1)) (nA (s.2.2)) (nA ov) (nA is) (nA ak) (nA fh) k) (nI (kd t)) (nI (fs t)) (nI (fs u)) (nI (sn t)) (nI (sn u)) (nI r) (nI p) (nI A) (nI mN) (nI mD) (nI n) (nI dc) (nI (yp_np A)) (nI (2 ^ A - 1)) (nI (2 ^ yp_np A - 1)) (nI cl) (nI (s.1)) (nI sd) (nA kd) (nA fs) (nA sn) (nA th) (nA tl) (nA dk) (nA di) (nA dj) (nA tp) (nA tt) (nA ti) (nA te) (nA tm) (nA (s.2.1)) (nA (s.2.2)) (nA ov) (nA is) (nA ak) (nA fh) := fun z => by
      unfold wY_alikeNow_406
      exact nm_r (e' := nI (r ||| 2 ^ p)) (by rw [br_1 (by omega), br_or]) (nm_r (nI_1 p) (next _ (g.1 z)))
    refine br_f (nI_ge hp (by omega)) (And.intro (yv_4 (by omega) (by decide)) (nm_r e1 ?_))
    rcases kt with k | k
    · refine br_t (by rw [k]; rfl) (br_c (fun w => put ⟨ek, Or.inl ⟨k, (qe.mp w).symm⟩⟩) (fun w => nm_r (nI_1 p) (skip fun z => ?_)))
      obtain ⟨_, ⟨_, z⟩ | ⟨z, _⟩ | ⟨z, _⟩ | ⟨z, _⟩⟩ := z
      · exact w (qe.mpr z.symm)
      all_goals omega
    · have s4 := (W t ht).2.2.2.2.1 k
      have u4 := (W u hu).2.2.2.2.1 (by omega)
      have hT := gp_P_tr hA4 ft eA
      have iT := yp_iP hA hT
      have Pq := gp_P_cm hT Pc
      have iq := yp_cix hA Pq
      have iI := yp_iP hA (gp_P_iv Pc)
      have dA : gp_ap (gp_iv (yp_c A p)) (fs t) < A := gp_ltA (gp_P_iv Pc) (by omega) ft
      have b2 := B2 (sn t * 16 + sn u)
      have bf := B (sn u)
      have e2 : nA te (nI (fs t) * 4 + nI (gp_ap (yp_c A p) (fs u))).toNatClampNeg = nI (yp_ix A (gp_tr (fs t) (gp_ap (yp_c A p) (fs u)))) := by
        rw [ya_4 (by omega), T.2.2.2.1 _ _ ft eA]
      have e3 : nA tt (nA te (nI (fs t) * 4 + nI (gp_ap (yp_c A p) (fs u))).toNatClampNeg * 24 + nI p).toNatClampNeg = nI (yp_ix A (gp_cm (gp_tr (fs t) (gp_ap (yp_c A p) (fs u))) (yp_c A p))) := by
        rw [e2, ya_24 (by omega), T.2.1 _ _ iT.1 hp, iT.2]
      have e4 : nA ti (nI p).toNatClampNeg = nI (yp_ix A (gp_iv (yp_c A p))) := by rw [nA_at (by omega), T.2.2.1 p hp]
      have e5 : nA tp (nA ti (nI p).toNatClampNeg * 4 + nI (fs t)).toNatClampNeg = nI (gp_ap (gp_iv (yp_c A p)) (fs t)) := by
        rw [e4, ya_4 (by omega), T.1 _ _ iI.1 (by omega), iI.2]
      have ql : (((nA ak (nI (sn t) * 16 + nI (sn u)).toNatClampNeg) >>> ((nA tt (nA te (nI (fs t) * 4 + nI (gp_ap (yp_c A p) (fs u))).toNatClampNeg * 24 + nI p).toNatClampNeg) &&& 31)) &&& 1) = 0 ↔ (ak (sn t * 16 + sn u)).testBit (yp_ix A (gp_cm (gp_tr (fs t) (gp_ap (yp_c A p) (fs u))) (yp_c A p))) = false := by
        rw [e3, ya_16 (by omega)]; exact br_bit (by omega) (by omega)
      have qo : (((nA fh (nI (sn u)).toNatClampNeg) >>> ((nA tp (nA ti (nI p).toNatClampNeg * 4 + nI (fs t)).toNatClampNeg) &&& 31)) &&& 1) = 0 ↔ (fh (sn u)).testBit (gp_ap (gp_iv (yp_c A p)) (fs t)) = false := by
        rw [e5, nA_at (by omega)]; exact br_bit (by omega) (by omega)
      have shq : ∀ z, fd_sh kd fs sn (ye A ak) (yo fh) t u z → ye A ak (sn t) (sn u) (gp_cm (gp_tr (fs t) (gp_ap z (fs u))) z) ∧ (fs t = gp_ap z (fs u) ∨ yo fh (sn u) (gp_ap (gp_iv z) (fs t))) := fun z y => by
        obtain ⟨_, ⟨y, _⟩ | ⟨y, _⟩ | ⟨_, y⟩ | ⟨y, _⟩⟩ := y
        · omega
        · omega
        · exact y
        · omega
      refine br_f (by rw [k]; decide) (And.intro (yv_16 (by omega)) (And.intro (yv_4 (by omega) (by decide)) (And.intro (by rw [e2]; exact yv_24 (by omega)) (br_c (fun w => nm_r (nI_1 p) (skip fun z => ?_)) (fun w => br_c (fun w2 => put ⟨ek, Or.inr (Or.inr (Or.inl ⟨k, gp_nf fun z => w (ql.mpr z), Or.inl (qe.mp w2)⟩))⟩) (fun w2 => And.intro (vp_in_nI (by omega) (by decide)) (And.intro (vp_in_nI (by omega) (by decide)) (And.intro (by rw [e4]; exact yv_4 (by omega) (by decide)) (br_c (fun w3 => nm_r (nI_1 p) (skip fun z => ?_)) (fun w3 => put ⟨ek, Or.inr (Or.inr (Or.inl ⟨k, gp_nf fun z => w (ql.mpr z), Or.inr (gp_nf fun z => w3 (qo.mpr z))⟩))⟩))))))))))
      · have := (shq _ z).1
        unfold ye at this
        rw [ql.mp w] at this; exact absurd this (by decide)
      · have := (shq _ z).2.resolve_left fun y => w2 (qe.mpr y)
        unfold yo at this
        rw [qo.mp w3] at this; exact absurd this (by decide)
end
end
section
/-- masks of numbers below np, by permutation -/
theorem yb_all {A M : Nat} {Q : Nat → Prop} (hA : yp_A A) (I : ∀ j, M.testBit j = true ↔ j < yp_np A ∧ Q (yp_c A j)) : M < 2 ^ yp_np A ∧ ∀ c, gp_P A c → (M.testBit (yp_ix A c) = true ↔ Q c) := by
  refine ⟨xr_lt2 fun j hj => ((I j).mp hj).1, fun c hc => ?_⟩
  have i := yp_iP hA hc
  rw [I, i.2]
  exact ⟨fun z => z.2, fun z => ⟨i.1, z⟩⟩
section
variable {A mN mD n dc cl sd : Nat} {kd fs sn th tl dk di dj tp tt ti te tm ov is ak fh : Nat → Nat}
variable {s : YS}
theorem yw_alikeNow {post : Int32 → Prop} {t u : Nat} {x y : Int32} (ex : x = nI t) (ey : y = nI u) (hA : yp_A A) (hn : n ≤ 16) (W : fd_wf n A kd fs sn th) (T : yT A tp tt ti te tm) (L : ∀ t, t < n → kd t = 0 → tl t < n) (B : ∀ i, fh i < 2 ^ A) (B2 : ∀ i, ak i < 2 ^ yp_np A) (ht : t < n) (hu : u < n)
    (h : ∀ M, M < 2 ^ yp_np A → (∀ c, gp_P A c → (M.testBit (yp_ix A c) = true ↔ ev_r A kd fs sn th tl (ye A ak) (yo fh) t u c)) → post (nI M)) : wpY_alikeNow post (yt A mN mD n dc cl sd kd fs sn th tl dk di dj tp tt ti te tm ov is ak fh s) x y := by
  subst ex ey
  have hA4 := yp_A4 hA
  have n24 := (yp_n24 hA).2
  have pn := yb_pw hA
  have pp := Nat.two_pow_pos (yp_np A)
  obtain ⟨kt, kt1, kt2, kt3, kt4, kt5⟩ := W t ht
  obtain ⟨ku, ku1, ku2, ku3, ku4, ku5⟩ := W u hu
  have vt : vp_in (nI t) 16 := vp_in_nI (by omega) (by decide)
  have vu : vp_in (nI u) 16 := vp_in_nI (by omega) (by decide)
  have qk : ∀ j : Nat, j < 4294967296 → (nI (kd t) = nI j ↔ kd t = j) := fun j hj => br_eq (by omega) hj
  have qu : ∀ (j : Nat) (v : Int32), v = nI j → j < 4294967296 → (nA kd (nI u).toNatClampNeg = v ↔ kd u = j) := fun j v hv hj => br_aq hv (by omega) (by omega) hj
  unfold wpY_alikeNow
  refine And.intro vt (nm_r (nA_at (by omega)) (And.intro vt (nm_r (nA_at (by omega)) (And.intro vu (nm_r (nA_at (by omega)) (And.intro vt (nm_r (nA_at (by omega)) (And.intro vu (nm_r (nA_at (by omega)) ?_)))))))))
  by_cases k0 : kd t = 0
  · have l := L t ht k0
    refine br_t ((qk 0 (by decide)).mpr k0) (And.intro vt (And.intro (by rw [nA_at (by omega)]; exact yv_16 (by omega)) ?_))
    have e : nA ak (nA tl (nI t).toNatClampNeg * 16 + nI u).toNatClampNeg = nI (ak (tl t * 16 + u)) := by rw [nA_at (f := tl) (by omega), ya_16 (by omega)]
    show post (nA ak (nA tl (nI t).toNatClampNeg * 16 + nI u).toNatClampNeg)
    rw [e]
    refine h _ (B2 _) fun c hc => ?_
    unfold ev_r; rw [if_pos k0]; exact Iff.rfl
  · refine br_f (fun w => k0 ((qk 0 (by decide)).mp w)) ?_
    by_cases k3 : kd t = 3
    · have f3 := kt3 k3
      have hT := gp_P_tr hA4 f3.1 f3.2.1
      have i := yp_iP hA hT
      refine br_t ((qk 3 (by decide)).mpr k3) (And.intro (yv_4 (by omega) (by decide)) (And.intro vt (And.intro (by rw [nA_at (by omega)]; exact yv_16 (by omega)) (yw_moved (p := yp_ix A (gp_tr (fs t) (sn t))) (set := ak (th t * 16 + u)) (by rw [ya_4 (by omega), T.2.2.2.1 _ _ f3.1 f3.2.1]) (by rw [nA_at (f := th) (by omega), ya_16 (by omega)]) hA T i.1 (B2 _) fun M hM hb => h M hM fun c hc => ?_))))
      unfold ev_r; rw [if_neg k0, if_pos k3, hb c hc, i.2]
      have inv : ∀ d, gp_P A d → gp_cm (gp_tr (fs t) (sn t)) (gp_cm (gp_tr (fs t) (sn t)) d) = d := fun d hd => by
        rw [← gp_assoc, gp_tr2 (by omega) (by omega), gp_1l hd.1]
      constructor
      · rintro ⟨d, hd, z, e⟩
        rw [e, inv d hd]; exact z
      · exact fun z => ⟨_, gp_P_cm hT hc, z, (inv c hc).symm⟩
    · refine br_f (fun w => k3 ((qk 3 (by decide)).mp w)) (And.intro vu ?_)
      by_cases j0 : kd u = 0
      · have l := L u hu j0
        refine br_t ((qu 0 0 rfl (by decide)).mpr j0) (And.intro vu (And.intro (by rw [nA_at (by omega)]; exact yv_16 (by omega)) ?_))
        have e : nA ak (nI t * 16 + nA tl (nI u).toNatClampNeg).toNatClampNeg = nI (ak (t * 16 + tl u)) := by rw [nA_at (f := tl) (by omega), ya_16 (by omega)]
        show post (nA ak (nI t * 16 + nA tl (nI u).toNatClampNeg).toNatClampNeg)
        rw [e]
        refine h _ (B2 _) fun c hc => ?_
        unfold ev_r; rw [if_neg k0, if_neg k3, if_pos j0]; exact Iff.rfl
      · refine br_f (fun w => j0 ((qu 0 0 rfl (by decide)).mp w)) (And.intro vu ?_)
        by_cases j3 : kd u = 3
        · have f3 := ku3 j3
          have hT := gp_P_tr hA4 f3.1 f3.2.1
          have i := yp_iP hA hT
          have e1 : nA ak (nI t * 16 + nA th (nI u).toNatClampNeg).toNatClampNeg = nI (ak (t * 16 + th u)) := by rw [nA_at (f := th) (by omega), ya_16 (by omega)]
          have e2 : nA te (nI (fs u) * 4 + nI (sn u)).toNatClampNeg = nI (yp_ix A (gp_tr (fs u) (sn u))) := by rw [ya_4 (by omega), T.2.2.2.1 _ _ f3.1 f3.2.1]
          refine br_t ((qu 3 3 rfl (by decide)).mpr j3) (And.intro vu (And.intro (by rw [nA_at (by omega)]; exact yv_16 (by omega)) (nm_r e1 (And.intro (yv_4 (by omega) (by decide)) (nm_r e2 (yw_an172 hA T (B2 _) i.1 fun M hb => ?_))))))
          obtain ⟨m1, m2⟩ := yb_all (M := M) (Q := fun c => (ak (t * 16 + th u)).testBit (yp_ix A (gp_cm c (gp_tr (fs u) (sn u)))) = true) hA fun j => by rw [hb, i.2]
          refine h M m1 fun c hc => ?_
          unfold ev_r; rw [if_neg k0, if_neg k3, if_neg j0, if_pos j3]; exact m2 c hc
        · refine br_f (fun w => j3 ((qu 3 3 rfl (by decide)).mp w)) (And.intro vu ?_)
          have er : ∀ c, ev_r A kd fs sn th tl (ye A ak) (yo fh) t u c = fd_sh kd fs sn (ye A ak) (yo fh) t u c := fun c => by
            unfold ev_r; rw [if_neg k0, if_neg k3, if_neg j0, if_neg j3]
          have zero : (∀ c, gp_P A c → ¬ fd_sh kd fs sn (ye A ak) (yo fh) t u c) → post 0 := fun z => h 0 pp fun c hc => by
            rw [er, Nat.zero_testBit]
            exact ⟨fun y => absurd y (by decide), fun y => absurd y (z c hc)⟩
          have qq : (nI (kd t) = nA kd (nI u).toNatClampNeg) ↔ kd t = kd u := by rw [nA_at (by omega), br_eq (by omega) (by omega)]
          by_cases ek : kd t = kd u
          · refine br_t (qq.mpr ek) ?_
            by_cases k2 : kd t = 2
            · have f2 := kt2 k2
              have g2 := ku2 (by omega)
              refine br_t ((qk 2 (by decide)).mpr k2) (br_c (fun w => h _ (by omega) fun c hc => ?_) (fun w => zero fun c hc z => ?_))
              · rw [er, br_all, decide_eq_true_eq]
                exact ⟨fun _ => ⟨ek, Or.inr (Or.inl ⟨k2, (br_eq (by omega) (by omega)).mp w⟩)⟩, fun _ => (yp_iP hA hc).1⟩
              · obtain ⟨_, ⟨z, _⟩ | ⟨_, z⟩ | ⟨z, _⟩ | ⟨z, _⟩⟩ := z
                · omega
                · exact w (by rw [z])
                · omega
                · omega
            · refine br_f (fun w => k2 ((qk 2 (by decide)).mp w)) ?_
              by_cases k5 : kd t = 5
              · have f5 := kt5 k5
                have g5 := ku5 (by omega)
                refine br_t ((qk 5 (by decide)).mpr k5) (And.intro (yv_16 (by omega)) (And.intro (yv_16 (by omega)) ?_))
                show post (nA ak (nI (fs t) * 16 + nI (fs u)).toNatClampNeg &&& nA ak (nI (sn t) * 16 + nI (sn u)).toNatClampNeg)
                rw [ya_an (by omega) (by omega)]
                refine h _ (Nat.and_lt_two_pow _ (B2 _)) fun c hc => ?_
                rw [er, Nat.testBit_and, Bool.and_eq_true]
                constructor
                · exact fun z => ⟨ek, Or.inr (Or.inr (Or.inr ⟨k5, z⟩))⟩
                · rintro ⟨_, ⟨z, _⟩ | ⟨z, _⟩ | ⟨z, _⟩ | ⟨_, z⟩⟩
                  · omega
                  · omega
                  · omega
                  · exact z
              · refine br_f (fun w => k5 ((qk 5 (by decide)).mp w)) (yw_an289 hA hn W T B B2 ht hu ek (by omega) fun M hb => ?_)
                obtain ⟨m1, m2⟩ := yb_all (M := M) (Q := fun c => fd_sh kd fs sn (ye A ak) (yo fh) t u c) hA hb
                exact h M m1 fun c hc => by rw [er]; exact m2 c hc
          · exact br_f (fun w => ek (qq.mp w)) (zero fun c hc z => ek z.1)
end
/-! the passes reach the solution -/
def ef_D (cz : Nat → Nat) (k t : Nat) : Prop := (k = 1 ∧ cz t = 1) ∨ 2 ≤ k
def ea_D (cz : Nat → Nat) (k t u : Nat) : Prop := (k = 1 ∧ cz t = 1 ∧ cz u = 1) ∨ (k = 2 ∧ (cz t = 1 ∨ cz u = 1)) ∨ 3 ≤ k
theorem fd_sh_cg {A : Nat} {kd fs sn : Nat → Nat} {E E' : Nat → Nat → Nat → Prop} {O O' : Nat → Nat → Prop} {t u c : Nat} (hA : A ≤ 4) (hc : gp_P A c) (h4 : kd t = 4 → kd u = 4 → fs t < A ∧ fs u < A ∧ (∀ d, gp_P A d → (E (sn t) (sn u) d ↔ E' (sn t) (sn u) d)) ∧ ∀ a, a < A → (O (sn u) a ↔ O' (sn u) a))
    (h5 : kd t = 5 → kd u = 5 → (∀ d, gp_P A d → (E (fs t) (fs u) d ↔ E' (fs t) (fs u) d)) ∧ ∀ d, gp_P A d → (E (sn t) (sn u) d ↔ E' (sn t) (sn u) d)) : fd_sh kd fs sn E O t u c ↔ fd_sh kd fs sn E' O' t u c := by
  unfold fd_sh
  by_cases ek : kd t = kd u
  · by_cases k4 : kd t = 4
    · obtain ⟨a1, a2, a3, a4⟩ := h4 k4 (by omega)
      have q := gp_P_cm (gp_P_tr hA a1 (gp_ltA hc (by omega) a2)) hc
      rw [a3 _ q, a4 _ (gp_ltA (gp_P_iv hc) (by omega) a1)]
      refine and_congr Iff.rfl (or_congr Iff.rfl (or_congr Iff.rfl (or_congr Iff.rfl ⟨fun z => by omega, fun z => by omega⟩)))
    · by_cases k5 : kd t = 5
      · obtain ⟨a1, a2⟩ := h5 k5 (by omega)
        rw [a1 c hc, a2 c hc]
        refine and_congr Iff.rfl (or_congr Iff.rfl (or_congr Iff.rfl (or_congr ⟨fun z => by omega, fun z => by omega⟩ Iff.rfl)))
      · refine and_congr Iff.rfl (or_congr Iff.rfl (or_congr Iff.rfl (or_congr ⟨fun z => absurd z.1 k4, fun z => absurd z.1 k4⟩ ⟨fun z => absurd z.1 k5, fun z => absurd z.1 k5⟩)))
  · exact ⟨fun z => absurd z.1 ek, fun z => absurd z.1 ek⟩
theorem ea_a {cz : Nat → Nat} {k t u l : Nat} (hk : k < 3) (h : ea_D cz (k + 1) t u) (h0 : cz t = 0) (hl : cz l = 1) : ea_D cz k l u := by
  unfold ea_D at h ⊢; omega
theorem ea_b {cz : Nat → Nat} {k t u l : Nat} (hk : k < 3) (h : ea_D cz (k + 1) t u) (h0 : cz u = 0) (hl : cz l = 1) : ea_D cz k t l := by
  unfold ea_D at h ⊢; omega
theorem ea_c {cz : Nat → Nat} {k t u x y : Nat} (h : ea_D cz k t u) (h1 : cz t = cz x) (h2 : cz u = cz y) : ea_D cz k x y := by
  unfold ea_D at h ⊢; rw [← h1, ← h2]; exact h
theorem ef_a {cz : Nat → Nat} {k t l : Nat} (h : ef_D cz (k + 1) t) (h0 : cz t = 0) (hl : cz l = 1) : ef_D cz k l := by
  unfold ef_D at h ⊢; omega
theorem ef_c {cz : Nat → Nat} {k t x : Nat} (h : ef_D cz k t) (h1 : cz t = cz x) : ef_D cz k x := by
  unfold ef_D at h ⊢; rw [← h1]; exact h
section
variable {n A : Nat} {kd fs sn th tl cz : Nat → Nat} {E : Nat → Nat → Nat → Prop} {O : Nat → Nat → Prop} {ak fh : Nat → Nat}
/-- freshness of t is right when it is right for what t rests on -/
theorem ev_oc (hA : A ≤ 4) (W : fd_wf n A kd fs sn th) (Z : cz_ok n kd fs sn th cz) (T : ∀ t, t < n → kd t = 0 → tl t < n ∧ cz (tl t) = 1) {k t : Nat} (ht : t < n) (hD : ef_D cz (k + 1) t)
    (h : ∀ x a, x < n → a < A → (ef_D cz k x ∨ (ef_D cz (k + 1) x ∧ x < t)) → (yo fh x a ↔ O x a)) {a : Nat} (ha : a < A) : ev_o A kd fs sn th tl (yo fh) t a ↔ ev_o A kd fs sn th tl O t a := by
  have w := W t ht
  have z := Z t ht
  unfold ev_o
  by_cases k0 : kd t = 0
  · rw [if_pos k0, if_pos k0]
    have l := T t ht k0
    exact h _ a l.1 ha (Or.inl (ef_a hD (z.2.1 k0) l.2))
  · rw [if_neg k0, if_neg k0]
    by_cases k3 : kd t = 3
    · rw [if_pos k3, if_pos k3]
      have w3 := w.2.2.2.1 k3
      exact h _ _ (Nat.lt_trans w3.2.2 ht) (gp_ltA (gp_P_tr hA w3.1 w3.2.1) (Nat.lt_of_lt_of_le ha hA) ha) (Or.inr ⟨ef_c hD (z.2.2.2.1 k3), w3.2.2⟩)
    · rw [if_neg k3, if_neg k3]
      unfold fd_ow
      refine and_congr Iff.rfl (or_congr Iff.rfl (or_congr Iff.rfl (or_congr (and_congr_right fun k4 => or_congr Iff.rfl ?_) (and_congr_right fun k5 => ?_))))
      · have w4 := w.2.2.2.2.1 k4
        exact h _ a (Nat.lt_trans w4.2 ht) ha (Or.inr ⟨ef_c hD (z.2.2.2.2.1 k4), w4.2⟩)
      · have w5 := w.2.2.2.2.2 k5
        have z5 := z.2.2.2.2.2 k5
        unfold ef_D at hD
        refine and_congr (h _ a (Nat.lt_trans w5.1 ht) ha (Or.inr ⟨?_, w5.1⟩)) (h _ a (Nat.lt_trans w5.2 ht) ha (Or.inr ⟨?_, w5.2⟩))
        · rcases hD with hD | hD
          · exact Or.inl ⟨hD.1, (z5.mp hD.2).1⟩
          · exact Or.inr hD
        · rcases hD with hD | hD
          · exact Or.inl ⟨hD.1, (z5.mp hD.2).2⟩
          · exact Or.inr hD
/-- likeness of t and u is right when it is right for what they rest on -/
theorem ev_rc (hA : A ≤ 4) (W : fd_wf n A kd fs sn th) (Z : cz_ok n kd fs sn th cz) (T : ∀ t, t < n → kd t = 0 → tl t < n ∧ cz (tl t) = 1) {k t u : Nat} (ht : t < n) (hu : u < n) (hk : k < 3) (hD : ea_D cz (k + 1) t u) (hO : ∀ x a, x < n → a < A → (yo fh x a ↔ O x a))
    (h : ∀ x y c, x < n → y < n → gp_P A c → (ea_D cz k x y ∨ (ea_D cz (k + 1) x y ∧ (x < t ∨ (x = t ∧ y < u)))) → (ye A ak x y c ↔ E x y c)) {c : Nat} (hc : gp_P A c) : ev_r A kd fs sn th tl (ye A ak) (yo fh) t u c ↔ ev_r A kd fs sn th tl E O t u c := by
  have w := W t ht
  have z := Z t ht
  have w' := W u hu
  have z' := Z u hu
  unfold ev_r
  by_cases k0 : kd t = 0
  · rw [if_pos k0, if_pos k0]
    have l := T t ht k0
    exact h _ _ c l.1 hu hc (Or.inl (ea_a hk hD (z.2.1 k0) l.2))
  · rw [if_neg k0, if_neg k0]
    by_cases k3 : kd t = 3
    · rw [if_pos k3, if_pos k3]
      have w3 := w.2.2.2.1 k3
      exact h _ _ _ (Nat.lt_trans w3.2.2 ht) hu (gp_P_cm (gp_P_tr hA w3.1 w3.2.1) hc) (Or.inr ⟨ea_c hD (z.2.2.2.1 k3) rfl, Or.inl w3.2.2⟩)
    · rw [if_neg k3, if_neg k3]
      by_cases j0 : kd u = 0
      · rw [if_pos j0, if_pos j0]
        have l := T u hu j0
        exact h _ _ c ht l.1 hc (Or.inl (ea_b hk hD (z'.2.1 j0) l.2))
      · rw [if_neg j0, if_neg j0]
        by_cases j3 : kd u = 3
        · rw [if_pos j3, if_pos j3]
          have w3 := w'.2.2.2.1 j3
          exact h _ _ _ ht (Nat.lt_trans w3.2.2 hu) (gp_P_cm hc (gp_P_tr hA w3.1 w3.2.1)) (Or.inr ⟨ea_c hD rfl (z'.2.2.2.1 j3), Or.inr ⟨rfl, w3.2.2⟩⟩)
        · rw [if_neg j3, if_neg j3]
          refine fd_sh_cg hA hc (fun k4 j4 => ?_) (fun k5 j5 => ?_)
          · have w4 := w.2.2.2.2.1 k4
            have v4 := w'.2.2.2.2.1 j4
            exact ⟨w4.1, v4.1, fun d hd => h _ _ d (Nat.lt_trans w4.2 ht) (Nat.lt_trans v4.2 hu) hd (Or.inr ⟨ea_c hD (z.2.2.2.2.1 k4) (z'.2.2.2.2.1 j4), Or.inl w4.2⟩), fun a ha => hO _ a (Nat.lt_trans v4.2 hu) ha⟩
          · have w5 := w.2.2.2.2.2 k5
            have z5 := z.2.2.2.2.2 k5
            have v5 := w'.2.2.2.2.2 j5
            have y5 := z'.2.2.2.2.2 j5
            have f1 : ea_D cz (k + 1) (fs t) (fs u) ∧ ea_D cz (k + 1) (sn t) (sn u) := by
              unfold ea_D at hD ⊢
              rcases hD with hD | hD | hD
              · have a := z5.mp hD.2.1
                have b := y5.mp hD.2.2
                exact ⟨Or.inl ⟨hD.1, a.1, b.1⟩, Or.inl ⟨hD.1, a.2, b.2⟩⟩
              · rcases hD.2 with a | a
                · have b := z5.mp a
                  exact ⟨Or.inr (Or.inl ⟨hD.1, Or.inl b.1⟩), Or.inr (Or.inl ⟨hD.1, Or.inl b.2⟩)⟩
                · have b := y5.mp a
                  exact ⟨Or.inr (Or.inl ⟨hD.1, Or.inr b.1⟩), Or.inr (Or.inl ⟨hD.1, Or.inr b.2⟩)⟩
              · exact ⟨Or.inr (Or.inr hD), Or.inr (Or.inr hD)⟩
            exact ⟨fun d hd => h _ _ d (Nat.lt_trans w5.1 ht) (Nat.lt_trans v5.1 hu) hd (Or.inr ⟨f1.1, Or.inl w5.1⟩), fun d hd => h _ _ d (Nat.lt_trans w5.2 ht) (Nat.lt_trans v5.2 hu) hd (Or.inr ⟨f1.2, Or.inl w5.2⟩)⟩
end
end
section
section
variable {A mN mD n dc cl sd : Nat} {kd fs sn th tl dk di dj tp tt ti te tm ov is ak fh : Nat → Nat}
variable {s : YS} {E : Nat → Nat → Nat → Prop} {O : Nat → Nat → Prop} {cz : Nat → Nat}
theorem yw_evaluate {post : SY → Prop} (hA : yp_A A) (hn : n ≤ 16) (W : fd_wf n A kd fs sn th) (T : yT A tp tt ti te tm) (Z : cz_ok n kd fs sn th cz) (L : ∀ t, t < n → kd t = 0 → tl t < n ∧ cz (tl t) = 1) (V : ev n A kd fs sn th tl E O) (B : ∀ i, fh i < 2 ^ A) (B2 : ∀ i, ak i < 2 ^ yp_np A)
    (h : ∀ ak' fh' : Nat → Nat, (∀ i, fh' i < 2 ^ A) → (∀ i, ak' i < 2 ^ yp_np A) → (∀ t a, t < n → a < A → (yo fh' t a ↔ O t a)) → (∀ t u c, t < n → u < n → gp_P A c → (ye A ak' t u c ↔ E t u c)) → post (yt A mN mD n dc cl sd kd fs sn th tl dk di dj tp tt ti te tm ov is (ak') (fh') s)) : wpY_evaluate post (yt A mN mD n dc cl sd kd fs sn th tl dk di dj tp tt ti te tm ov is ak fh s) := by
  have hA4 := yp_A4 hA
  have L1 : ∀ t, t < n → kd t = 0 → tl t < n := fun t ht k => (L t ht k).1
  unfold wpY_evaluate
  refine loop_0 (fun k i (f : Nat → Nat) => wY_evaluate_2 post (nI A) (nI mN) (nI mD) (nI n) (nI dc) (nI (yp_np A)) (nI (2 ^ A - 1)) (nI (2 ^ yp_np A - 1)) (nI cl) (nI (s.1)) (nI sd) k (nI i) (nA kd) (nA fs) (nA sn) (nA th) (nA tl) (nA dk) (nA di) (nA dj) (nA tp) (nA tt) (nA ti) (nA te) (nA tm) (nA (s.2.1)) (nA (s.2.2)) (nA ov) (nA is) (nA ak) (nA (f))) (fun k f => (∀ i, f i < 2 ^ A) ∧ ∀ t a, t < n → a < A → ef_D cz k t → (yo f t a ↔ O t a)) 2 fh ⟨B, fun t a _ _ z => by unfold ef_D at z; omega⟩ ?_ ?_
  · rintro k f ⟨I1, I2⟩
    have I3 : ∀ t a, t < n → a < A → (yo f t a ↔ O t a) := fun t a ht ha => I2 t a ht ha (Or.inr (Nat.le_refl _))
    refine br_t (nI_le (a := 2) (Nat.le_refl _) (by omega)) ?_
    refine loop_0 (fun k i (o : Nat → Nat) => wY_evaluate_42 post (nI A) (nI mN) (nI mD) (nI n) (nI dc) (nI (yp_np A)) (nI (2 ^ A - 1)) (nI (2 ^ yp_np A - 1)) (nI cl) (nI (s.1)) (nI sd) k (nI i) (nA kd) (nA fs) (nA sn) (nA th) (nA tl) (nA dk) (nA di) (nA dj) (nA tp) (nA tt) (nA ti) (nA te) (nA tm) (nA (s.2.1)) (nA (s.2.2)) (nA ov) (nA is) (nA (o)) (nA (f))) (fun k o => (∀ i, o i < 2 ^ yp_np A) ∧ ∀ t u c, t < n → u < n → gp_P A c → ea_D cz k t u → (ye A o t u c ↔ E t u c)) 3 ak ⟨B2, fun t u c _ _ _ z => by unfold ea_D at z; omega⟩ ?_ ?_
    · rintro k' o ⟨J1, J2⟩
      exact br_t (nI_le (a := 3) (Nat.le_refl _) (by omega)) (h o f I1 J1 I3 fun t u c ht hu hc => J2 t u c ht hu hc (Or.inr (Or.inr (Nat.le_refl _))))
    · rintro k' φ o hφ ⟨J1, J2⟩ next
      refine br_f (nI_ge (b := 3) hφ (by omega)) ?_
      refine loop_0 (fun k i (o : Nat → Nat) => wY_evaluate_49 post (wY_evaluate_42 post (nI A) (nI mN) (nI mD) (nI n) (nI dc) (nI (yp_np A)) (nI (2 ^ A - 1)) (nI (2 ^ yp_np A - 1)) (nI cl) (nI (s.1)) (nI sd) k') (nI φ) (nI A) (nI mN) (nI mD) (nI n) (nI dc) (nI (yp_np A)) (nI (2 ^ A - 1)) (nI (2 ^ yp_np A - 1)) (nI cl) (nI (s.1)) (nI sd) k (nI i) (nA kd) (nA fs) (nA sn) (nA th) (nA tl) (nA dk) (nA di) (nA dj) (nA tp) (nA tt) (nA ti) (nA te) (nA tm) (nA (s.2.1)) (nA (s.2.2)) (nA ov) (nA is) (nA (o)) (nA (f))) (fun i o => (∀ i, o i < 2 ^ yp_np A) ∧ ∀ t u c, t < n → u < n → gp_P A c → (ea_D cz φ t u ∨ (ea_D cz (φ + 1) t u ∧ t < i)) → (ye A o t u c ↔ E t u c)) n o ⟨J1, fun t u c ht hu hc z => J2 t u c ht hu hc (z.resolve_right fun y => by omega)⟩ ?_ ?_
      · rintro k2 o2 ⟨K1, K2⟩
        exact br_t (nI_le (Nat.le_refl _) (by omega)) (nm_r (nI_1 φ) (next o2 ⟨K1, fun t u c ht hu hc z => K2 t u c ht hu hc (Or.inr ⟨z, ht⟩)⟩))
      · rintro k2 t o2 ht ⟨K1, K2⟩ next2
        refine br_f (nI_ge ht (by omega)) ?_
        refine loop_0 (fun k i (o : Nat → Nat) => wY_evaluate_59 post (wY_evaluate_42 post (nI A) (nI mN) (nI mD) (nI n) (nI dc) (nI (yp_np A)) (nI (2 ^ A - 1)) (nI (2 ^ yp_np A - 1)) (nI cl) (nI (s.1)) (nI sd) k') (wY_evaluate_49 post (wY_evaluate_42 post (nI A) (nI mN) (nI mD) (nI n) (nI dc) (nI (yp_np A)) (nI (2 ^ A - 1)) (nI (2 ^ yp_np A - 1)) (nI cl) (nI (s.1)) (nI sd) k') (nI φ) (nI A) (nI mN) (nI mD) (nI n) (nI dc) (nI (yp_np A)) (nI (2 ^ A - 1)) (nI (2 ^ yp_np A - 1)) (nI cl) (nI (s.1)) (nI sd) k2) (nI φ) (nI t) (nI A) (nI mN) (nI mD) (nI n) (nI dc) (nI (yp_np A)) (nI (2 ^ A - 1)) (nI (2 ^ yp_np A - 1)) (nI cl) (nI (s.1)) (nI sd) k (nI i) (nA kd) (nA fs) (nA sn) (nA th) (nA tl) (nA dk) (nA di) (nA dj) (nA tp) (nA tt) (nA ti) (nA te) (nA tm) (nA (s.2.1)) (nA (s.2.2)) (nA ov) (nA is) (nA (o)) (nA (f))) (fun i o => (∀ i, o i < 2 ^ yp_np A) ∧ ∀ x y c, x < n → y < n → gp_P A c → (ea_D cz φ x y ∨ (ea_D cz (φ + 1) x y ∧ (x < t ∨ (x = t ∧ y < i)))) → (ye A o x y c ↔ E x y c)) n o2 ⟨K1, fun x y c hx hy hc z => K2 x y c hx hy hc (by
          rcases z with z | ⟨z, z'⟩
          · exact Or.inl z
          · exact Or.inr ⟨z, by omega⟩)⟩ ?_ ?_
        · rintro k3 o3 ⟨M1, M2⟩
          refine br_t (nI_le (Nat.le_refl _) (by omega)) (nm_r (nI_1 t) (next2 o3 ⟨M1, fun x y c hx hy hc z => M2 x y c hx hy hc ?_⟩))
          rcases z with z | ⟨z, z'⟩
          · exact Or.inl z
          · exact Or.inr ⟨z, by omega⟩
        · rintro k3 u o3 hu ⟨M1, M2⟩ next3
          refine br_f (nI_ge hu (by omega)) (yw_alikeNow (ak := o3) (fh := f) rfl rfl hA hn W T L1 I1 M1 ht hu fun M hM hb => And.intro (yv_16 (by omega)) (nm_r (e' := nA (ud o3 (t * 16 + u) M)) (by rw [yi_16]; exact nA_ud (by omega)) (nm_r (nI_1 u) (next3 _ ⟨fun i => ?_, fun x y c hx hy hc z => ?_⟩))))
          · by_cases e : i = t * 16 + u
            · rw [e, ud_s]; exact hM
            · rw [ud_n e]; exact M1 i
          · unfold ye
            by_cases e : x * 16 + y = t * 16 + u
            · have e1 : x = t := by omega
              have e2 : y = u := by omega
              rw [e, ud_s, hb c hc, e1, e2, V.1 t u c ht hu hc]
              refine ev_rc hA4 W Z L ht hu hφ ?_ I3 M2 hc
              rw [e1, e2] at z
              rcases z with z | ⟨z, _⟩
              · unfold ea_D at z ⊢; omega
              · exact z
            · rw [ud_n e]
              refine M2 x y c hx hy hc ?_
              rcases z with z | ⟨z, z'⟩
              · exact Or.inl z
              · exact Or.inr ⟨z, by omega⟩
  · rintro k φ f hφ ⟨I1, I2⟩ next
    refine br_f (nI_ge (b := 2) hφ (by omega)) ?_
    refine loop_0 (fun k' i (f : Nat → Nat) => wY_evaluate_9 post (wY_evaluate_2 post (nI A) (nI mN) (nI mD) (nI n) (nI dc) (nI (yp_np A)) (nI (2 ^ A - 1)) (nI (2 ^ yp_np A - 1)) (nI cl) (nI (s.1)) (nI sd) k) (nI φ) (nI A) (nI mN) (nI mD) (nI n) (nI dc) (nI (yp_np A)) (nI (2 ^ A - 1)) (nI (2 ^ yp_np A - 1)) (nI cl) (nI (s.1)) (nI sd) k' (nI i) (nA kd) (nA fs) (nA sn) (nA th) (nA tl) (nA dk) (nA di) (nA dj) (nA tp) (nA tt) (nA ti) (nA te) (nA tm) (nA (s.2.1)) (nA (s.2.2)) (nA ov) (nA is) (nA ak) (nA (f))) (fun i f => (∀ i, f i < 2 ^ A) ∧ ∀ x a, x < n → a < A → (ef_D cz φ x ∨ (ef_D cz (φ + 1) x ∧ x < i)) → (yo f x a ↔ O x a)) n f ⟨I1, fun x a hx ha z => I2 x a hx ha (z.resolve_right fun y => by omega)⟩ ?_ ?_
    · rintro k' f' ⟨J1, J2⟩
      exact br_t (nI_le (Nat.le_refl _) (by omega)) (nm_r (nI_1 φ) (next f' ⟨J1, fun x a hx ha z => J2 x a hx ha (Or.inr ⟨z, hx⟩)⟩))
    · rintro k' t f' ht ⟨J1, J2⟩ next'
      refine br_f (nI_ge ht (by omega)) (yw_freshNow (fh := f') rfl hA hn W T L1 J1 ht fun w hw hb => And.intro (vp_in_nI (by omega) (by decide)) (nm_r (nA_ud (f := f') (i := t) (by omega)) (nm_r (nI_1 t) (next' _ ⟨fun i => ?_, fun x a hx ha z => ?_⟩))))
      · by_cases e : i = t
        · rw [e, ud_s]; exact hw
        · rw [ud_n e]; exact J1 i
      · unfold yo
        by_cases e : x = t
        · rw [e, ud_s, hb a ha, V.2.1 t a ht ha]
          refine ev_oc hA4 W Z L ht ?_ J2 ha
          rw [e] at z
          rcases z with z | ⟨z, _⟩
          · unfold ef_D at z ⊢; omega
          · exact z
        · rw [ud_n e]
          refine J2 x a hx ha ?_
          rcases z with z | ⟨z, z'⟩
          · exact Or.inl z
          · exact Or.inr ⟨z, by omega⟩
theorem yw_missing {post : Int32 → Prop} (hn : n ≤ 16) (W : fd_wf n A kd fs sn th) (bt : ∀ t, t < n → tl t < 4294967296) (h1 : (∃ t, t < n ∧ kd t = 0 ∧ tl t = 4294967295) → post 1) (h0 : (∀ t, t < n → kd t = 0 → tl t ≠ 4294967295) → post 0) : wpY_trialMissing post (yt A mN mD n dc cl sd kd fs sn th tl dk di dj tp tt ti te tm ov is ak fh s) := by
  unfold wpY_trialMissing
  refine loop_0 (fun k i (_ : Unit) => wY_trialMissing_2 post (nI A) (nI mN) (nI mD) (nI n) (nI dc) (nI (yp_np A)) (nI (2 ^ A - 1)) (nI (2 ^ yp_np A - 1)) (nI cl) (nI (s.1)) (nI sd) (nA kd) (nA fs) (nA sn) (nA th) (nA tl) (nA dk) (nA di) (nA dj) (nA tp) (nA tt) (nA ti) (nA te) (nA tm) (nA (s.2.1)) (nA (s.2.2)) (nA ov) (nA is) (nA ak) (nA fh) k (nI i)) (fun i _ => ∀ t, t < i → kd t = 0 → tl t ≠ 4294967295) n () (fun t ht => by omega) ?_ ?_
  · rintro k _ I
    exact br_t (nI_le (Nat.le_refl _) (by omega)) (h0 I)
  · rintro k i _ hi I next
    have vi : vp_in (nI i) 16 := vp_in_nI (by omega) (by decide)
    have wi := (W i hi).1
    have q0 : (nA kd (nI i).toNatClampNeg = 0 ↔ kd i = 0) := br_aq (j := 0) rfl (by omega) (by omega) (by decide)
    have q1 : (nA tl (nI i).toNatClampNeg = -1 ↔ tl i = 4294967295) := br_aq br_m1 (by omega) (bt i hi) (by decide)
    refine br_f (nI_ge hi (by omega)) (And.intro vi (br_c (fun w => And.intro vi (br_c (fun w2 => h1 ⟨i, hi, q0.mp w, q1.mp w2⟩) (fun w2 => nm_r (nI_1 i) (next () fun t ht k0 => ?_)))) (fun w => nm_r (nI_1 i) (next () fun t ht k0 => ?_))))
    · by_cases e : t = i
      · rw [e]; exact fun z => w2 (q1.mpr z)
      · exact I t (by omega) k0
    · by_cases e : t = i
      · rw [e] at k0; exact absurd (q0.mpr k0) w
      · exact I t (by omega) k0
theorem yw_isNode {post : Int32 → Prop} {v : Int32} (hn : n ≤ 16) (h1 : ∀ t, t < n → v = nI t → post 1) (h0 : (∀ t, t < n → v ≠ nI t) → post 0) : wpY_isNode post (yt A mN mD n dc cl sd kd fs sn th tl dk di dj tp tt ti te tm ov is ak fh s) v := by
  unfold wpY_isNode
  rcases pk_ix v (n := n) (by omega) with z | z | ⟨j, hj, e⟩
  · exact br_t z (h0 fun t ht e => by rw [e] at z; exact nI_pos (by omega) z)
  · have no : ∀ t, t < n → v ≠ nI t := fun t ht e => by rw [e] at z; exact nI_ge ht (by omega) z
    exact br_c (fun _ => h0 no) (fun _ => br_t z (h0 no))
  · rw [e]
    exact br_f (nI_pos (by omega)) (br_f (nI_ge hj (by omega)) (h1 j hj e))
theorem yw_isAtom {post : Int32 → Prop} {v : Int32} (hA : A ≤ 4) (h1 : ∀ a, a < A → v = nI a → post 1) (h0 : (∀ a, a < A → v ≠ nI a) → post 0) : wpY_isAtom post (yt A mN mD n dc cl sd kd fs sn th tl dk di dj tp tt ti te tm ov is ak fh s) v := by
  unfold wpY_isAtom
  rcases pk_ix v (n := A) (by omega) with z | z | ⟨j, hj, e⟩
  · exact br_t z (h0 fun t ht e => by rw [e] at z; exact nI_pos (by omega) z)
  · have no : ∀ t, t < A → v ≠ nI t := fun t ht e => by rw [e] at z; exact nI_ge ht (by omega) z
    exact br_c (fun _ => h0 no) (fun _ => br_t z (h0 no))
  · rw [e]
    exact br_f (nI_pos (by omega)) (br_f (nI_ge hj (by omega)) (h1 j hj e))
end
end
section
/-! the node that a root is bound to -/
def bd_R (n : Nat) (kd : Nat → Nat) (K : Nat → Nat → Prop) (t r : Nat) : Prop :=
  (r < n ∧ fd_rg kd r ∧ K t r ∧ ∀ u, u < r → ¬ (fd_rg kd u ∧ K t u)) ∨ ((∀ u, u < n → ¬ (fd_rg kd u ∧ K t u)) ∧ ((r < n ∧ kd r = 0 ∧ K t r ∧ ∀ u, u < r → ¬ (kd u = 0 ∧ K t u)) ∨ ((∀ u, u < n → ¬ (kd u = 0 ∧ K t u)) ∧ r = t)))
theorem bd_u {n : Nat} {kd : Nat → Nat} {K : Nat → Nat → Prop} {t r r' : Nat} (h : bd_R n kd K t r) (h' : bd_R n kd K t r') : r = r' := by
  rcases h with ⟨a1, a2, a3, a4⟩ | ⟨a1, a2⟩ <;> rcases h' with ⟨b1, b2, b3, b4⟩ | ⟨b1, b2⟩
  · rcases Nat.lt_trichotomy r r' with z | z | z
    · exact absurd ⟨a2, a3⟩ (b4 r z)
    · exact z
    · exact absurd ⟨b2, b3⟩ (a4 r' z)
  · exact absurd ⟨a2, a3⟩ (b1 r a1)
  · exact absurd ⟨b2, b3⟩ (a1 r' b1)
  · rcases a2 with ⟨c1, c2, c3, c4⟩ | ⟨c1, c2⟩ <;> rcases b2 with ⟨d1, d2, d3, d4⟩ | ⟨d1, d2⟩
    · rcases Nat.lt_trichotomy r r' with z | z | z
      · exact absurd ⟨c2, c3⟩ (d4 r z)
      · exact z
      · exact absurd ⟨d2, d3⟩ (c4 r' z)
    · exact absurd ⟨c2, c3⟩ (d1 r c1)
    · exact absurd ⟨d2, d3⟩ (c1 r' d1)
    · omega
theorem bd_lt {n : Nat} {kd : Nat → Nat} {K : Nat → Nat → Prop} {t r : Nat} (ht : t < n) (hK : K t t) (h : bd_R n kd K t r) : r < n ∧ K t r := by
  rcases h with ⟨a1, _, a3, _⟩ | ⟨_, ⟨a1, _, a3, _⟩ | ⟨_, e⟩⟩
  · exact ⟨a1, a3⟩
  · exact ⟨a1, a3⟩
  · rw [e]; exact ⟨ht, hK⟩
section
variable {A mN mD n dc ca : Nat} {kd fs sn th tl cz dk di dj bl : Nat → Nat}
variable {s : XS}
theorem xw_binding {post : Int32 → Prop} {t : Nat} {x : Int32} {K : Nat → Nat → Prop} (ex : x = nI t) (hn : n ≤ 16) (W : fd_wf n A kd fs sn th) (bC : ∀ t, t < n → s.2.2.1 t < 32) (ht : t < n) (hK : ∀ u, u < n → (K t u ↔ s.2.2.1 u = s.2.2.1 t)) (h : ∀ r, bd_R n kd K t r → post (nI r)) : wpX_binding post (xt A mN mD n dc ca kd fs sn th tl cz dk di dj bl s) x := by
  subst ex
  unfold wpX_binding
  refine loop_0 (fun k i (_ : Unit) => wX_binding_2 post (nI t) 228 16 (nI A) (nI (2 ^ A - 1)) (nI mN) (nI mD) (nI n) (nI dc) (nI ca) (nI (s.1)) (nI (s.2.1)) (nA kd) (nA fs) (nA sn) (nA th) (nA tl) (nA cz) (nA dk) (nA di) (nA dj) (nA (s.2.2.1)) (nA (s.2.2.2.1)) (nA (s.2.2.2.2.1)) (nA bl) (nA (s.2.2.2.2.2)) k (nI i)) (fun i _ => ∀ u, u < i → ¬ (fd_rg kd u ∧ K t u)) n () (fun t ht => by omega) ?_ ?_
  · rintro k _ I
    refine br_t (nI_le (Nat.le_refl _) (by omega)) ?_
    refine loop_0 (fun k i (_ : Unit) => wX_binding_43 post (nI t) 228 16 (nI A) (nI (2 ^ A - 1)) (nI mN) (nI mD) (nI n) (nI dc) (nI ca) (nI (s.1)) (nI (s.2.1)) (nA kd) (nA fs) (nA sn) (nA th) (nA tl) (nA cz) (nA dk) (nA di) (nA dj) (nA (s.2.2.1)) (nA (s.2.2.2.1)) (nA (s.2.2.2.2.1)) (nA bl) (nA (s.2.2.2.2.2)) k (nI i)) (fun i _ => ∀ u, u < i → ¬ (kd u = 0 ∧ K t u)) n () (fun t ht => by omega) ?_ ?_
    · rintro k' _ J
      exact br_t (nI_le (Nat.le_refl _) (by omega)) (h t (Or.inr ⟨I, Or.inr ⟨J, rfl⟩⟩))
    · rintro k' u _ hu J next
      have wu := (W u hu).1
      have c1 := bC u hu
      have c2 := bC t ht
      have q : nA s.2.2.1 (nI u).toNatClampNeg = nA s.2.2.1 (nI t).toNatClampNeg ↔ K t u := by rw [hK u hu]; exact br_aa (by omega) (by omega) (by omega) (by omega)
      have q0 : (nA kd (nI u).toNatClampNeg = 0 ↔ kd u = 0) := br_aq (j := 0) rfl (by omega) (by omega) (by decide)
      have step : ¬ (kd u = 0 ∧ K t u) → ∀ x, x < u + 1 → ¬ (kd x = 0 ∧ K t x) := fun z x hx => by
        by_cases e : x = u
        · rw [e]; exact z
        · exact J x (by omega)
      refine br_f (nI_ge hu (by omega)) (And.intro (vp_in_nI (by omega) (by decide)) (And.intro (vp_in_nI (by omega) (by decide)) (br_c (fun w => And.intro (vp_in_nI (by omega) (by decide)) (br_c (fun w2 => h u (Or.inr ⟨I, Or.inl ⟨hu, q0.mp w2, q.mp w, J⟩⟩)) (fun w2 => nm_r (nI_1 u) (next () (step fun z => w2 (q0.mpr z.1)))))) (fun w => nm_r (nI_1 u) (next () (step fun z => w (q.mpr z.2)))))))
  · rintro k u _ hu J next
    have c1 := bC u hu
    have c2 := bC t ht
    have q : nA s.2.2.1 (nI u).toNatClampNeg = nA s.2.2.1 (nI t).toNatClampNeg ↔ K t u := by rw [hK u hu]; exact br_aa (by omega) (by omega) (by omega) (by omega)
    have step : ¬ (fd_rg kd u ∧ K t u) → ∀ x, x < u + 1 → ¬ (fd_rg kd x ∧ K t x) := fun z x hx => by
      by_cases e : x = u
      · rw [e]; exact z
      · exact J x (by omega)
    exact br_f (nI_ge hu (by omega)) (And.intro (vp_in_nI (by omega) (by decide)) (And.intro (vp_in_nI (by omega) (by decide)) (br_c (fun w => xw_rigid rfl hn W hu (fun g => br_f (by decide) (h u (Or.inl ⟨hu, g, q.mp w, J⟩))) (fun g => br_t rfl (nm_r (nI_1 u) (next () (step fun z => g z.1))))) (fun w => nm_r (nI_1 u) (next () (step fun z => w (q.mpr z.2)))))))
theorem xw_isNode {post : Int32 → Prop} {v : Int32} (hn : n ≤ 16) (h1 : ∀ t, t < n → v = nI t → post 1) (h0 : (∀ t, t < n → v ≠ nI t) → post 0) : wpX_isNode post (xt A mN mD n dc ca kd fs sn th tl cz dk di dj bl s) v := by
  unfold wpX_isNode
  rcases pk_ix v (n := n) (by omega) with z | z | ⟨j, hj, e⟩
  · exact br_t z (h0 fun t ht e => by rw [e] at z; exact nI_pos (by omega) z)
  · have no : ∀ t, t < n → v ≠ nI t := fun t ht e => by rw [e] at z; exact nI_ge ht (by omega) z
    exact br_c (fun _ => h0 no) (fun _ => br_t z (h0 no))
  · rw [e]
    exact br_f (nI_pos (by omega)) (br_f (nI_ge hj (by omega)) (h1 j hj e))
theorem xw_isAtom {post : Int32 → Prop} {v : Int32} (hA : A ≤ 4) (h1 : ∀ a, a < A → v = nI a → post 1) (h0 : (∀ a, a < A → v ≠ nI a) → post 0) : wpX_isAtom post (xt A mN mD n dc ca kd fs sn th tl cz dk di dj bl s) v := by
  unfold wpX_isAtom
  rcases pk_ix v (n := A) (by omega) with z | z | ⟨j, hj, e⟩
  · exact br_t z (h0 fun t ht e => by rw [e] at z; exact nI_pos (by omega) z)
  · have no : ∀ t, t < A → v ≠ nI t := fun t ht e => by rw [e] at z; exact nI_ge ht (by omega) z
    exact br_c (fun _ => h0 no) (fun _ => br_t z (h0 no))
  · rw [e]
    exact br_f (nI_pos (by omega)) (br_f (nI_ge hj (by omega)) (h1 j hj e))
end
section
variable {A mN mD n dc cl sd : Nat} {kd fs sn th tl dk di dj tp tt ti te tm ov is ak fh : Nat → Nat}
variable {s : YS}
theorem yw_bound {post : Int32 → Prop} {t : Nat} {x : Int32} (ex : x = nI t) (hA : yp_A A) (hn : n ≤ 16) (W : fd_wf n A kd fs sn th) (hb : ∀ i, s.2.1 i < 2 ^ yp_np A) (ht : t < n) (h : ∀ r, bd_R n kd (ct_l A (ye A s.2.1)) t r → post (nI r)) : wpY_bound post (yt A mN mD n dc cl sd kd fs sn th tl dk di dj tp tt ti te tm ov is ak fh s) x := by
  subst ex
  unfold wpY_bound
  refine loop_0 (fun k i (_ : Unit) => wY_bound_2 post (nI t) (nI A) (nI mN) (nI mD) (nI n) (nI dc) (nI (yp_np A)) (nI (2 ^ A - 1)) (nI (2 ^ yp_np A - 1)) (nI cl) (nI (s.1)) (nI sd) (nA kd) (nA fs) (nA sn) (nA th) (nA tl) (nA dk) (nA di) (nA dj) (nA tp) (nA tt) (nA ti) (nA te) (nA tm) (nA (s.2.1)) (nA (s.2.2)) (nA ov) (nA is) (nA ak) (nA fh) k (nI i)) (fun i _ => ∀ u, u < i → ¬ (fd_rg kd u ∧ ct_l A (ye A s.2.1) t u)) n () (fun t ht => by omega) ?_ ?_
  · rintro k _ I
    refine br_t (nI_le (Nat.le_refl _) (by omega)) ?_
    refine loop_0 (fun k i (_ : Unit) => wY_bound_37 post (nI t) (nI A) (nI mN) (nI mD) (nI n) (nI dc) (nI (yp_np A)) (nI (2 ^ A - 1)) (nI (2 ^ yp_np A - 1)) (nI cl) (nI (s.1)) (nI sd) (nA kd) (nA fs) (nA sn) (nA th) (nA tl) (nA dk) (nA di) (nA dj) (nA tp) (nA tt) (nA ti) (nA te) (nA tm) (nA (s.2.1)) (nA (s.2.2)) (nA ov) (nA is) (nA ak) (nA fh) k (nI i)) (fun i _ => ∀ u, u < i → ¬ (kd u = 0 ∧ ct_l A (ye A s.2.1) t u)) n () (fun t ht => by omega) ?_ ?_
    · rintro k' _ J
      exact br_t (nI_le (Nat.le_refl _) (by omega)) (h t (Or.inr ⟨I, Or.inr ⟨J, rfl⟩⟩))
    · rintro k' u _ hu J next
      have wu := (W u hu).1
      have q0 : (nA kd (nI u).toNatClampNeg = 0 ↔ kd u = 0) := br_aq (j := 0) rfl (by omega) (by omega) (by decide)
      have step : ¬ (kd u = 0 ∧ ct_l A (ye A s.2.1) t u) → ∀ x, x < u + 1 → ¬ (kd x = 0 ∧ ct_l A (ye A s.2.1) t x) := fun z x hx => by
        by_cases e : x = u
        · rw [e]; exact z
        · exact J x (by omega)
      exact br_f (nI_ge hu (by omega)) (And.intro (vp_in_nI (by omega) (by decide)) (br_c (fun w => yw_linked rfl rfl hA (by omega) (by omega) (hb _) (fun l => br_f (by decide) (h u (Or.inr ⟨I, Or.inl ⟨hu, q0.mp w, l, J⟩⟩))) (fun l => br_t rfl (nm_r (nI_1 u) (next () (step fun z => l z.2))))) (fun w => nm_r (nI_1 u) (next () (step fun z => w (q0.mpr z.1))))))
  · rintro k u _ hu J next
    have step : ¬ (fd_rg kd u ∧ ct_l A (ye A s.2.1) t u) → ∀ x, x < u + 1 → ¬ (fd_rg kd x ∧ ct_l A (ye A s.2.1) t x) := fun z x hx => by
      by_cases e : x = u
      · rw [e]; exact z
      · exact J x (by omega)
    exact br_f (nI_ge hu (by omega)) (yw_rigid rfl hn W hu (fun g => br_f (by decide) (yw_linked rfl rfl hA (by omega) (by omega) (hb _) (fun l => br_f (by decide) (h u (Or.inl ⟨hu, g, l, J⟩))) (fun l => br_t rfl (nm_r (nI_1 u) (next () (step fun z => l z.2)))))) (fun g => br_t rfl (nm_r (nI_1 u) (next () (step fun z => g z.1)))))
/-- the marking of all that a node rests on -/
theorem yw_isClosed {post : Int32 → SY → Prop} {v : Int32} {cz : Nat → Nat} (hn : n ≤ 16) (W : fd_wf n A kd fs sn th) (Z : cz_ok n kd fs sn th cz)
    (h1 : ∀ t is', t < n → v = nI t → cz t = 1 → post 1 (yt A mN mD n dc cl sd kd fs sn th tl dk di dj tp tt ti te tm ov (is') ak fh s)) (h0 : ∀ is', (∀ t, t < n → v = nI t → cz t = 0) → post 0 (yt A mN mD n dc cl sd kd fs sn th tl dk di dj tp tt ti te tm ov (is') ak fh s)) : wpY_isClosed post (yt A mN mD n dc cl sd kd fs sn th tl dk di dj tp tt ti te tm ov is ak fh s) v := by
  unfold wpY_isClosed
  refine yw_isNode hn (fun t ht et => br_f (by decide) ?_) (fun no => br_t rfl (h0 is fun t ht e => absurd e (no t ht)))
  subst et
  have inj : ∀ x, x < n → nI t = nI x → x = t := fun x hx e => ((br_eq (by omega) (by omega)).mp e).symm
  refine loop_0 (fun k i (o : Nat → Nat) => wY_isClosed_12 post (nI t) (nI A) (nI mN) (nI mD) (nI n) (nI dc) (nI (yp_np A)) (nI (2 ^ A - 1)) (nI (2 ^ yp_np A - 1)) (nI cl) (nI (s.1)) (nI sd) k (nI i) (nA kd) (nA fs) (nA sn) (nA th) (nA tl) (nA dk) (nA di) (nA dj) (nA tp) (nA tt) (nA ti) (nA te) (nA tm) (nA (s.2.1)) (nA (s.2.2)) (nA ov) (nA (o)) (nA ak) (nA fh)) (fun i o => ∀ x, x < i → o x = if x = t then 1 else 0) 16 is (fun t ht => by omega) ?_ ?_
  · rintro k o I
    refine br_t (nI_le (a := 16) (Nat.le_refl _) (by omega)) ?_
    have start : (fun j (o : Nat → Nat) => (∀ x, x < 16 → o x < 2) ∧ j ≤ n ∧ (cz t = 1 ↔ ∀ x, x < j → o x = 1 → cz x = 1)) (t + 1) o := by
      refine ⟨fun x hx => ?_, by omega, fun z x hx hox => ?_, fun z => z t (by omega) ?_⟩
      · rw [I x hx]; split <;> omega
      · rw [I x (by omega)] at hox
        by_cases e : x = t
        · rw [e]; exact z
        · rw [if_neg e] at hox; omega
      · rw [I t (by omega), if_pos rfl]
    have main := pk_loopD (fun k j (o : Nat → Nat) => wY_isClosed_42 post (nI A) (nI mN) (nI mD) (nI n) (nI dc) (nI (yp_np A)) (nI (2 ^ A - 1)) (nI (2 ^ yp_np A - 1)) (nI cl) (nI (s.1)) (nI sd) k (nI j + (-1)) (nA kd) (nA fs) (nA sn) (nA th) (nA tl) (nA dk) (nA di) (nA dj) (nA tp) (nA tt) (nA ti) (nA te) (nA tm) (nA (s.2.1)) (nA (s.2.2)) (nA ov) (nA (o)) (nA ak) (nA fh)) (fun j (o : Nat → Nat) => (∀ x, x < 16 → o x < 2) ∧ j ≤ n ∧ (cz t = 1 ↔ ∀ x, x < j → o x = 1 → cz x = 1)) ?_ ?_ (t + 1) o start
    · rw [pk_m1] at main
      exact ⟨_, main⟩
    · rintro k' o' ⟨_, _, J⟩
      exact br_t (by decide) (h1 t o' ht rfl (J.mpr fun x hx => by omega))
    · rintro k' i o' ⟨J0, J1, J⟩ next
      show wY_isClosed_42 post (nI A) (nI mN) (nI mD) (nI n) (nI dc) (nI (yp_np A)) (nI (2 ^ A - 1)) (nI (2 ^ yp_np A - 1)) (nI cl) (nI (s.1)) (nI sd) (k' + 1) (nI (i + 1) + (-1)) (nA kd) (nA fs) (nA sn) (nA th) (nA tl) (nA dk) (nA di) (nA dj) (nA tp) (nA tt) (nA ti) (nA te) (nA tm) (nA (s.2.1)) (nA (s.2.2)) (nA ov) (nA (o')) (nA ak) (nA fh)
      rw [pk_m1]
      have hi : i < n := by omega
      have vi : vp_in (nI i) 16 := vp_in_nI (by omega) (by decide)
      have wi := W i hi
      have zi := Z i hi
      have bo := J0 i (by omega)
      have q : ∀ (j : Nat) (v : Int32), v = nI j → j < 4294967296 → (nA kd (nI i).toNatClampNeg = v ↔ kd i = j) := fun j v hv hj => br_aq hv (by omega) (by omega) hj
      have qi : ∀ o2 : Nat → Nat, o2 i < 2 → (nA o2 (nI i).toNatClampNeg = 0 ↔ o2 i = 0) := fun o2 h2 => br_aq (j := 0) rfl (by omega) (by omega) (by decide)
      have mk : ∀ (o2 : Nat → Nat) (x : Nat), x < 16 → upd (nA o2) (nI x).toNatClampNeg (vp_nar .boolean 1) = nA (ud o2 x 1) := fun o2 x hx => nA_ud (i := x) (x := 1) (by omega)
      have m2 : ∀ (o2 : Nat → Nat) (x : Nat), (∀ y, y < 16 → o2 y < 2) → ∀ y, y < 16 → ud o2 x 1 y < 2 := fun o2 x hh y hy => by
        by_cases e : y = x
        · rw [e, ud_s]; omega
        · rw [ud_n e]; exact hh y hy
      -- all marks below i
      have fin : ∀ o2 : Nat → Nat, (∀ x, x < 16 → o2 x < 2) → ((∀ x, x < i + 1 → o' x = 1 → cz x = 1) ↔ ∀ x, x < i → o2 x = 1 → cz x = 1) → wY_isClosed_42 post (nI A) (nI mN) (nI mD) (nI n) (nI dc) (nI (yp_np A)) (nI (2 ^ A - 1)) (nI (2 ^ yp_np A - 1)) (nI cl) (nI (s.1)) (nI sd) k' (nI i + (-1)) (nA kd) (nA fs) (nA sn) (nA th) (nA tl) (nA dk) (nA di) (nA dj) (nA tp) (nA tt) (nA ti) (nA te) (nA tm) (nA (s.2.1)) (nA (s.2.2)) (nA ov) (nA (o2)) (nA ak) (nA fh) := fun o2 a b => next o2 ⟨a, by omega, J.trans b⟩
      have j138 : ∀ o2 : Nat → Nat, (∀ x, x < 16 → o2 x < 2) → o2 i = o' i → ((kd i ≠ 3 ∨ o' i = 0) → ((∀ x, x < i + 1 → o' x = 1 → cz x = 1) ↔ ∀ x, x < i → o2 x = 1 → cz x = 1)) → (kd i = 3 → o' i = 1 → o2 = o') → wY_isClosed_138 post (wY_isClosed_42 post (nI A) (nI mN) (nI mD) (nI n) (nI dc) (nI (yp_np A)) (nI (2 ^ A - 1)) (nI (2 ^ yp_np A - 1)) (nI cl) (nI (s.1)) (nI sd) k') (nI i) (nI A) (nI mN) (nI mD) (nI n) (nI dc) (nI (yp_np A)) (nI (2 ^ A - 1)) (nI (2 ^ yp_np A - 1)) (nI cl) (nI (s.1)) (nI sd) (nA kd) (nA fs) (nA sn) (nA th) (nA tl) (nA dk) (nA di) (nA dj) (nA tp) (nA tt) (nA ti) (nA te) (nA tm) (nA (s.2.1)) (nA (s.2.2)) (nA ov) (nA (o2)) (nA ak) (nA fh) := fun o2 a b c d => by
        unfold wY_isClosed_138
        refine And.intro vi (br_c (fun w => nm_e (fin o2 a (c (Or.inr ?_)))) (fun w => And.intro vi (br_c (fun w2 => ?_) (fun w2 => nm_e (fin o2 a (c (Or.inl fun k3 => w2 ((q 3 3 rfl (by decide)).mpr k3))))))))
        · have := (qi o2 (by omega)).mp w; omega
        · have k3 := (q 3 3 rfl (by decide)).mp w2
          have w3 := wi.2.2.2.1 k3
          have oi : o' i = 1 := by
            have : o2 i ≠ 0 := fun z => w ((qi o2 (by omega)).mpr z)
            omega
          have eo := d k3 oi
          subst eo
          have e3 : nA th (nI i).toNatClampNeg = nI (th i) := nA_at (by omega)
          refine And.intro vi (And.intro (by rw [e3]; exact vp_in_nI (by omega) (by decide)) (nm_r (e' := nA (ud o2 (th i) 1)) (by rw [e3]; exact mk o2 _ (by omega)) (nm_e (fin _ (m2 o2 _ a) ⟨fun z x hx hox => ?_, fun z x hx hox => ?_⟩))))
          · by_cases e : x = th i
            · rw [e, ← zi.2.2.2.1 k3]; exact z i (by omega) oi
            · rw [ud_n e] at hox; exact z x (by omega) hox
          · by_cases e : x = i
            · rw [e, zi.2.2.2.1 k3]; exact z (th i) w3.2.2 ud_s
            · refine z x (by omega) ?_
              by_cases e2 : x = th i
              · rw [e2, ud_s]
              · rw [ud_n e2]; exact hox
      refine br_f (nI_pos (by omega)) (And.intro vi ?_)
      by_cases oi : o' i = 0
      · have skip := j138 o' J0 rfl (fun _ => ⟨fun z x hx => z x (by omega), fun z x hx hox => z x (by
          have : x ≠ i := fun e => by rw [e] at hox; omega
          omega) hox⟩) (fun _ z => by omega)
        have qq := (qi o' bo).mpr oi
        exact br_t qq (And.intro vi (br_t qq (And.intro vi (br_t qq skip))))
      · have oi1 : o' i = 1 := by omega
        have qq : ¬ nA o' (nI i).toNatClampNeg = 0 := fun z => oi ((qi o' bo).mp z)
        refine br_f qq (And.intro vi ?_)
        by_cases k0 : kd i = 0
        · refine br_t ((q 0 0 rfl (by decide)).mpr k0) (h0 o' fun x hx e => ?_)
          have et := inj x hx e
          have c0 := zi.2.1 k0
          have ct := (Z t ht).1
          have : cz t ≠ 1 := fun z => by
            have := J.mp z i (by omega) oi1
            omega
          rw [et]; omega
        · refine br_f (fun w => k0 ((q 0 0 rfl (by decide)).mp w)) (And.intro vi (br_f qq (And.intro vi ?_)))
          by_cases k5 : kd i = 5
          · have w5 := wi.2.2.2.2.2 k5
            have z5 := zi.2.2.2.2.2 k5
            have e1 : nA fs (nI i).toNatClampNeg = nI (fs i) := nA_at (by omega)
            have e2 : nA sn (nI i).toNatClampNeg = nI (sn i) := nA_at (by omega)
            have b1 := m2 o' (fs i) J0
            have b2 := m2 _ (sn i) b1
            have n1 : ud o' (fs i) 1 i = o' i := ud_n (by omega)
            have n2 : ud (ud o' (fs i) 1) (sn i) 1 i = o' i := by rw [ud_n (by omega)]; exact n1
            have q1 : ¬ nA (ud o' (fs i) 1) (nI i).toNatClampNeg = 0 := fun z => by
              have := (qi _ (b1 i (by omega))).mp z
              omega
            refine br_t ((q 5 5 rfl (by decide)).mpr k5) (And.intro vi (And.intro (by rw [e1]; exact vp_in_nI (by omega) (by decide)) (nm_r (e' := nA (ud o' (fs i) 1)) (by rw [e1]; exact mk o' _ (by omega)) (And.intro vi (br_f q1 (And.intro vi (br_t ((q 5 5 rfl (by decide)).mpr k5) (And.intro vi (And.intro (by rw [e2]; exact vp_in_nI (by omega) (by decide)) (nm_r (e' := nA (ud (ud o' (fs i) 1) (sn i) 1)) (by rw [e2]; exact mk _ _ (by omega)) (j138 _ b2 n2 (fun _ => ⟨fun z x hx hox => ?_, fun z x hx hox => ?_⟩) (fun k => by omega))))))))))))
            · have ci := z5.mp (z i (by omega) oi1)
              by_cases e : x = sn i
              · rw [e]; exact ci.2
              · rw [ud_n e] at hox
                by_cases e' : x = fs i
                · rw [e']; exact ci.1
                · rw [ud_n e'] at hox; exact z x (by omega) hox
            · by_cases e : x = i
              · rw [e]
                refine z5.mpr ⟨z (fs i) w5.1 ?_, z (sn i) w5.2 ud_s⟩
                by_cases e' : fs i = sn i
                · rw [e', ud_s]
                · rw [ud_n e', ud_s]
              · refine z x (by omega) ?_
                by_cases e1 : x = sn i
                · rw [e1, ud_s]
                · rw [ud_n e1]
                  by_cases e2 : x = fs i
                  · rw [e2, ud_s]
                  · rw [ud_n e2]; exact hox
          · refine br_f (fun w => k5 ((q 5 5 rfl (by decide)).mp w)) (And.intro vi (br_f qq (And.intro vi (br_f (fun w => k5 ((q 5 5 rfl (by decide)).mp w)) (And.intro vi ?_)))))
            by_cases k4 : kd i = 4
            · have w4 := wi.2.2.2.2.1 k4
              have z4 := zi.2.2.2.2.1 k4
              have e2 : nA sn (nI i).toNatClampNeg = nI (sn i) := nA_at (by omega)
              have b1 := m2 o' (sn i) J0
              refine br_t ((q 4 4 rfl (by decide)).mpr k4) (And.intro vi (And.intro (by rw [e2]; exact vp_in_nI (by omega) (by decide)) (nm_r (e' := nA (ud o' (sn i) 1)) (by rw [e2]; exact mk o' _ (by omega)) (j138 _ b1 (ud_n (by omega)) (fun _ => ⟨fun z x hx hox => ?_, fun z x hx hox => ?_⟩) (fun k => by omega)))))
              · by_cases e : x = sn i
                · rw [e, ← z4]; exact z i (by omega) oi1
                · rw [ud_n e] at hox; exact z x (by omega) hox
              · by_cases e : x = i
                · rw [e, z4]; exact z (sn i) w4.2 ud_s
                · refine z x (by omega) ?_
                  by_cases e1 : x = sn i
                  · rw [e1, ud_s]
                  · rw [ud_n e1]; exact hox
            · refine br_f (fun w => k4 ((q 4 4 rfl (by decide)).mp w)) (j138 o' J0 rfl (fun k3 => ⟨fun z x hx => z x (by omega), fun z x hx hox => ?_⟩) (fun _ _ => rfl))
              by_cases e : x = i
              · rw [e]; exact zi.2.2.1 (by omega)
              · exact z x (by omega) hox
  · rintro k i o hi I next
    refine br_f (nI_ge (b := 16) hi (by omega)) (br_c (fun w => And.intro (vp_in_nI hi (by decide)) (nm_r (e' := nA (ud o i 1)) (nA_ud (i := i) (x := 1) (by omega)) (nm_r (nI_1 i) (next _ fun x hx => ?_)))) (fun w => And.intro (vp_in_nI hi (by decide)) (nm_r (e' := nA (ud o i 0)) (nA_ud (i := i) (x := 0) (by omega)) (nm_r (nI_1 i) (next _ fun x hx => ?_)))))
    · have e0 := (br_eq (by omega) (by omega)).mp w
      by_cases e : x = i
      · rw [e, ud_s, if_pos e0]
      · rw [ud_n e]; exact I x (by omega)
    · have e0 : i ≠ t := fun z => w (by rw [z])
      by_cases e : x = i
      · rw [e, ud_s, if_neg e0]
      · rw [ud_n e]; exact I x (by omega)
end
end
section
/-! the relation -/
def zG (A mN mD n dc ca : Nat) (kd fs sn th tl cz dk di dj : Nat → Nat) (cl sd : Nat) (tp tt ti te tm ak fh : Nat → Nat) (s : XS) (y : YS) : Prop :=
  (yp_A A ∧ mN ≤ 16 ∧ mD ≤ 8 ∧ n ≤ mN ∧ dc ≤ mD) ∧ (fd_wf n A kd fs sn th ∧ cz_ok n kd fs sn th cz ∧ (∀ t, t < n → kd t = 0 → tl t = 4294967295 ∨ (tl t < n ∧ cz (tl t) = 1)) ∧ ∀ t, t < n → tl t < 4294967296) ∧
  (fd_dw n A dc dk di dj ∧ ∀ k, k < dc → dk k < 4294967296) ∧ xz n A kd fs sn th dk di dj dc ca s.2.2.1 s.2.2.2.1 s.2.2.2.2.1 ∧
  (yT A tp tt ti te tm ∧ yB A y.2.1 y.2.2 ∧ (sd = 0 ∨ (sd = 1 ∧ yz n A kd fs sn th dk di dj dc cl y.2.1 y.2.2)) ∧ (∀ i, fh i < 2 ^ A) ∧ ∀ i, ak i < 2 ^ yp_np A)
/-- the relation at the head of a turn: both states over one set of nodes and demands -/
def i_Rel (k : Nat) (u : SX) (v : SY) : Prop := ∃ (A mN mD n dc ca cl sd : Nat) (kd fs sn th tl cz dk di dj bl tp tt ti te tm ov is ak fh : Nat → Nat) (s : XS) (y : YS), u = xt A mN mD n dc ca kd fs sn th tl cz dk di dj bl s ∧ v = yt A mN mD n dc cl sd kd fs sn th tl dk di dj tp tt ti te tm ov is ak fh y ∧ zG A mN mD n dc ca kd fs sn th tl cz dk di dj cl sd tp tt ti te tm ak fh s y
theorem i_up {k : Nat} {u : SX} {v : SY} (h : i_Rel k u v) : i_Rel (k + 4) u v := h
theorem zz_el {k : Nat} {u : SX} {v : SY} {P : SX → SY → Prop} (h : ∀ (A mN mD n dc ca cl sd : Nat) (kd fs sn th tl cz dk di dj bl tp tt ti te tm ov is ak fh : Nat → Nat) (s : XS) (y : YS), zG A mN mD n dc ca kd fs sn th tl cz dk di dj cl sd tp tt ti te tm ak fh s y → P (xt A mN mD n dc ca kd fs sn th tl cz dk di dj bl s) (yt A mN mD n dc cl sd kd fs sn th tl dk di dj tp tt ti te tm ov is ak fh y)) (I : i_Rel k u v) : P u v :=
  Exists.elim I fun A I => Exists.elim I fun mN I => Exists.elim I fun mD I => Exists.elim I fun n I => Exists.elim I fun dc I => Exists.elim I fun ca I => Exists.elim I fun cl I => Exists.elim I fun sd I => Exists.elim I fun kd I => Exists.elim I fun fs I => Exists.elim I fun sn I => Exists.elim I fun th I => Exists.elim I fun tl I => Exists.elim I fun cz I => Exists.elim I fun dk I => Exists.elim I fun di I => Exists.elim I fun dj I => Exists.elim I fun bl I => Exists.elim I fun tp I => Exists.elim I fun tt I => Exists.elim I fun ti I => Exists.elim I fun te I => Exists.elim I fun tm I => Exists.elim I fun ov I => Exists.elim I fun is I => Exists.elim I fun ak I => Exists.elim I fun fh I => Exists.elim I fun s I => Exists.elim I fun y I => by
    rw [I.1, I.2.1]; exact h _ _ _ _ _ _ _ _ _ _ _ _ _ _ _ _ _ _ _ _ _ _ _ _ _ _ _ _ _ I.2.2
section
variable {A mN mD n dc ca cl sd : Nat} {kd fs sn th tl cz dk di dj bl tp tt ti te tm ov is ak fh : Nat → Nat} {s : XS} {y : YS}
theorem zz_mk {k : Nat} (g : zG A mN mD n dc ca kd fs sn th tl cz dk di dj cl sd tp tt ti te tm ak fh s y) : i_Rel k (xt A mN mD n dc ca kd fs sn th tl cz dk di dj bl s) (yt A mN mD n dc cl sd kd fs sn th tl dk di dj tp tt ti te tm ov is ak fh y) := ⟨A, mN, mD, n, dc, ca, cl, sd, kd, fs, sn, th, tl, cz, dk, di, dj, bl, tp, tt, ti, te, tm, ov, is, ak, fh, s, y, rfl, rfl, g⟩
end
end
section
def zc (p lo hi : Int32) : Int32 := if lo ≤ p then (if p ≤ hi then p else hi) else lo
theorem zc_b {F : Int32 → Prop} {p lo hi : Int32} (h : F (zc p lo hi)) : (lo ≤ p → ((p ≤ hi → F p) ∧ (¬ p ≤ hi → F hi))) ∧ (¬ lo ≤ p → F lo) := by
  unfold zc at h
  refine ⟨fun a => ⟨fun b => ?_, fun b => ?_⟩, fun a => ?_⟩
  · rw [if_pos a, if_pos b] at h; exact h
  · rw [if_pos a, if_neg b] at h; exact h
  · rw [if_neg a] at h; exact h
theorem zc_n (p : Int32) {a b : Nat} (h : a ≤ b) (hb : b < 2147483648) : ∃ m, a ≤ m ∧ m ≤ b ∧ zc p (nI a) (nI b) = nI m := by
  unfold zc
  by_cases h1 : nI a ≤ p
  · rw [if_pos h1]
    by_cases h2 : p ≤ nI b
    · rw [if_pos h2]
      have h3 : ¬ p < 0 := fun z => by
        have : nI a < 0 := Int32.lt_of_le_of_lt h1 z
        exact nI_pos (by omega) this
      obtain ⟨j, hj, e⟩ := nI_of h3
      rw [e] at h1 h2 ⊢
      rw [nI_leI (by omega) hj] at h1
      rw [nI_leI hj (by omega)] at h2
      exact ⟨j, h1, h2, rfl⟩
    · rw [if_neg h2]; exact ⟨b, h, Nat.le_refl _, rfl⟩
  · rw [if_neg h1]; exact ⟨a, Nat.le_refl _, h, rfl⟩
theorem xw_clamp {post : Int32 → Prop} {u : SX} {p lo hi : Int32} (h : post (zc p lo hi)) : wpX_clamp post u p lo hi := by
  unfold wpX_clamp
  exact zc_b (F := post) h
theorem xz_0 {A : Nat} {kd fs sn th dk di dj C P F : Nat → Nat} : xz 0 A kd fs sn th dk di dj 0 4294967295 C P F :=
  Or.inl ⟨rfl, ⟨fun x hx => absurd hx (Nat.not_lt_zero _), fun t u c ht => absurd ht (Nat.not_lt_zero _), fun t a ht => absurd ht (Nat.not_lt_zero _)⟩, fun k hk => absurd hk (Nat.not_lt_zero _)⟩
theorem i_vc0 (k0 : Int32) (k1 : Int32) (k2 : Int32) : wpX_init (fun u => wpY_init (fun v => i_Rel 3 u v) k0 k1 k2) k0 k1 k2 := by
  obtain ⟨A, a1, a2, eA⟩ := zc_n k0 (a := 2) (b := 4) (by decide) (by decide)
  obtain ⟨mN, b1, b2, eN⟩ := zc_n k1 (a := 8) (b := 16) (by decide) (by decide)
  obtain ⟨mD, c1, c2, eD⟩ := zc_n k2 (a := 2) (b := 8) (by decide) (by decide)
  have hA : yp_A A := by unfold yp_A; omega
  have eA' : zc k0 2 4 = nI A := eA
  have eN' : zc k1 8 16 = nI mN := eN
  have eD' : zc k2 2 8 = nI mD := eD
  have e1 : ((1 : Int32) <<< (nI A &&& 31)) - 1 = nI (2 ^ A - 1) := by
    rw [br_1 (by omega)]; exact pk_sub (b := 1) (Nat.two_pow_pos A)
  unfold wpX_init
  refine xw_clamp ?_
  rw [eA']
  refine nm_r e1 (xw_clamp ?_)
  rw [eN']
  refine xw_clamp ?_
  rw [eD', br_m1]
  unfold wpY_init
  refine zc_b (F := fun z => wY_init_181 _ k1 k2 z 0 0 0 0 0 0 0 0 0 0 0 (fun _ => 0) (fun _ => 0) (fun _ => 0) (fun _ => 0) (fun _ => 0) (fun _ => 0) (fun _ => 0) (fun _ => 0) (fun _ => 0) (fun _ => 0) (fun _ => 0) (fun _ => 0) (fun _ => 0) (fun _ => 0) (fun _ => 0) (fun _ => 0) (fun _ => 0) (fun _ => 0) (fun _ => 0)) ?_
  rw [eA']
  unfold wY_init_181
  refine zc_b (F := fun z => wY_init_208 _ k2 z (nI A) 0 0 0 0 0 0 0 0 0 0 (fun _ => 0) (fun _ => 0) (fun _ => 0) (fun _ => 0) (fun _ => 0) (fun _ => 0) (fun _ => 0) (fun _ => 0) (fun _ => 0) (fun _ => 0) (fun _ => 0) (fun _ => 0) (fun _ => 0) (fun _ => 0) (fun _ => 0) (fun _ => 0) (fun _ => 0) (fun _ => 0) (fun _ => 0)) ?_
  rw [eN']
  unfold wY_init_208
  refine zc_b (F := fun z => ∃ n239 : Nat, wY_init_239 _ (nI A) (nI mN) z 0 0 0 0 0 0 0 n239 0 0 (fun _ => 0) (fun _ => 0) (fun _ => 0) (fun _ => 0) (fun _ => 0) (fun _ => 0) (fun _ => 0) (fun _ => 0) (fun _ => 0) (fun _ => 0) (fun _ => 0) (fun _ => 0) (fun _ => 0) (fun _ => 0) (fun _ => 0) (fun _ => 0) (fun _ => 0) (fun _ => 0) (fun _ => 0)) ?_
  rw [eD']
  refine yw_i239 (A := A) (mN := mN) (mD := mD) (n := 0) (dc := 0) (cl := 0) (sd := 0) (kd := fun _ => 0) (fs := fun _ => 0) (sn := fun _ => 0) (th := fun _ => 0) (tl := fun _ => 0) (dk := fun _ => 0) (di := fun _ => 0) (dj := fun _ => 0) (tp := fun _ => 0) (tt := fun _ => 0) (ti := fun _ => 0) (te := fun _ => 0) (tm := fun _ => 0) (ov := fun _ => 0) (is := fun _ => 0) (ak := fun _ => 0) (fh := fun _ => 0) (s := (0, fun _ => 0, fun _ => 0)) hA (fun _ => rfl) fun tp' tt' ti' te' tm' T => ?_
  exact zz_mk (A := A) (mN := mN) (mD := mD) (n := 0) (dc := 0) (ca := 4294967295) (cl := 0) (sd := 0) (kd := fun _ => 0) (fs := fun _ => 0) (sn := fun _ => 0) (th := fun _ => 0) (tl := fun _ => 0) (cz := fun _ => 0) (dk := fun _ => 0) (di := fun _ => 0) (dj := fun _ => 0) (bl := fun _ => 0) (tp := tp') (tt := tt') (ti := ti') (te := te') (tm := tm') (ov := fun _ => 0) (is := fun _ => 0) (ak := fun _ => 0) (fh := fun _ => 0) (s := (0, 0, fun _ => 0, fun _ => 0, fun _ => 0, fun _ => 0)) (y := (0, fun _ => 0, fun _ => 0))
    ⟨⟨hA, b2, c2, Nat.zero_le _, Nat.zero_le _⟩, ⟨fun t ht => absurd ht (Nat.not_lt_zero _), fun t ht => absurd ht (Nat.not_lt_zero _), fun t ht => absurd ht (Nat.not_lt_zero _), fun t ht => absurd ht (Nat.not_lt_zero _)⟩, ⟨fun k hk => absurd hk (Nat.not_lt_zero _), fun k hk => absurd hk (Nat.not_lt_zero _)⟩, xz_0, T, ⟨fun _ => Nat.two_pow_pos _, fun _ => Nat.two_pow_pos _⟩, Or.inl rfl, fun _ => Nat.two_pow_pos _, fun _ => Nat.two_pow_pos _⟩
end
section
section
variable {A mN mD n dc ca cl sd : Nat} {kd fs sn th tl cz dk di dj bl tp tt ti te tm ov is ak fh : Nat → Nat} {s : XS} {y : YS}
theorem yw_isN1 {post : Int32 → Prop} {t : Nat} (hn : n ≤ 16) (ht : t < n) (h : post 1) : wpY_isNode post (yt A mN mD n dc cl sd kd fs sn th tl dk di dj tp tt ti te tm ov is ak fh y) (nI t) := yw_isNode hn (fun _ _ _ => h) (fun no => absurd rfl (no t ht))
theorem yw_isN0 {post : Int32 → Prop} {v : Int32} (hn : n ≤ 16) (no : ∀ t, t < n → v ≠ nI t) (h : post 0) : wpY_isNode post (yt A mN mD n dc cl sd kd fs sn th tl dk di dj tp tt ti te tm ov is ak fh y) v := yw_isNode hn (fun t ht e => absurd e (no t ht)) (fun _ => h)
theorem yw_isA1 {post : Int32 → Prop} {t : Nat} (hn : A ≤ 4) (ht : t < A) (h : post 1) : wpY_isAtom post (yt A mN mD n dc cl sd kd fs sn th tl dk di dj tp tt ti te tm ov is ak fh y) (nI t) := yw_isAtom hn (fun _ _ _ => h) (fun no => absurd rfl (no t ht))
theorem yw_isA0 {post : Int32 → Prop} {v : Int32} (hn : A ≤ 4) (no : ∀ t, t < A → v ≠ nI t) (h : post 0) : wpY_isAtom post (yt A mN mD n dc cl sd kd fs sn th tl dk di dj tp tt ti te tm ov is ak fh y) v := yw_isAtom hn (fun t ht e => absurd e (no t ht)) (fun _ => h)
end
theorem i_vc_readNode {k : Nat} {u : SX} {v : SY} (I : i_Rel k u v) (hk : k + 4 ≤ 2051) (v1 : Int32) (v2 : Int32) : wpX_readNode (fun r => wpY_readNode (fun r' => r' = r ∧ i_Rel (k + 4) u v) v v1 v2) u v1 v2 := by
  refine zz_el (P := fun u v => wpX_readNode (fun r => wpY_readNode (fun r' => r' = r ∧ i_Rel (k + 4) u v) v v1 v2) u v1 v2) ?_ I
  intro A mN mD n dc ca cl sd kd fs sn th tl cz dk di dj bl tp tt ti te tm ov is ak fh s y g
  have R : i_Rel (k + 4) (xt A mN mD n dc ca kd fs sn th tl cz dk di dj bl s) (yt A mN mD n dc cl sd kd fs sn th tl dk di dj tp tt ti te tm ov is ak fh y) := zz_mk g
  obtain ⟨⟨hA, hmN, hmD, hnN, hdcD⟩, ⟨W, Z, tlo, bt⟩, ⟨hd, hdk⟩, hx, T, yb, hs, bf, ba⟩ := g
  have hn : n ≤ 16 := by omega
  unfold wpX_readNode
  refine xw_isNode hn (fun t ht et => br_f (by decide) ?_) (fun no => br_t rfl ?_)
  · subst et
    have vt : vp_in (nI t) 16 := vp_in_nI (by omega) (by decide)
    refine br_c (fun w0 => (by unfold wpY_readNode; exact yw_isN1 hn ht (br_f (by decide) (br_t w0 ⟨rfl, R⟩)))) (fun w0 => br_c (fun w1 => br_c (fun w2 => And.intro vt (by unfold wpY_readNode; exact yw_isN1 hn ht (br_f (by decide) (br_f w0 (br_t w1 (br_t w2 ⟨vt, rfl, R⟩)))))) (fun w2 => br_c (fun w3 => And.intro vt (by unfold wpY_readNode; exact yw_isN1 hn ht (br_f (by decide) (br_f w0 (br_t w1 (br_f w2 (br_t w3 ⟨vt, rfl, R⟩))))))) (fun w3 => br_c (fun w4 => And.intro vt (by unfold wpY_readNode; exact yw_isN1 hn ht (br_f (by decide) (br_f w0 (br_t w1 (br_f w2 (br_f w3 (br_t w4 ⟨vt, rfl, R⟩)))))))) (fun w4 => br_c (fun w5 => And.intro vt (by unfold wpY_readNode; exact yw_isN1 hn ht (br_f (by decide) (br_f w0 (br_t w1 (br_f w2 (br_f w3 (br_f w4 (br_t w5 ⟨vt, rfl, R⟩))))))))) (fun w5 => And.intro vt (by unfold wpY_readNode; exact yw_isN1 hn ht (br_f (by decide) (br_f w0 (br_t w1 (br_f w2 (br_f w3 (br_f w4 (br_f w5 (⟨vt, rfl, R⟩)))))))))))))) (fun w1 => (by unfold wpY_readNode; exact yw_isN1 hn ht (br_f (by decide) (br_f w0 (br_f w1 ⟨rfl, R⟩))))))
  · unfold wpY_readNode
    exact yw_isNode hn (fun t ht e => absurd e (no t ht)) (fun _ => br_t rfl ⟨rfl, R⟩)
theorem i_vc_readDemand {k : Nat} {u : SX} {v : SY} (I : i_Rel k u v) (hk : k + 4 ≤ 2051) (v1 : Int32) (v2 : Int32) : wpX_readDemand (fun r => wpY_readDemand (fun r' => r' = r ∧ i_Rel (k + 4) u v) v v1 v2) u v1 v2 := by
  refine zz_el (P := fun u v => wpX_readDemand (fun r => wpY_readDemand (fun r' => r' = r ∧ i_Rel (k + 4) u v) v v1 v2) u v1 v2) ?_ I
  intro A mN mD n dc ca cl sd kd fs sn th tl cz dk di dj bl tp tt ti te tm ov is ak fh s y g
  have R : i_Rel (k + 4) (xt A mN mD n dc ca kd fs sn th tl cz dk di dj bl s) (yt A mN mD n dc cl sd kd fs sn th tl dk di dj tp tt ti te tm ov is ak fh y) := zz_mk g
  obtain ⟨⟨hA, hmN, hmD, hnN, hdcD⟩, ⟨W, Z, tlo, bt⟩, ⟨hd, hdk⟩, hx, T, yb, hs, bf, ba⟩ := g
  unfold wpX_readDemand
  rcases pk_ix v1 (n := dc) (by omega) with z | z | ⟨j, hj, e⟩
  · exact br_t z (br_t z ⟨rfl, R⟩)
  · exact br_c (fun w => br_t w ⟨rfl, R⟩) (fun w => br_t z (br_f w (br_t z ⟨rfl, R⟩)))
  · subst e
    have vj : vp_in (nI j) 8 := vp_in_nI (by omega) (by decide)
    have a1 : ¬ nI j < 0 := nI_pos (by omega)
    have a2 : ¬ nI dc ≤ nI j := nI_ge hj (by omega)
    refine br_f a1 (br_f a2 (br_c (fun w0 => br_f a1 (br_f a2 (br_t w0 ⟨rfl, R⟩))) (fun w0 => br_c (fun w1 => br_c (fun w2 => And.intro vj (br_f a1 (br_f a2 (br_f w0 (br_t w1 (br_t w2 ⟨vj, rfl, R⟩)))))) (fun w2 => br_c (fun w3 => And.intro vj (br_f a1 (br_f a2 (br_f w0 (br_t w1 (br_f w2 (br_t w3 ⟨vj, rfl, R⟩))))))) (fun w3 => And.intro vj (br_f a1 (br_f a2 (br_f w0 (br_t w1 (br_f w2 (br_f w3 ⟨vj, rfl, R⟩))))))))) (fun w1 => br_f a1 (br_f a2 (br_f w0 (br_f w1 ⟨rfl, R⟩)))))))
section
variable {A mN mD n dc ca cl sd : Nat} {kd fs sn th tl cz dk di dj bl tp tt ti te tm ov is ak fh : Nat → Nat} {s : XS} {y : YS}
/-- the reference's clash is the component's, and its state is settled then -/
theorem zz_culprit {post : Int32 → SY → Prop} (g : zG A mN mD n dc ca kd fs sn th tl cz dk di dj cl sd tp tt ti te tm ak fh s y) (h : ∀ (y' : YS) ov', zG A mN mD n dc ca kd fs sn th tl cz dk di dj (ca) (1) tp tt ti te tm ak fh s y' → post (nI ca) (yt A mN mD n dc (ca) (1) kd fs sn th tl dk di dj tp tt ti te tm (ov') is ak fh y')) : wpY_culprit post (yt A mN mD n dc cl sd kd fs sn th tl dk di dj tp tt ti te tm ov is ak fh y) := by
  have g' := g
  obtain ⟨⟨hA, hmN, hmD, hnN, hdcD⟩, ⟨W, Z, tlo, bt⟩, ⟨hd, hdk⟩, hx, T, yb, hs, bf, ba⟩ := g
  refine yw_culprit hA (by omega) (by omega) W T hd hdk yb hs fun y' cl' ov' b' z' => ?_
  have e := xz_yz hx z'
  subst e
  exact h y' ov' ⟨⟨hA, hmN, hmD, hnN, hdcD⟩, ⟨W, Z, tlo, bt⟩, ⟨hd, hdk⟩, hx, T, b', Or.inr ⟨rfl, z'⟩, bf, ba⟩
end
theorem i_vc_culprit {k : Nat} {u : SX} {v : SY} (I : i_Rel k u v) (hk : k + 4 ≤ 2051) : wpX_culprit (fun r => wpY_culprit (fun r' v' => r' = r ∧ i_Rel (k + 4) u v') v) u := by
  refine zz_el (P := fun u v => wpX_culprit (fun r => wpY_culprit (fun r' v' => r' = r ∧ i_Rel (k + 4) u v') v) u) ?_ I
  intro A mN mD n dc ca cl sd kd fs sn th tl cz dk di dj bl tp tt ti te tm ov is ak fh s y g
  unfold wpX_culprit
  exact zz_culprit g fun y' ov' g' => ⟨rfl, zz_mk g'⟩
end
section
def nd_ok (n A : Nat) (k a b c : Nat) : Prop := k ≤ 5 ∧ (k = 1 → a < A) ∧ (k = 2 → a < 4) ∧ (k = 3 → a < A ∧ b < A ∧ c < n) ∧ (k = 4 → a < A ∧ b < n) ∧ (k = 5 → a < n ∧ b < n)
def nd_cz (cz : Nat → Nat) (k a b c z : Nat) : Prop := z < 2 ∧ (k = 0 → z = 0) ∧ ((k = 1 ∨ k = 2) → z = 1) ∧ (k = 3 → z = cz c) ∧ (k = 4 → z = cz b) ∧ (k = 5 → (z = 1 ↔ cz a = 1 ∧ cz b = 1))
theorem wf_add {n A : Nat} {kd fs sn th : Nat → Nat} {k a b c : Nat} (W : fd_wf n A kd fs sn th) (o : nd_ok n A k a b c) : fd_wf (n + 1) A (ud kd n k) (ud fs n a) (ud sn n b) (ud th n c) := by
  intro t ht
  by_cases e : t = n
  · rw [e, ud_s, ud_s, ud_s, ud_s]; exact o
  · rw [ud_n e, ud_n e, ud_n e, ud_n e]; exact W t (by omega)
theorem cz_add {n A : Nat} {kd fs sn th cz : Nat → Nat} {k a b c z : Nat} (W : fd_wf n A kd fs sn th) (Z : cz_ok n kd fs sn th cz) (o : nd_ok n A k a b c) (q : nd_cz cz k a b c z) : cz_ok (n + 1) (ud kd n k) (ud fs n a) (ud sn n b) (ud th n c) (ud cz n z) := by
  intro t ht
  by_cases e : t = n
  · rw [e, ud_s, ud_s, ud_s, ud_s, ud_s]
    obtain ⟨o0, o1, o2, o3, o4, o5⟩ := o
    obtain ⟨q0, q1, q2, q3, q4, q5⟩ := q
    refine ⟨q0, q1, q2, fun k3 => ?_, fun k4 => ?_, fun k5 => ?_⟩
    · rw [ud_n (by have := (o3 k3).2.2; omega)]; exact q3 k3
    · rw [ud_n (by have := (o4 k4).2; omega)]; exact q4 k4
    · rw [ud_n (by have := (o5 k5).1; omega), ud_n (by have := (o5 k5).2; omega)]; exact q5 k5
  · have ht' : t < n := by omega
    rw [ud_n e, ud_n e, ud_n e, ud_n e, ud_n e]
    obtain ⟨_, _, _, w3, w4, w5⟩ := W t ht'
    obtain ⟨z0, z1, z2, z3, z4, z5⟩ := Z t ht'
    refine ⟨z0, z1, z2, fun k3 => ?_, fun k4 => ?_, fun k5 => ?_⟩
    · rw [ud_n (by have := (w3 k3).2.2; omega)]; exact z3 k3
    · rw [ud_n (by have := (w4 k4).2; omega)]; exact z4 k4
    · rw [ud_n (by have := (w5 k5).1; omega), ud_n (by have := (w5 k5).2; omega)]; exact z5 k5
section
variable {A mN mD n dc ca cl sd : Nat} {kd fs sn th tl cz dk di dj bl tp tt ti te tm ov is ak fh : Nat → Nat} {s : XS} {y : YS}
theorem xw_build {post : Int32 → SX → Prop} {k a b c z : Nat} {x0 x1 x2 x3 x4 : Int32} (e0 : x0 = nI k) (e1 : x1 = nI a) (e2 : x2 = nI b) (e3 : x3 = nI c) (e4 : x4 = nI z) (g : zG A mN mD n dc ca kd fs sn th tl cz dk di dj cl sd tp tt ti te tm ak fh s y) (o : nd_ok n A k a b c) (hz : z < 2) (h0 : ¬ n < mN → post (-3) (xt A mN mD n dc ca kd fs sn th tl cz dk di dj bl s))
    (h1 : n < mN → ∀ s' ca' bl', xz (n + 1) A (ud kd n k) (ud fs n a) (ud sn n b) (ud th n c) dk di dj dc ca' s'.2.2.1 s'.2.2.2.1 s'.2.2.2.2.1 → post (nI n) (xt A mN mD (n + 1) dc (ca') (ud kd n k) (ud fs n a) (ud sn n b) (ud th n c) (ud tl n 4294967295) (ud cz n z) dk di dj (bl') s')) : wpX_build post (xt A mN mD n dc ca kd fs sn th tl cz dk di dj bl s) x0 x1 x2 x3 x4 := by
  subst e0 e1 e2 e3 e4
  obtain ⟨⟨hA, hmN, hmD, hnN, hdcD⟩, ⟨W, Z, tlo, bt⟩, ⟨hd, hdk⟩, hx, T, yb, hs, bf, ba⟩ := g
  have vn : n < mN → vp_in (nI n) 16 := fun w => vp_in_nI (by omega) (by decide)
  have hd' : fd_dw (n + 1) A dc dk di dj := fun j hj => by
    have := hd j hj
    exact ⟨by omega, fun z => by have := this.2.1 z; omega, this.2.2⟩
  have nz : vp_nar .boolean (nI z) = nI z := by
    rcases (by omega : z = 0 ∨ z = 1) with e | e <;> subst e <;> rfl
  unfold wpX_build
  refine pk_lt n mN (fun w => ?_) (fun w => h0 (by omega))
  have v := vn w
  exact And.intro v (nm_r (nA_ud (by omega)) (And.intro v (nm_r (nA_ud (by omega)) (And.intro v (nm_r (nA_ud (by omega)) (And.intro v (nm_r (nA_ud (by omega)) (And.intro v (nm_r (e' := nA (ud tl n 4294967295)) (by rw [br_m1]; exact nA_ud (by omega)) (And.intro v (nm_r (e' := nA (ud cz n z)) (by rw [nz]; exact nA_ud (by omega)) (nm_r (nI_1 n) (xw_rebuild hA (by omega) (by omega) (wf_add W o) hd' hdk (h1 w))))))))))))))
theorem yw_build {post : Int32 → SY → Prop} {k a b c : Nat} {x0 x1 x2 x3 : Int32} (e0 : x0 = nI k) (e1 : x1 = nI a) (e2 : x2 = nI b) (e3 : x3 = nI c) (hmN : mN ≤ 16) (hnN : n ≤ mN) (h0 : ¬ n < mN → post (-3) (yt A mN mD n dc cl sd kd fs sn th tl dk di dj tp tt ti te tm ov is ak fh y))
    (h1 : n < mN → post (nI n) (yt A mN mD (n + 1) dc cl (0) (ud kd n k) (ud fs n a) (ud sn n b) (ud th n c) (ud tl n 4294967295) dk di dj tp tt ti te tm ov is ak fh y)) : wpY_build post (yt A mN mD n dc cl sd kd fs sn th tl dk di dj tp tt ti te tm ov is ak fh y) x0 x1 x2 x3 := by
  subst e0 e1 e2 e3
  unfold wpY_build
  refine pk_lt n mN (fun w => ?_) (fun w => h0 (by omega))
  have v : vp_in (nI n) 16 := vp_in_nI (by omega) (by decide)
  exact And.intro v (nm_r (nA_ud (by omega)) (And.intro v (nm_r (nA_ud (by omega)) (And.intro v (nm_r (nA_ud (by omega)) (And.intro v (nm_r (nA_ud (by omega)) (And.intro v (nm_r (e' := nA (ud tl n 4294967295)) (by rw [br_m1]; exact nA_ud (by omega)) (nm_r (nI_1 n) (h1 w)))))))))))
theorem zg_build {k a b c z ca' : Nat} {s' : XS} (g : zG A mN mD n dc ca kd fs sn th tl cz dk di dj cl sd tp tt ti te tm ak fh s y) (o : nd_ok n A k a b c) (q : nd_cz cz k a b c z) (w : n < mN) (x : xz (n + 1) A (ud kd n k) (ud fs n a) (ud sn n b) (ud th n c) dk di dj dc ca' s'.2.2.1 s'.2.2.2.1 s'.2.2.2.2.1) :
    zG A mN mD (n + 1) dc (ca') (ud kd n k) (ud fs n a) (ud sn n b) (ud th n c) (ud tl n 4294967295) (ud cz n z) dk di dj cl (0) tp tt ti te tm ak fh s' y := by
  obtain ⟨⟨hA, hmN, hmD, hnN, hdcD⟩, ⟨W, Z, tlo, bt⟩, ⟨hd, hdk⟩, hx, T, yb, hs, bf, ba⟩ := g
  refine ⟨⟨hA, hmN, hmD, w, hdcD⟩, ⟨wf_add W o, cz_add W Z o q, fun t ht k0 => ?_, fun t ht => ?_⟩, ⟨fun j hj => ?_, hdk⟩, x, T, yb, Or.inl rfl, bf, ba⟩
  · by_cases e : t = n
    · rw [e, ud_s]; exact Or.inl rfl
    · rw [ud_n e] at k0 ⊢
      rcases tlo t (by omega) k0 with z | z
      · exact Or.inl z
      · exact Or.inr ⟨by omega, by rw [ud_n (by omega)]; exact z.2⟩
  · by_cases e : t = n
    · rw [e, ud_s]; decide
    · rw [ud_n e]; exact bt t (by omega)
  · have := hd j hj
    exact ⟨by omega, fun z => by have := this.2.1 z; omega, this.2.2⟩
/-- both sides take up a node -/
theorem zz_build {kk : Nat} {PY : (Int32 → SY → Prop) → Prop} {k a b c z : Nat} {x0 x1 x2 x3 x4 : Int32} {post : Int32 → SX → Prop} (e0 : x0 = nI k) (e1 : x1 = nI a) (e2 : x2 = nI b) (e3 : x3 = nI c) (e4 : x4 = nI z) (g : zG A mN mD n dc ca kd fs sn th tl cz dk di dj cl sd tp tt ti te tm ak fh s y) (o : nd_ok n A k a b c) (q : nd_cz cz k a b c z)
    (hp : ∀ (r : Int32) A' mN' mD' n' dc' ca' kd' fs' sn' th' tl' cz' dk' di' dj' bl' (s' : XS), PY (fun r' v' => r' = r ∧ i_Rel kk (xt A' mN' mD' n' dc' ca' kd' fs' sn' th' tl' cz' dk' di' dj' bl' s') v') → post r (xt A' mN' mD' n' dc' ca' kd' fs' sn' th' tl' cz' dk' di' dj' bl' s'))
    (hY : ∀ post' : Int32 → SY → Prop, (¬ n < mN → post' (-3) (yt A mN mD n dc cl sd kd fs sn th tl dk di dj tp tt ti te tm ov is ak fh y)) → (n < mN → post' (nI n) (yt A mN mD (n + 1) dc cl (0) (ud kd n k) (ud fs n a) (ud sn n b) (ud th n c) (ud tl n 4294967295) dk di dj tp tt ti te tm ov is ak fh y)) → PY post') : wpX_build post (xt A mN mD n dc ca kd fs sn th tl cz dk di dj bl s) x0 x1 x2 x3 x4 :=
  xw_build e0 e1 e2 e3 e4 g o q.1 (fun w => hp _ _ _ _ _ _ _ _ _ _ _ _ _ _ _ _ _ _ (hY _ (fun _ => ⟨rfl, zz_mk g⟩) (fun w' => absurd w' w))) (fun w s' ca' bl' x => hp _ _ _ _ _ _ _ _ _ _ _ _ _ _ _ _ _ _ (hY _ (fun w' => absurd w w') (fun _ => ⟨rfl, zz_mk (zg_build g o q w x)⟩)))
end
end
section
theorem i_vc_leaf {k : Nat} {u : SX} {v : SY} (I : i_Rel k u v) (hk : k + 4 ≤ 2051) (v1 : Int32) (v2 : Int32) : wpX_leaf (fun r u' => wpY_leaf (fun r' v' => r' = r ∧ i_Rel (k + 4) u' v') v v1 v2) u v1 v2 := by
  refine zz_el (P := fun u v => wpX_leaf (fun r u' => wpY_leaf (fun r' v' => r' = r ∧ i_Rel (k + 4) u' v') v v1 v2) u v1 v2) ?_ I
  intro A mN mD n dc ca cl sd kd fs sn th tl cz dk di dj bl tp tt ti te tm ov is ak fh s y g
  have g0 := g
  have R : i_Rel (k + 4) (xt A mN mD n dc ca kd fs sn th tl cz dk di dj bl s) (yt A mN mD n dc cl sd kd fs sn th tl dk di dj tp tt ti te tm ov is ak fh y) := zz_mk g
  obtain ⟨⟨hA, hmN, hmD, hnN, hdcD⟩, ⟨W, Z, tlo, bt⟩, ⟨hd, hdk⟩, hx, T, yb, hs, bf, ba⟩ := g
  have hA4 := yp_A4 hA
  unfold wpX_leaf
  by_cases e0 : v1 = 0
  · subst e0
    refine br_t rfl (zz_build (ov := ov) (is := is) (kk := k + 4) (PY := fun P => wpY_leaf P (yt A mN mD n dc cl sd kd fs sn th tl dk di dj tp tt ti te tm ov is ak fh y) 0 v2) (k := 0) (a := 4294967295) (b := 4294967295) (c := 4294967295) (z := 0) rfl br_m1 br_m1 br_m1 rfl g0 ⟨by decide, fun z => by omega, fun z => by omega, fun z => by omega, fun z => by omega, fun z => by omega⟩ ⟨by decide, fun _ => rfl, fun z => by omega, fun z => by omega, fun z => by omega, fun z => by omega⟩ (fun _ _ _ _ _ _ _ _ _ _ _ _ _ _ _ _ _ _ h => h) fun post' a b => ?_)
    unfold wpY_leaf
    exact br_f (by decide) (br_f (by decide) (br_t rfl (br_t rfl (yw_build (k := 0) (a := 4294967295) (b := 4294967295) (c := 4294967295) rfl br_m1 br_m1 br_m1 hmN hnN a b))))
  · refine br_f e0 ?_
    by_cases e1 : v1 = 1
    · subst e1
      refine br_t rfl (xw_isAtom hA4 (fun a ha ea => br_f (by decide) (br_f (by decide) ?_)) (fun no => br_t rfl (br_f (by decide) (br_t rfl ?_))))
      · subst ea
        refine zz_build (ov := ov) (is := is) (kk := k + 4) (PY := fun P => wpY_leaf P (yt A mN mD n dc cl sd kd fs sn th tl dk di dj tp tt ti te tm ov is ak fh y) 1 (nI a)) (k := 1) (a := a) (b := 4294967295) (c := 4294967295) (z := 1) rfl rfl br_m1 br_m1 rfl g0 ⟨by decide, fun _ => ha, fun z => by omega, fun z => by omega, fun z => by omega, fun z => by omega⟩ ⟨by decide, fun z => by omega, fun _ => rfl, fun z => by omega, fun z => by omega, fun z => by omega⟩ (fun _ _ _ _ _ _ _ _ _ _ _ _ _ _ _ _ _ _ h => h) fun post' p q => ?_
        unfold wpY_leaf
        exact br_t rfl (yw_isA1 hA4 ha (br_f (by decide) (br_f (by decide) (yw_build (k := 1) (a := a) (b := 4294967295) (c := 4294967295) rfl rfl br_m1 br_m1 hmN hnN p q))))
      · show wpY_leaf _ (yt A mN mD n dc cl sd kd fs sn th tl dk di dj tp tt ti te tm ov is ak fh y) 1 v2
        unfold wpY_leaf
        exact br_t rfl (yw_isA0 hA4 no (br_t rfl ⟨rfl, R⟩))
    · refine br_f e1 ?_
      by_cases e2 : v1 = 2
      · subst e2
        refine br_t rfl (br_c (fun w => br_t rfl ?_) (fun w => br_c (fun w2 => br_t rfl ?_) (fun w2 => br_f (by decide) ?_)))
        · show wpY_leaf _ (yt A mN mD n dc cl sd kd fs sn th tl dk di dj tp tt ti te tm ov is ak fh y) 2 v2
          unfold wpY_leaf
          exact br_f (by decide) (br_t rfl (br_t w ⟨rfl, R⟩))
        · show wpY_leaf _ (yt A mN mD n dc cl sd kd fs sn th tl dk di dj tp tt ti te tm ov is ak fh y) 2 v2
          unfold wpY_leaf
          exact br_f (by decide) (br_t rfl (br_f w (br_f (fun z => Int32.not_lt.mpr w2 z) ⟨rfl, R⟩)))
        · obtain ⟨a, ha, ea⟩ := nI_of w
          subst ea
          have h4 : a < 4 := by
            have w3 : ¬ nI 4 ≤ nI a := w2
            rw [nI_leI (by decide) ha] at w3
            omega
          refine zz_build (ov := ov) (is := is) (kk := k + 4) (PY := fun P => wpY_leaf P (yt A mN mD n dc cl sd kd fs sn th tl dk di dj tp tt ti te tm ov is ak fh y) 2 (nI a)) (k := 2) (a := a) (b := 4294967295) (c := 4294967295) (z := 1) rfl rfl br_m1 br_m1 rfl g0 ⟨by decide, fun z => by omega, fun _ => h4, fun z => by omega, fun z => by omega, fun z => by omega⟩ ⟨by decide, fun z => by omega, fun _ => rfl, fun z => by omega, fun z => by omega, fun z => by omega⟩ (fun _ _ _ _ _ _ _ _ _ _ _ _ _ _ _ _ _ _ h => h) fun post' p q => ?_
          unfold wpY_leaf
          exact br_f (by decide) (br_t rfl (br_f w (br_t (nI_lt (b := 4) h4 (by decide)) (br_f (by decide) (yw_build (k := 2) (a := a) (b := 4294967295) (c := 4294967295) rfl rfl br_m1 br_m1 hmN hnN p q)))))
      · refine br_f e2 (br_t rfl ?_)
        show wpY_leaf _ (yt A mN mD n dc cl sd kd fs sn th tl dk di dj tp tt ti te tm ov is ak fh y) v1 v2
        unfold wpY_leaf
        exact br_f e1 (br_f e2 (br_f e0 ⟨rfl, R⟩))
theorem i_vc_swap {k : Nat} {u : SX} {v : SY} (I : i_Rel k u v) (hk : k + 4 ≤ 2051) (v1 : Int32) (v2 : Int32) (v3 : Int32) : wpX_swap (fun r u' => wpY_swap (fun r' v' => r' = r ∧ i_Rel (k + 4) u' v') v v1 v2 v3) u v1 v2 v3 := by
  refine zz_el (P := fun u v => wpX_swap (fun r u' => wpY_swap (fun r' v' => r' = r ∧ i_Rel (k + 4) u' v') v v1 v2 v3) u v1 v2 v3) ?_ I
  intro A mN mD n dc ca cl sd kd fs sn th tl cz dk di dj bl tp tt ti te tm ov is ak fh s y g
  have g0 := g
  have R : i_Rel (k + 4) (xt A mN mD n dc ca kd fs sn th tl cz dk di dj bl s) (yt A mN mD n dc cl sd kd fs sn th tl dk di dj tp tt ti te tm ov is ak fh y) := zz_mk g
  obtain ⟨⟨hA, hmN, hmD, hnN, hdcD⟩, ⟨W, Z, tlo, bt⟩, ⟨hd, hdk⟩, hx, T, yb, hs, bf, ba⟩ := g
  have hA4 := yp_A4 hA
  have hn : n ≤ 16 := by omega
  unfold wpX_swap
  refine xw_isAtom hA4 (fun a ha ea => br_f (by decide) (xw_isAtom hA4 (fun b hb eb => br_f (by decide) (xw_isNode hn (fun t ht et => br_f (by decide) (And.intro (by rw [et]; exact vp_in_nI (by omega) (by decide)) ?_)) (fun no => br_t rfl ?_))) (fun no => br_t rfl ?_))) (fun no => br_t rfl ?_)
  · subst ea eb et
    refine zz_build (ov := ov) (is := is) (kk := k + 4) (PY := fun P => wpY_swap P (yt A mN mD n dc cl sd kd fs sn th tl dk di dj tp tt ti te tm ov is ak fh y) (nI a) (nI b) (nI t)) (k := 3) (a := a) (b := b) (c := t) (z := cz t) rfl rfl rfl rfl (nA_at (by omega)) g0 ⟨by decide, fun z => by omega, fun z => by omega, fun _ => ⟨ha, hb, ht⟩, fun z => by omega, fun z => by omega⟩ ⟨(Z t ht).1, fun z => by omega, fun z => by omega, fun _ => rfl, fun z => by omega, fun z => by omega⟩ (fun _ _ _ _ _ _ _ _ _ _ _ _ _ _ _ _ _ _ h => h) fun post' p q => ?_
    unfold wpY_swap
    exact yw_isA1 hA4 ha (br_f (by decide) (yw_isA1 hA4 hb (br_f (by decide) (yw_isN1 hn ht (br_f (by decide) (yw_build (k := 3) (a := a) (b := b) (c := t) rfl rfl rfl rfl hmN hnN p q))))))
  · subst ea eb
    show wpY_swap _ (yt A mN mD n dc cl sd kd fs sn th tl dk di dj tp tt ti te tm ov is ak fh y) (nI a) (nI b) v3
    unfold wpY_swap
    exact yw_isA1 hA4 ha (br_f (by decide) (yw_isA1 hA4 hb (br_f (by decide) (yw_isN0 hn no (br_t rfl ⟨rfl, R⟩)))))
  · subst ea
    show wpY_swap _ (yt A mN mD n dc cl sd kd fs sn th tl dk di dj tp tt ti te tm ov is ak fh y) (nI a) v2 v3
    unfold wpY_swap
    exact yw_isA1 hA4 ha (br_f (by decide) (yw_isA0 hA4 no (br_t rfl ⟨rfl, R⟩)))
  · show wpY_swap _ (yt A mN mD n dc cl sd kd fs sn th tl dk di dj tp tt ti te tm ov is ak fh y) v1 v2 v3
    unfold wpY_swap
    exact yw_isA0 hA4 no (br_t rfl ⟨rfl, R⟩)
theorem i_vc_abstraction {k : Nat} {u : SX} {v : SY} (I : i_Rel k u v) (hk : k + 4 ≤ 2051) (v1 : Int32) (v2 : Int32) : wpX_abstraction (fun r u' => wpY_abstraction (fun r' v' => r' = r ∧ i_Rel (k + 4) u' v') v v1 v2) u v1 v2 := by
  refine zz_el (P := fun u v => wpX_abstraction (fun r u' => wpY_abstraction (fun r' v' => r' = r ∧ i_Rel (k + 4) u' v') v v1 v2) u v1 v2) ?_ I
  intro A mN mD n dc ca cl sd kd fs sn th tl cz dk di dj bl tp tt ti te tm ov is ak fh s y g
  have g0 := g
  have R : i_Rel (k + 4) (xt A mN mD n dc ca kd fs sn th tl cz dk di dj bl s) (yt A mN mD n dc cl sd kd fs sn th tl dk di dj tp tt ti te tm ov is ak fh y) := zz_mk g
  obtain ⟨⟨hA, hmN, hmD, hnN, hdcD⟩, ⟨W, Z, tlo, bt⟩, ⟨hd, hdk⟩, hx, T, yb, hs, bf, ba⟩ := g
  have hA4 := yp_A4 hA
  have hn : n ≤ 16 := by omega
  unfold wpX_abstraction
  refine xw_isAtom hA4 (fun a ha ea => br_f (by decide) (xw_isNode hn (fun t ht et => br_f (by decide) (And.intro (by rw [et]; exact vp_in_nI (by omega) (by decide)) ?_)) (fun no => br_t rfl ?_))) (fun no => br_t rfl ?_)
  · subst ea et
    refine zz_build (ov := ov) (is := is) (kk := k + 4) (PY := fun P => wpY_abstraction P (yt A mN mD n dc cl sd kd fs sn th tl dk di dj tp tt ti te tm ov is ak fh y) (nI a) (nI t)) (k := 4) (a := a) (b := t) (c := 4294967295) (z := cz t) rfl rfl rfl br_m1 (nA_at (by omega)) g0 ⟨by decide, fun z => by omega, fun z => by omega, fun z => by omega, fun _ => ⟨ha, ht⟩, fun z => by omega⟩ ⟨(Z t ht).1, fun z => by omega, fun z => by omega, fun z => by omega, fun _ => rfl, fun z => by omega⟩ (fun _ _ _ _ _ _ _ _ _ _ _ _ _ _ _ _ _ _ h => h) fun post' p q => ?_
    unfold wpY_abstraction
    exact yw_isA1 hA4 ha (br_f (by decide) (yw_isN1 hn ht (br_f (by decide) (yw_build (k := 4) (a := a) (b := t) (c := 4294967295) rfl rfl rfl br_m1 hmN hnN p q))))
  · subst ea
    show wpY_abstraction _ (yt A mN mD n dc cl sd kd fs sn th tl dk di dj tp tt ti te tm ov is ak fh y) (nI a) v2
    unfold wpY_abstraction
    exact yw_isA1 hA4 ha (br_f (by decide) (yw_isN0 hn no (br_t rfl ⟨rfl, R⟩)))
  · show wpY_abstraction _ (yt A mN mD n dc cl sd kd fs sn th tl dk di dj tp tt ti te tm ov is ak fh y) v1 v2
    unfold wpY_abstraction
    exact yw_isA0 hA4 no (br_t rfl ⟨rfl, R⟩)
theorem i_vc_pair {k : Nat} {u : SX} {v : SY} (I : i_Rel k u v) (hk : k + 4 ≤ 2051) (v1 : Int32) (v2 : Int32) : wpX_pair (fun r u' => wpY_pair (fun r' v' => r' = r ∧ i_Rel (k + 4) u' v') v v1 v2) u v1 v2 := by
  refine zz_el (P := fun u v => wpX_pair (fun r u' => wpY_pair (fun r' v' => r' = r ∧ i_Rel (k + 4) u' v') v v1 v2) u v1 v2) ?_ I
  intro A mN mD n dc ca cl sd kd fs sn th tl cz dk di dj bl tp tt ti te tm ov is ak fh s y g
  have g0 := g
  have R : i_Rel (k + 4) (xt A mN mD n dc ca kd fs sn th tl cz dk di dj bl s) (yt A mN mD n dc cl sd kd fs sn th tl dk di dj tp tt ti te tm ov is ak fh y) := zz_mk g
  obtain ⟨⟨hA, hmN, hmD, hnN, hdcD⟩, ⟨W, Z, tlo, bt⟩, ⟨hd, hdk⟩, hx, T, yb, hs, bf, ba⟩ := g
  have hn : n ≤ 16 := by omega
  unfold wpX_pair
  refine xw_isNode hn (fun a ha ea => br_f (by decide) (xw_isNode hn (fun t ht et => br_f (by decide) ?_) (fun no => br_t rfl ?_))) (fun no => br_t rfl ?_)
  · subst ea et
    have va : vp_in (nI a) 16 := vp_in_nI (by omega) (by decide)
    have vt : vp_in (nI t) 16 := vp_in_nI (by omega) (by decide)
    have za := (Z a ha).1
    have zt := (Z t ht).1
    have qa : (nA cz (nI a).toNatClampNeg = 0 ↔ cz a = 0) := br_aq (j := 0) rfl (by omega) (by omega) (by decide)
    have qt : (nA cz (nI t).toNatClampNeg = 0 ↔ cz t = 0) := br_aq (j := 0) rfl (by omega) (by omega) (by decide)
    have fin : ∀ (z : Nat) (x0 x1 x2 x3 x4 : Int32) (post : Int32 → SX → Prop), x4 = nI z → x0 = nI 5 → x1 = nI a → x2 = nI t → x3 = -1 → z < 2 → (z = 1 ↔ cz a = 1 ∧ cz t = 1) → (∀ (r : Int32) A' mN' mD' n' dc' ca' kd' fs' sn' th' tl' cz' dk' di' dj' bl' (s' : XS), wpY_pair (fun r' v' => r' = r ∧ i_Rel (k + 4) (xt A' mN' mD' n' dc' ca' kd' fs' sn' th' tl' cz' dk' di' dj' bl' s') v') (yt A mN mD n dc cl sd kd fs sn th tl dk di dj tp tt ti te tm ov is ak fh y) (nI a) (nI t) → post r (xt A' mN' mD' n' dc' ca' kd' fs' sn' th' tl' cz' dk' di' dj' bl' s')) → wpX_build post (xt A mN mD n dc ca kd fs sn th tl cz dk di dj bl s) x0 x1 x2 x3 x4 := fun z x0 x1 x2 x3 x4 post e4 e0 e1 e2 e3 hz hh hp => by
      refine zz_build (ov := ov) (is := is) (kk := k + 4) (PY := fun P => wpY_pair P (yt A mN mD n dc cl sd kd fs sn th tl dk di dj tp tt ti te tm ov is ak fh y) (nI a) (nI t)) (k := 5) (a := a) (b := t) (c := 4294967295) (z := z) e0 e1 e2 (e3.trans br_m1) e4 g0 ⟨by decide, fun z => by omega, fun z => by omega, fun z => by omega, fun z => by omega, fun _ => ⟨ha, ht⟩⟩ ⟨hz, fun z => by omega, fun z => by omega, fun z => by omega, fun z => by omega, fun _ => hh⟩ hp fun post' p q => ?_
      unfold wpY_pair
      exact yw_isN1 hn ha (br_f (by decide) (yw_isN1 hn ht (br_f (by decide) (yw_build (k := 5) (a := a) (b := t) (c := 4294967295) rfl rfl rfl br_m1 hmN hnN p q))))
    refine And.intro va (br_c (fun w => ?_) (fun w => And.intro vt (br_c (fun w2 => ?_) (fun w2 => ?_))))
    · unfold wX_pair_46 wX_pair_47
      refine fin 0 _ _ _ _ _ _ rfl rfl rfl rfl rfl (by decide) ?_ (fun _ _ _ _ _ _ _ _ _ _ _ _ _ _ _ _ _ _ h => h)
      have := qa.mp w; omega
    · unfold wX_pair_46 wX_pair_47
      refine fin 0 _ _ _ _ _ _ rfl rfl rfl rfl rfl (by decide) ?_ (fun _ _ _ _ _ _ _ _ _ _ _ _ _ _ _ _ _ _ h => h)
      have := qt.mp w2; omega
    · unfold wX_pair_47
      refine fin 1 _ _ _ _ _ _ rfl rfl rfl rfl rfl (by decide) ?_ (fun _ _ _ _ _ _ _ _ _ _ _ _ _ _ _ _ _ _ h => h)
      have c1 : cz a ≠ 0 := fun z => w (qa.mpr z)
      have c2 : cz t ≠ 0 := fun z => w2 (qt.mpr z)
      omega
  · subst ea
    show wpY_pair _ (yt A mN mD n dc cl sd kd fs sn th tl dk di dj tp tt ti te tm ov is ak fh y) (nI a) v2
    unfold wpY_pair
    exact yw_isN1 hn ha (br_f (by decide) (yw_isN0 hn no (br_t rfl ⟨rfl, R⟩)))
  · show wpY_pair _ (yt A mN mD n dc cl sd kd fs sn th tl dk di dj tp tt ti te tm ov is ak fh y) v1 v2
    unfold wpY_pair
    exact yw_isN0 hn no (br_t rfl ⟨rfl, R⟩)
end
section
def zD (n A : Nat) (v1 v2 v3 : Int32) : Prop := ∃ kk i j, ((kk = 0 ∧ i < n) ∨ (kk = 1 ∧ i < A)) ∧ j < n ∧ v1 = nI kk ∧ v2 = nI i ∧ v3 = nI j
section
variable {n A : Nat} {kd fs sn th dk di dj dk' di' dj' : Nat → Nat} {m : Nat}
theorem fd_Bs_cg {E : Nat → Nat → Nat → Prop} {O : Nat → Nat → Prop} (e : ∀ k, k < m → dk' k = dk k ∧ di' k = di k ∧ dj' k = dj k) (h : fd_Bs m dk di dj E O) : fd_Bs m dk' di' dj' E O := fun k hk => by
  rw [(e k hk).1, (e k hk).2.1, (e k hk).2.2]; exact h k hk
theorem fd_Bs_e {E : Nat → Nat → Nat → Prop} {O : Nat → Nat → Prop} (e : ∀ k, k < m → dk' k = dk k ∧ di' k = di k ∧ dj' k = dj k) : fd_Bs m dk' di' dj' E O = fd_Bs m dk di dj E O :=
  propext ⟨fd_Bs_cg fun k hk => ⟨(e k hk).1.symm, (e k hk).2.1.symm, (e k hk).2.2.symm⟩, fd_Bs_cg e⟩
theorem fd_LE_e (e : ∀ k, k < m → dk' k = dk k ∧ di' k = di k ∧ dj' k = dj k) : fd_LE n A kd fs sn th dk' di' dj' m = fd_LE n A kd fs sn th dk di dj m := by
  funext t u c; unfold fd_LE
  refine propext ⟨fun h E O Cl B => h E O Cl ((fd_Bs_e e).symm ▸ B), fun h E O Cl B => h E O Cl ((fd_Bs_e e) ▸ B)⟩
theorem fd_LO_e (e : ∀ k, k < m → dk' k = dk k ∧ di' k = di k ∧ dj' k = dj k) : fd_LO n A kd fs sn th dk' di' dj' m = fd_LO n A kd fs sn th dk di dj m := by
  funext t a; unfold fd_LO
  refine propext ⟨fun h E O Cl B => h E O Cl ((fd_Bs_e e).symm ▸ B), fun h E O Cl B => h E O Cl ((fd_Bs_e e) ▸ B)⟩
theorem ctL_e (e : ∀ k, k < m → dk' k = dk k ∧ di' k = di k ∧ dj' k = dj k) {j : Nat} (hj : j ≤ m) : ctL n A kd fs sn th dk' di' dj' j = ctL n A kd fs sn th dk di dj j := by
  have e' : ∀ k, k < j → dk' k = dk k ∧ di' k = di k ∧ dj' k = dj k := fun k hk => e k (by omega)
  unfold ctL; rw [fd_LE_e e', fd_LO_e e']
theorem xz_cg {C P F : Nat → Nat} {ca : Nat} (e : ∀ k, k < m → dk' k = dk k ∧ di' k = di k ∧ dj' k = dj k) (h : xz n A kd fs sn th dk di dj m ca C P F) : xz n A kd fs sn th dk' di' dj' m ca C P F := by
  rcases h with ⟨a, b, c⟩ | ⟨a, b, c⟩
  · refine Or.inl ⟨a, ?_, fun k hk => by rw [ctL_e e (by omega)]; exact c k hk⟩
    unfold xq at b ⊢
    rw [fd_LE_e e, fd_LO_e e]; exact b
  · exact Or.inr ⟨a, by rw [ctL_e e (by omega)]; exact b, fun k hk => by rw [ctL_e e (by omega)]; exact c k hk⟩
end
section
variable {A mN mD n dc ca cl sd : Nat} {kd fs sn th tl cz dk di dj bl tp tt ti te tm ov is ak fh : Nat → Nat} {s : XS} {y : YS}
theorem xw_isDemand {post : Int32 → Prop} {v1 v2 v3 : Int32} (hA : A ≤ 4) (hn : n ≤ 16) (h1 : zD n A v1 v2 v3 → post 1) (h0 : ¬ zD n A v1 v2 v3 → post 0) : wpX_isDemand post (xt A mN mD n dc ca kd fs sn th tl cz dk di dj bl s) v1 v2 v3 := by
  unfold wpX_isDemand
  by_cases e0 : v1 = 0
  · refine br_t e0 (xw_isNode hn (fun i hi ei => br_f (by decide) (xw_isNode hn (fun j hj ej => br_f (by decide) (h1 ⟨0, i, j, Or.inl ⟨rfl, hi⟩, hj, e0, ei, ej⟩)) (fun no => br_t rfl (h0 ?_)))) (fun no => br_t rfl (h0 ?_)))
    · rintro ⟨kk, i', j', _, hj', _, _, e⟩
      exact no j' hj' e
    · rintro ⟨kk, i', j', hi', _, e1, e2, _⟩
      rcases hi' with ⟨_, hi'⟩ | ⟨z, _⟩
      · exact no i' hi' e2
      · rw [z] at e1; rw [e1] at e0; exact absurd e0 (by decide)
  · refine br_f e0 ?_
    by_cases e1 : v1 = 1
    · refine br_t e1 (xw_isAtom hA (fun i hi ei => br_f (by decide) (xw_isNode hn (fun j hj ej => br_f (by decide) (h1 ⟨1, i, j, Or.inr ⟨rfl, hi⟩, hj, e1, ei, ej⟩)) (fun no => br_t rfl (h0 ?_)))) (fun no => br_t rfl (h0 ?_)))
      · rintro ⟨kk, i', j', _, hj', _, _, e⟩
        exact no j' hj' e
      · rintro ⟨kk, i', j', hi', _, e1', e2, _⟩
        rcases hi' with ⟨z, _⟩ | ⟨_, hi'⟩
        · rw [z] at e1'; exact absurd e1' e0
        · exact no i' hi' e2
    · refine br_f e1 (h0 ?_)
      rintro ⟨kk, i', j', hi', _, e', _, _⟩
      rcases hi' with ⟨z, _⟩ | ⟨z, _⟩
      · rw [z] at e'; exact e0 e'
      · rw [z] at e'; exact e1 e'
theorem yw_isDemand {post : Int32 → Prop} {v1 v2 v3 : Int32} (hA : A ≤ 4) (hn : n ≤ 16) (h1 : zD n A v1 v2 v3 → post 1) (h0 : ¬ zD n A v1 v2 v3 → post 0) : wpY_isDemand post (yt A mN mD n dc cl sd kd fs sn th tl dk di dj tp tt ti te tm ov is ak fh y) v1 v2 v3 := by
  unfold wpY_isDemand
  refine yw_isNode hn (fun j hj ej => br_f (by decide) ?_) (fun no => br_t rfl (h0 ?_))
  · have j20 : (v1 = 0 → ∀ i, i < n → v2 ≠ nI i) → wY_isDemand_20 post v1 v2 (nI A) (nI mN) (nI mD) (nI n) (nI dc) (nI (yp_np A)) (nI (2 ^ A - 1)) (nI (2 ^ yp_np A - 1)) (nI cl) (nI (y.1)) (nI sd) (nA kd) (nA fs) (nA sn) (nA th) (nA tl) (nA dk) (nA di) (nA dj) (nA tp) (nA tt) (nA ti) (nA te) (nA tm) (nA (y.2.1)) (nA (y.2.2)) (nA ov) (nA is) (nA ak) (nA fh) := fun nz => by
      unfold wY_isDemand_20
      by_cases e1 : v1 = 1
      · refine br_t e1 (yw_isAtom hA (fun i hi ei => br_f (by decide) (h1 ⟨1, i, j, Or.inr ⟨rfl, hi⟩, hj, e1, ei, ej⟩)) (fun no => br_t rfl (h0 ?_)))
        rintro ⟨kk, i', j', hi', _, e1', e2, _⟩
        rcases hi' with ⟨z, _⟩ | ⟨_, hi'⟩
        · rw [z] at e1'; rw [e1'] at e1; exact absurd e1 (by decide)
        · exact no i' hi' e2
      · refine br_f e1 (h0 ?_)
        rintro ⟨kk, i', j', hi', _, e', e2, _⟩
        rcases hi' with ⟨z, hi'⟩ | ⟨z, _⟩
        · rw [z] at e'; exact nz e' i' hi' e2
        · rw [z] at e'; exact e1 e'
    by_cases e0 : v1 = 0
    · exact br_t e0 (yw_isNode hn (fun i hi ei => br_f (by decide) (h1 ⟨0, i, j, Or.inl ⟨rfl, hi⟩, hj, e0, ei, ej⟩)) (fun no => br_t rfl (j20 fun _ => no)))
    · exact br_f e0 (j20 fun z => absurd z e0)
  · rintro ⟨kk, i', j', _, hj', _, _, e⟩
    exact no j' hj' e
theorem xz_ca {m : Nat} {C P F : Nat → Nat} (h : xz n A kd fs sn th dk di dj m ca C P F) (hm : m ≤ 8) : ca < 4294967296 := by
  rcases h with z | z <;> omega
end
theorem i_vc_demand {k : Nat} {u : SX} {v : SY} (I : i_Rel k u v) (hk : k + 4 ≤ 2051) (v1 : Int32) (v2 : Int32) (v3 : Int32) : wpX_demand (fun r u' => wpY_demand (fun r' v' => r' = r ∧ i_Rel (k + 4) u' v') v v1 v2 v3) u v1 v2 v3 := by
  refine zz_el (P := fun u v => wpX_demand (fun r u' => wpY_demand (fun r' v' => r' = r ∧ i_Rel (k + 4) u' v') v v1 v2 v3) u v1 v2 v3) ?_ I
  intro A mN mD n dc ca cl sd kd fs sn th tl cz dk di dj bl tp tt ti te tm ov is ak fh s y g
  have R : i_Rel (k + 4) (xt A mN mD n dc ca kd fs sn th tl cz dk di dj bl s) (yt A mN mD n dc cl sd kd fs sn th tl dk di dj tp tt ti te tm ov is ak fh y) := zz_mk g
  obtain ⟨⟨hA, hmN, hmD, hnN, hdcD⟩, ⟨W, Z, tlo, bt⟩, ⟨hd, hdk⟩, hx, T, yb, hs, bf, ba⟩ := g
  have hA4 := yp_A4 hA
  have hn : n ≤ 16 := by omega
  unfold wpX_demand
  refine xw_isDemand hA4 hn (fun d => br_f (by decide) ?_) (fun no => br_t rfl ?_)
  · have d0 := d
    obtain ⟨kk, i, j, hi, hj, e1, e2, e3⟩ := d
    subst e1 e2 e3
    have hkk : kk < 2 := by omega
    have Yd : ∀ post : Int32 → SY → Prop, (¬ dc < mD → post (-3) (yt A mN mD n dc cl sd kd fs sn th tl dk di dj tp tt ti te tm ov is ak fh y)) → (dc < mD → post (nI dc) (yt A mN mD n (dc + 1) cl (0) kd fs sn th tl (ud dk dc kk) (ud di dc i) (ud dj dc j) tp tt ti te tm ov is ak fh y)) → wpY_demand post (yt A mN mD n dc cl sd kd fs sn th tl dk di dj tp tt ti te tm ov is ak fh y) (nI kk) (nI i) (nI j) := fun post a b => by
      unfold wpY_demand
      refine yw_isDemand hA4 hn (fun _ => br_f (by decide) (pk_lt dc mD (fun w => ?_) (fun w => a (by omega)))) (fun no => absurd d0 no)
      have v8 : vp_in (nI dc) 8 := vp_in_nI (by omega) (by decide)
      exact And.intro v8 (nm_r (nA_ud (by omega)) (And.intro v8 (nm_r (nA_ud (by omega)) (And.intro v8 (nm_r (nA_ud (by omega)) (nm_r (nI_1 dc) (b w)))))))
    refine pk_lt dc mD (fun w => ?_) (fun w => Yd _ (fun _ => ⟨rfl, R⟩) (fun z => by omega))
    have v8 : vp_in (nI dc) 8 := vp_in_nI (by omega) (by decide)
    have ag : ∀ k, k < dc → ud dk dc kk k = dk k ∧ ud di dc i k = di k ∧ ud dj dc j k = dj k := fun k hk => ⟨ud_n (by omega), ud_n (by omega), ud_n (by omega)⟩
    have hd' : fd_dw n A (dc + 1) (ud dk dc kk) (ud di dc i) (ud dj dc j) := fun q hq => by
      by_cases e : q = dc
      · rw [e, ud_s, ud_s, ud_s]; exact ⟨hj, fun z => by omega, fun z => by omega⟩
      · rw [ud_n e, ud_n e, ud_n e]; exact hd q (by omega)
    have hdk' : ∀ q, q < dc + 1 → ud dk dc kk q < 4294967296 := fun q hq => by
      by_cases e : q = dc
      · rw [e, ud_s]; omega
      · rw [ud_n e]; exact hdk q (by omega)
    have hx' := xz_cg ag hx
    have mk : ∀ (ca' : Nat) (bl' : Nat → Nat) (s' : XS), xz n A kd fs sn th (ud dk dc kk) (ud di dc i) (ud dj dc j) (dc + 1) ca' s'.2.2.1 s'.2.2.2.1 s'.2.2.2.2.1 → wpY_demand (fun r' v' => r' = nI dc ∧ i_Rel (k + 4) (xt A mN mD n (dc + 1) (ca') kd fs sn th tl cz (ud dk dc kk) (ud di dc i) (ud dj dc j) (bl') s') v') (yt A mN mD n dc cl sd kd fs sn th tl dk di dj tp tt ti te tm ov is ak fh y) (nI kk) (nI i) (nI j) := fun ca' bl' s' x => Yd _ (fun z => absurd w z) (fun _ => ⟨rfl, zz_mk ⟨⟨hA, hmN, hmD, hnN, w⟩, ⟨W, Z, tlo, bt⟩, ⟨hd', hdk'⟩, x, T, yb, Or.inl rfl, bf, ba⟩⟩)
    refine And.intro v8 (nm_r (nA_ud (by omega)) (And.intro v8 (nm_r (nA_ud (by omega)) (And.intro v8 (nm_r (nA_ud (by omega)) (nm_r (nI_1 dc) ?_))))))
    rcases hx' with ⟨e, q, no⟩ | ⟨l, c, no⟩
    · have e' : nI ca = -1 := by rw [e]; exact br_m1.symm
      refine br_t e' (xw_absorb (k := dc) (dc := dc + 1) (dk := ud dk dc kk) (di := ud di dc i) (dj := ud dj dc j) rfl hA hn (by omega) W hd' (hdk' dc (by omega)) q fun s' bl' q' => ⟨fun z => ?_, fun z => ?_⟩)
      · exact mk dc bl' s' (Or.inr ⟨by omega, z, no⟩)
      · refine mk ca bl' s' (Or.inl ⟨e, q', fun q hq => ?_⟩)
        by_cases e2 : q = dc
        · rw [e2]; exact z
        · exact no q (by omega)
    · exact br_f (by rw [br_m1, br_eq (by omega) (by decide)]; omega) (mk ca bl s (Or.inr ⟨by omega, c, no⟩))
  · show wpY_demand _ (yt A mN mD n dc cl sd kd fs sn th tl dk di dj tp tt ti te tm ov is ak fh y) v1 v2 v3
    unfold wpY_demand
    exact yw_isDemand hA4 hn (fun d => absurd d no) (fun _ => br_t rfl ⟨rfl, R⟩)
theorem i_vc_withdraw {k : Nat} {u : SX} {v : SY} (I : i_Rel k u v) (hk : k + 4 ≤ 2051) : wpX_withdraw (fun r u' => wpY_withdraw (fun r' v' => r' = r ∧ i_Rel (k + 4) u' v') v) u := by
  refine zz_el (P := fun u v => wpX_withdraw (fun r u' => wpY_withdraw (fun r' v' => r' = r ∧ i_Rel (k + 4) u' v') v) u) ?_ I
  intro A mN mD n dc ca cl sd kd fs sn th tl cz dk di dj bl tp tt ti te tm ov is ak fh s y g
  have R : i_Rel (k + 4) (xt A mN mD n dc ca kd fs sn th tl cz dk di dj bl s) (yt A mN mD n dc cl sd kd fs sn th tl dk di dj tp tt ti te tm ov is ak fh y) := zz_mk g
  obtain ⟨⟨hA, hmN, hmD, hnN, hdcD⟩, ⟨W, Z, tlo, bt⟩, ⟨hd, hdk⟩, hx, T, yb, hs, bf, ba⟩ := g
  have hn : n ≤ 16 := by omega
  unfold wpX_withdraw
  refine pk_eq (y := 0) dc 0 (fun e => ?_) (fun e => ?_)
  · show wpY_withdraw _ (yt A mN mD n dc cl sd kd fs sn th tl dk di dj tp tt ti te tm ov is ak fh y)
    unfold wpY_withdraw
    exact br_t (by rw [e]; rfl) ⟨rfl, R⟩
  · have e1 : nI dc - 1 = nI (dc - 1) := pk_sub (b := 1) (by omega)
    have hd' : fd_dw n A (dc - 1) dk di dj := fun q hq => hd q (by omega)
    refine nm_r e1 (xw_rebuild (dc := dc - 1) hA hn (by omega) W hd' (fun q hq => hdk q (by omega)) fun s' ca' bl' x => ?_)
    show wpY_withdraw _ (yt A mN mD n dc cl sd kd fs sn th tl dk di dj tp tt ti te tm ov is ak fh y)
    unfold wpY_withdraw
    exact br_f (by rw [show (0 : Int32) = nI 0 from rfl, br_eq (by omega) (by decide)]; exact e) (nm_r e1 ⟨e1, zz_mk ⟨⟨hA, hmN, hmD, hnN, by omega⟩, ⟨W, Z, tlo, bt⟩, ⟨hd', fun q hq => hdk q (by omega)⟩, x, T, yb, Or.inl rfl, bf, ba⟩⟩)
theorem i_vc_assign {k : Nat} {u : SX} {v : SY} (I : i_Rel k u v) (hk : k + 4 ≤ 2051) (v1 : Int32) (v2 : Int32) : wpX_assign (fun r u' => wpY_assign (fun r' v' => r' = r ∧ i_Rel (k + 4) u' v') v v1 v2) u v1 v2 := by
  refine zz_el (P := fun u v => wpX_assign (fun r u' => wpY_assign (fun r' v' => r' = r ∧ i_Rel (k + 4) u' v') v v1 v2) u v1 v2) ?_ I
  intro A mN mD n dc ca cl sd kd fs sn th tl cz dk di dj bl tp tt ti te tm ov is ak fh s y g
  have R : i_Rel (k + 4) (xt A mN mD n dc ca kd fs sn th tl cz dk di dj bl s) (yt A mN mD n dc cl sd kd fs sn th tl dk di dj tp tt ti te tm ov is ak fh y) := zz_mk g
  obtain ⟨⟨hA, hmN, hmD, hnN, hdcD⟩, ⟨W, Z, tlo, bt⟩, ⟨hd, hdk⟩, hx, T, yb, hs, bf, ba⟩ := g
  have hn : n ≤ 16 := by omega
  unfold wpX_assign
  refine xw_isNode hn (fun t ht et => br_f (by decide) ?_) (fun no => br_t rfl ?_)
  · subst et
    have vt : vp_in (nI t) 16 := vp_in_nI (by omega) (by decide)
    have wt := (W t ht).1
    have q0 : (nA kd (nI t).toNatClampNeg = 0 ↔ kd t = 0) := br_aq (j := 0) rfl (by omega) (by omega) (by decide)
    have mk : ∀ (x : Nat) (is' : Nat → Nat), (x = 4294967295 ∨ (x < n ∧ cz x = 1)) → i_Rel (k + 4) (xt A mN mD n dc ca kd fs sn th (ud tl t x) cz dk di dj bl s) (yt A mN mD n dc cl sd kd fs sn th (ud tl t x) dk di dj tp tt ti te tm ov (is') ak fh y) := fun x is' hx2 => zz_mk ⟨⟨hA, hmN, hmD, hnN, hdcD⟩, ⟨W, Z, fun t' ht' k0 => by
      by_cases e : t' = t
      · rw [e, ud_s]; exact hx2
      · rw [ud_n e]; exact tlo t' ht' k0, fun t' ht' => by
      by_cases e : t' = t
      · rw [e, ud_s]; omega
      · rw [ud_n e]; exact bt t' ht'⟩, ⟨hd, hdk⟩, hx, T, yb, hs, bf, ba⟩
    have Ri : ∀ is', i_Rel (k + 4) (xt A mN mD n dc ca kd fs sn th tl cz dk di dj bl s) (yt A mN mD n dc cl sd kd fs sn th tl dk di dj tp tt ti te tm ov (is') ak fh y) := fun is' => zz_mk ⟨⟨hA, hmN, hmD, hnN, hdcD⟩, ⟨W, Z, tlo, bt⟩, ⟨hd, hdk⟩, hx, T, yb, hs, bf, ba⟩
    refine And.intro vt (br_c (fun w => ?_) (fun w => ?_))
    · by_cases e : v2 = -1
      · subst e
        refine br_t rfl (And.intro vt (nm_r (e' := nA (ud tl t 4294967295)) (by rw [br_m1]; exact nA_ud (by omega)) ?_))
        show wpY_assign _ (yt A mN mD n dc cl sd kd fs sn th tl dk di dj tp tt ti te tm ov is ak fh y) (nI t) (-1)
        unfold wpY_assign
        exact yw_isN1 hn ht (br_f (by decide) (And.intro vt (br_t w (br_t rfl (And.intro vt (nm_r (e' := nA (ud tl t 4294967295)) (by rw [br_m1]; exact nA_ud (by omega)) ⟨rfl, mk _ is (Or.inl rfl)⟩))))))
      · refine br_f e (xw_isNode hn (fun x hx2 ex => br_f (by decide) ?_) (fun no => br_t rfl ?_))
        · subst ex
          have zx := (Z x hx2).1
          have qx : (nA cz (nI x).toNatClampNeg = 0 ↔ cz x = 0) := br_aq (j := 0) rfl (by omega) (by omega) (by decide)
          refine And.intro (vp_in_nI (by omega) (by decide)) (br_c (fun w2 => ?_) (fun w2 => And.intro vt (nm_r (e' := nA (ud tl t x)) (nA_ud (by omega)) ?_)))
          · show wpY_assign _ (yt A mN mD n dc cl sd kd fs sn th tl dk di dj tp tt ti te tm ov is ak fh y) (nI t) (nI x)
            unfold wpY_assign
            refine yw_isN1 hn ht (br_f (by decide) (And.intro vt (br_t w (br_f e (yw_isClosed hn W Z (fun x' is' hx' ex' c1 => ?_) (fun is' _ => br_t rfl ⟨rfl, Ri is'⟩))))))
            have e2 := (br_eq (by omega) (by omega)).mp ex'
            have h0 := qx.mp w2
            rw [e2] at h0; omega
          · show wpY_assign _ (yt A mN mD n dc cl sd kd fs sn th tl dk di dj tp tt ti te tm ov is ak fh y) (nI t) (nI x)
            unfold wpY_assign
            refine yw_isN1 hn ht (br_f (by decide) (And.intro vt (br_t w (br_f e (yw_isClosed hn W Z (fun x' is' hx' ex' c1 => br_f (by decide) (And.intro vt (nm_r (e' := nA (ud tl t x)) (nA_ud (by omega)) ⟨rfl, mk x is' (Or.inr ⟨hx2, ?_⟩)⟩))) (fun is' c0 => ?_))))))
            · have : cz x ≠ 0 := fun z => w2 (qx.mpr z)
              omega
            · have := c0 x hx2 rfl
              exact absurd (qx.mpr this) w2
        · show wpY_assign _ (yt A mN mD n dc cl sd kd fs sn th tl dk di dj tp tt ti te tm ov is ak fh y) (nI t) v2
          unfold wpY_assign
          exact yw_isN1 hn ht (br_f (by decide) (And.intro vt (br_t w (br_f e (yw_isClosed hn W Z (fun x' is' hx' ex' c1 => absurd ex' (no x' hx')) (fun is' _ => br_t rfl ⟨rfl, Ri is'⟩))))))
    · show wpY_assign _ (yt A mN mD n dc cl sd kd fs sn th tl dk di dj tp tt ti te tm ov is ak fh y) (nI t) v2
      unfold wpY_assign
      exact yw_isN1 hn ht (br_f (by decide) (And.intro vt (br_f w ⟨rfl, R⟩)))
  · show wpY_assign _ (yt A mN mD n dc cl sd kd fs sn th tl dk di dj tp tt ti te tm ov is ak fh y) v1 v2
    unfold wpY_assign
    exact yw_isN0 hn no (br_t rfl ⟨rfl, R⟩)
end
section
theorem br_a1 {m : Nat} (hm : m < 4294967296) : (nI m &&& 1 = 0) ↔ m.testBit 0 = false := by
  rw [pk_andN hm 1 (by decide +kernel), show (0 : Int32) = nI 0 from rfl, br_eq (by have := Nat.mod_lt m (by decide : 0 < 2 ^ 1); omega) (by decide), Nat.testBit_zero, decide_eq_false_iff_not]
  omega
theorem bd_cg {n : Nat} {kd : Nat → Nat} {K K' : Nat → Nat → Prop} {t r : Nat} (e : ∀ u, u < n → (K t u ↔ K' t u)) (h : bd_R n kd K t r) : bd_R n kd K' t r := by
  rcases h with ⟨a1, a2, a3, a4⟩ | ⟨a1, a2⟩
  · exact Or.inl ⟨a1, a2, (e r a1).mp a3, fun u hu z => a4 u hu ⟨z.1, (e u (by omega)).mpr z.2⟩⟩
  · refine Or.inr ⟨fun u hu z => a1 u hu ⟨z.1, (e u hu).mpr z.2⟩, ?_⟩
    rcases a2 with ⟨b1, b2, b3, b4⟩ | ⟨b1, b2⟩
    · exact Or.inl ⟨b1, b2, (e r b1).mp b3, fun u hu z => b4 u hu ⟨z.1, (e u (by omega)).mpr z.2⟩⟩
    · exact Or.inr ⟨fun u hu z => b1 u hu ⟨z.1, (e u hu).mpr z.2⟩, b2⟩
section
variable {A mN mD n dc ca cl sd : Nat} {kd fs sn th tl cz dk di dj bl tp tt ti te tm ov is ak fh : Nat → Nat} {s : XS} {y : YS}
/-- no clash: both tables hold the same facts -/
theorem zz_no (g : zG A mN mD n dc ca kd fs sn th tl cz dk di dj cl sd tp tt ti te tm ak fh s y) (e : ca = 4294967295) : xq n A kd fs sn th dk di dj dc s.2.2.1 s.2.2.2.1 s.2.2.2.2.1 := by
  obtain ⟨⟨hA, hmN, hmD, hnN, hdcD⟩, ⟨W, Z, tlo, bt⟩, ⟨hd, hdk⟩, hx, T, yb, hs, bf, ba⟩ := g
  rcases hx with z | z
  · exact z.2.1
  · omega
theorem zz_yes (g : zG A mN mD n dc ca kd fs sn th tl cz dk di dj (ca) (1) tp tt ti te tm ak fh s y) (e : ca = 4294967295) : yq n A kd fs sn th dk di dj dc y.2.1 y.2.2 := by
  obtain ⟨⟨hA, hmN, hmD, hnN, hdcD⟩, ⟨W, Z, tlo, bt⟩, ⟨hd, hdk⟩, hx, T, yb, hs, bf, ba⟩ := g
  rcases hs with z | ⟨_, z | z⟩
  · omega
  · exact z.2.1
  · omega
theorem zz_l (g : zG A mN mD n dc ca kd fs sn th tl cz dk di dj cl sd tp tt ti te tm ak fh s y) (e : ca = 4294967295) {t u : Nat} (ht : t < n) (hu : u < n) : ct_l A (fd_LE n A kd fs sn th dk di dj dc) t u ↔ s.2.2.1 u = s.2.2.1 t := by
  have q := zz_no g e
  have hA4 := yp_A4 g.1.1
  constructor
  · rintro ⟨c, hc, z⟩
    exact ((q.2.1 t u c ht hu hc).mpr z).1.symm
  · intro z
    obtain ⟨b1, b2⟩ := xr_bt hA4 q.1 ht hu z.symm
    exact ⟨_, b1, (q.2.1 t u _ ht hu b1).mp b2⟩
theorem zz_ly (g : zG A mN mD n dc ca kd fs sn th tl cz dk di dj (ca) (1) tp tt ti te tm ak fh s y) (e : ca = 4294967295) {t u : Nat} (ht : t < n) (hu : u < n) : ct_l A (ye A y.2.1) t u ↔ ct_l A (fd_LE n A kd fs sn th dk di dj dc) t u := by
  have q := zz_yes g e
  exact ⟨fun ⟨c, hc, z⟩ => ⟨c, hc, (q.1 t u c ht hu hc).mp z⟩, fun ⟨c, hc, z⟩ => ⟨c, hc, (q.1 t u c ht hu hc).mpr z⟩⟩
end
theorem i_vc_follows {k : Nat} {u : SX} {v : SY} (I : i_Rel k u v) (hk : k + 4 ≤ 2051) (v1 : Int32) (v2 : Int32) (v3 : Int32) : wpX_follows (fun r => wpY_follows (fun r' v' => r' = r ∧ i_Rel (k + 4) u v') v v1 v2 v3) u v1 v2 v3 := by
  refine zz_el (P := fun u v => wpX_follows (fun r => wpY_follows (fun r' v' => r' = r ∧ i_Rel (k + 4) u v') v v1 v2 v3) u v1 v2 v3) ?_ I
  intro A mN mD n dc ca cl sd kd fs sn th tl cz dk di dj bl tp tt ti te tm ov is ak fh s y g
  have g0 := g
  have R : i_Rel (k + 4) (xt A mN mD n dc ca kd fs sn th tl cz dk di dj bl s) (yt A mN mD n dc cl sd kd fs sn th tl dk di dj tp tt ti te tm ov is ak fh y) := zz_mk g
  obtain ⟨⟨hA, hmN, hmD, hnN, hdcD⟩, ⟨W, Z, tlo, bt⟩, ⟨hd, hdk⟩, hx, T, yb, hs, bf, ba⟩ := g
  have hA4 := yp_A4 hA
  have hn : n ≤ 16 := by omega
  have pn := yb_pw hA
  have pw := gp_pw hA4
  have hca := xz_ca hx (by omega)
  have qc : (nI ca = -1) ↔ ca = 4294967295 := by rw [br_m1, br_eq hca (by decide)]
  unfold wpX_follows
  refine xw_isDemand hA4 hn (fun d => br_f (by decide) ?_) (fun no => br_t rfl ?_)
  · have d0 := d
    obtain ⟨kk, i, j, hi, hj, e1, e2, e3⟩ := d
    subst e1 e2 e3
    refine br_c (fun w => ?_) (fun w => ?_)
    · have ec := qc.mp w
      have qx := zz_no g0 ec
      have qk : (nI kk = 0) ↔ kk = 0 := by rw [show (0 : Int32) = nI 0 from rfl, br_eq (by omega) (by decide)]
      have Y0 : ∀ (P : Int32 → SY → Prop), (((kk = 0 → xs_e s i j 228) ∧ (kk ≠ 0 → xs_o s j i)) → ∀ y' ov', zG A mN mD n dc ca kd fs sn th tl cz dk di dj (ca) (1) tp tt ti te tm ak fh s y' → P 1 (yt A mN mD n dc (ca) (1) kd fs sn th tl dk di dj tp tt ti te tm (ov') is ak fh y')) → (¬ ((kk = 0 → xs_e s i j 228) ∧ (kk ≠ 0 → xs_o s j i)) → ∀ y' ov', zG A mN mD n dc ca kd fs sn th tl cz dk di dj (ca) (1) tp tt ti te tm ak fh s y' → P 0 (yt A mN mD n dc (ca) (1) kd fs sn th tl dk di dj tp tt ti te tm (ov') is ak fh y')) → wpY_follows P (yt A mN mD n dc cl sd kd fs sn th tl dk di dj tp tt ti te tm ov is ak fh y) (nI kk) (nI i) (nI j) := fun P p1 p0 => by
        unfold wpY_follows
        refine yw_isDemand hA4 hn (fun _ => br_f (by decide) (zz_culprit g0 fun y' ov' g' => br_t w ?_)) (fun no => absurd d0 no)
        have qy := zz_yes g' ec
        have yb' := g'.2.2.2.2.2.1
        have b1 := yb'.1 (i * 16 + j)
        have b2 := yb'.2 j
        refine br_c (fun z => ?_) (fun z => ?_)
        · have k0 := qk.mp z
          have hin : i < n := by omega
          have ei : ye A y'.2.1 i j 228 ↔ xs_e s i j 228 := (qy.1 i j 228 hin hj (gp_P_id A)).trans (qx.2.1 i j 228 hin hj (gp_P_id A)).symm
          have q1 : (nA y'.2.1 (nI i * 16 + nI j).toNatClampNeg &&& 1 = 0) ↔ ¬ ye A y'.2.1 i j 228 := by
            rw [ya_16 (by omega), br_a1 (by omega)]
            unfold ye; rw [(yp_0 hA).1]
            cases (y'.2.1 (i * 16 + j)).testBit 0 <;> simp
          exact And.intro (yv_16 (by omega)) (br_c (fun z1 => p0 (fun h => q1.mp z1 (ei.mpr (h.1 k0))) y' ov' g') (fun z1 => p1 ⟨fun _ => ei.mp (Classical.byContradiction fun h => z1 (q1.mpr h)), fun h => absurd k0 h⟩ y' ov' g'))
        · have k0 : kk ≠ 0 := fun h => z (qk.mpr h)
          have hiA : i < A := by omega
          have ei : yo y'.2.2 j i ↔ xs_o s j i := (qy.2 j i hj).trans (qx.2.2 j i hj).symm
          have q1 : (((nA y'.2.2 (nI j).toNatClampNeg >>> (nI i &&& 31)) &&& 1) = 0) ↔ ¬ yo y'.2.2 j i := by
            rw [nA_at (by omega), br_bit (by omega) (by omega)]
            unfold yo
            cases (y'.2.2 j).testBit i <;> simp
          exact And.intro (vp_in_nI (by omega) (by decide)) (br_c (fun z1 => p0 (fun h => q1.mp z1 (ei.mpr (h.2 k0))) y' ov' g') (fun z1 => p1 ⟨fun h => absurd h k0, fun _ => ei.mp (Classical.byContradiction fun h => z1 (q1.mpr h))⟩ y' ov' g'))
      refine xw_holds (D := fun t => t < n) (k := kk) (i := i) (j := j) (b := 0) rfl rfl rfl rfl hA4 (fun x hx => by have : x < n := hx; omega) qx.1 (by omega) (by rw [Nat.zero_add]; exact hj) (fun z => by rw [Nat.zero_add]; show i < n; omega) (fun z => by omega) (fun a b => br_f (by decide) ?_) (fun no => br_t rfl ?_)
      · rw [Nat.zero_add, Nat.zero_add] at a
        rw [Nat.zero_add] at b
        exact Y0 _ (fun _ y' ov' g' => ⟨rfl, zz_mk g'⟩) (fun h => absurd ⟨a, b⟩ h)
      · rw [Nat.zero_add, Nat.zero_add] at no
        exact Y0 _ (fun h => absurd h no) (fun _ y' ov' g' => ⟨rfl, zz_mk g'⟩)
    · show wpY_follows _ (yt A mN mD n dc cl sd kd fs sn th tl dk di dj tp tt ti te tm ov is ak fh y) (nI kk) (nI i) (nI j)
      unfold wpY_follows
      exact yw_isDemand hA4 hn (fun _ => br_f (by decide) (zz_culprit g0 fun y' ov' g' => br_f w ⟨rfl, zz_mk g'⟩)) (fun no => absurd d0 no)
  · show wpY_follows _ (yt A mN mD n dc cl sd kd fs sn th tl dk di dj tp tt ti te tm ov is ak fh y) v1 v2 v3
    unfold wpY_follows
    exact yw_isDemand hA4 hn (fun d => absurd d no) (fun _ => br_t rfl ⟨rfl, R⟩)
theorem i_vc_rep {k : Nat} {u : SX} {v : SY} (I : i_Rel k u v) (hk : k + 4 ≤ 2051) (v1 : Int32) : wpX_rep (fun r => wpY_rep (fun r' v' => r' = r ∧ i_Rel (k + 4) u v') v v1) u v1 := by
  refine zz_el (P := fun u v => wpX_rep (fun r => wpY_rep (fun r' v' => r' = r ∧ i_Rel (k + 4) u v') v v1) u v1) ?_ I
  intro A mN mD n dc ca cl sd kd fs sn th tl cz dk di dj bl tp tt ti te tm ov is ak fh s y g
  have g0 := g
  have R : i_Rel (k + 4) (xt A mN mD n dc ca kd fs sn th tl cz dk di dj bl s) (yt A mN mD n dc cl sd kd fs sn th tl dk di dj tp tt ti te tm ov is ak fh y) := zz_mk g
  obtain ⟨⟨hA, hmN, hmD, hnN, hdcD⟩, ⟨W, Z, tlo, bt⟩, ⟨hd, hdk⟩, hx, T, yb, hs, bf, ba⟩ := g
  have hA4 := yp_A4 hA
  have hn : n ≤ 16 := by omega
  have hca := xz_ca hx (by omega)
  have qc : (nI ca = -1) ↔ ca = 4294967295 := by rw [br_m1, br_eq hca (by decide)]
  unfold wpX_rep
  refine xw_isNode hn (fun t ht et => br_f (by decide) ?_) (fun no => br_t rfl ?_)
  · subst et
    refine br_c (fun w => ?_) (fun w => ?_)
    · have ec := qc.mp w
      have qx := zz_no g0 ec
      refine xw_binding (K := ct_l A (fd_LE n A kd fs sn th dk di dj dc)) rfl hn W (fun t ht => by have c : s.2.2.1 t < n := (qx.1 t ht).1; omega) ht (fun u hu => zz_l g0 ec ht hu) fun r hr => ?_
      show wpY_rep _ (yt A mN mD n dc cl sd kd fs sn th tl dk di dj tp tt ti te tm ov is ak fh y) (nI t)
      unfold wpY_rep
      refine yw_isN1 hn ht (br_f (by decide) (zz_culprit g0 fun y' ov' g' => br_t w (yw_bound rfl hA hn W g'.2.2.2.2.2.1.1 ht fun r' hr' => ?_)))
      have e := bd_u (bd_cg (fun u hu => zz_ly g' ec ht hu) hr') hr
      rw [e]; exact ⟨rfl, zz_mk g'⟩
    · show wpY_rep _ (yt A mN mD n dc cl sd kd fs sn th tl dk di dj tp tt ti te tm ov is ak fh y) (nI t)
      unfold wpY_rep
      exact yw_isN1 hn ht (br_f (by decide) (zz_culprit g0 fun y' ov' g' => br_f w ⟨rfl, zz_mk g'⟩))
  · show wpY_rep _ (yt A mN mD n dc cl sd kd fs sn th tl dk di dj tp tt ti te tm ov is ak fh y) v1
    unfold wpY_rep
    exact yw_isN0 hn no (br_t rfl ⟨rfl, R⟩)
section
variable {A mN mD n dc ca cl sd : Nat} {kd fs sn th tl cz dk di dj bl tp tt ti te tm ov is ak fh : Nat → Nat} {s : XS} {y : YS}
theorem yw_carry54 {post : Int32 → SY → Prop} {t a r : Nat} (hA : yp_A A) (T : yT A tp tt ti te tm) (yb : yB A y.2.1 y.2.2) (ht : t < 16) (hr : r < 16) (ha : a < 4) (l : ct_l A (ye A y.2.1) t r) (h : ∀ c, gp_P A c → ye A y.2.1 t r c → post (nI (gp_ap c a)) (yt A mN mD n dc cl sd kd fs sn th tl dk di dj tp tt ti te tm ov is ak fh y)) : ∃ n54 : Nat, wY_carry_54 post (nI t) (nI a) (nI r) (nI A) (nI mN) (nI mD) (nI n) (nI dc) (nI (yp_np A)) (nI (2 ^ A - 1)) (nI (2 ^ yp_np A - 1)) (nI cl) (nI (y.1)) (nI sd) (nA kd) (nA fs) (nA sn) (nA th) (nA tl) (nA dk) (nA di) (nA dj) (nA tp) (nA tt) (nA ti) (nA te) (nA tm) (nA (y.2.1)) (nA (y.2.2)) (nA ov) (nA is) (nA ak) (nA fh) n54 0 := by
  have n24 := (yp_n24 hA).2
  have pn := yb_pw hA
  have b1 := yb.1 (t * 16 + r)
  refine loop_0 (fun k i (_ : Unit) => wY_carry_54 post (nI t) (nI a) (nI r) (nI A) (nI mN) (nI mD) (nI n) (nI dc) (nI (yp_np A)) (nI (2 ^ A - 1)) (nI (2 ^ yp_np A - 1)) (nI cl) (nI (y.1)) (nI sd) (nA kd) (nA fs) (nA sn) (nA th) (nA tl) (nA dk) (nA di) (nA dj) (nA tp) (nA tt) (nA ti) (nA te) (nA tm) (nA (y.2.1)) (nA (y.2.2)) (nA ov) (nA is) (nA ak) (nA fh) k (nI i)) (fun i _ => ∀ p, p < i → ¬ ye A y.2.1 t r (yp_c A p)) (yp_np A) () (fun p hp => by omega) ?_ ?_
  · rintro k _ J
    obtain ⟨c, hc, z⟩ := l
    have i := yp_iP hA hc
    exact absurd z (by rw [← i.2]; exact J _ i.1)
  · rintro k p _ hp J next
    have Pc := (yp_cP hA hp).1
    have ixc := (yp_cP hA hp).2
    have q1 : (((nA y.2.1 (nI t * 16 + nI r).toNatClampNeg) >>> (nI p &&& 31)) &&& 1) = 0 ↔ (y.2.1 (t * 16 + r)).testBit p = false := by
      rw [ya_16 (by omega)]; exact br_bit (by omega) (by omega)
    refine br_f (nI_ge hp (by omega)) (And.intro (yv_16 (by omega)) (br_c (fun w => nm_r (nI_1 p) (next () fun p' hp' => ?_)) (fun w => And.intro (yv_4 (by omega) (by decide)) ?_)))
    · by_cases e : p' = p
      · rw [e]; unfold ye; rw [ixc, q1.mp w]; decide
      · exact J p' (by omega)
    · have e1 : nA tp (nI p * 4 + nI a).toNatClampNeg = nI (gp_ap (yp_c A p) a) := by rw [ya_4 (by omega), T.1 p a hp ha]
      have := h _ Pc (by unfold ye; rw [ixc]; exact gp_nf fun z => w (q1.mpr z))
      rw [← e1] at this; exact this
end
theorem i_vc_carry {k : Nat} {u : SX} {v : SY} (I : i_Rel k u v) (hk : k + 4 ≤ 2051) (v1 : Int32) (v2 : Int32) : wpX_carry (fun r => wpY_carry (fun r' v' => r' = r ∧ i_Rel (k + 4) u v') v v1 v2) u v1 v2 := by
  refine zz_el (P := fun u v => wpX_carry (fun r => wpY_carry (fun r' v' => r' = r ∧ i_Rel (k + 4) u v') v v1 v2) u v1 v2) ?_ I
  intro A mN mD n dc ca cl sd kd fs sn th tl cz dk di dj bl tp tt ti te tm ov is ak fh s y g
  have g0 := g
  have R : i_Rel (k + 4) (xt A mN mD n dc ca kd fs sn th tl cz dk di dj bl s) (yt A mN mD n dc cl sd kd fs sn th tl dk di dj tp tt ti te tm ov is ak fh y) := zz_mk g
  obtain ⟨⟨hA, hmN, hmD, hnN, hdcD⟩, ⟨W, Z, tlo, bt⟩, ⟨hd, hdk⟩, hx, T, yb, hs, bf, ba⟩ := g
  have hA4 := yp_A4 hA
  have hn : n ≤ 16 := by omega
  have pw := gp_pw hA4
  have hca := xz_ca hx (by omega)
  have qc : (nI ca = -1) ↔ ca = 4294967295 := by rw [br_m1, br_eq hca (by decide)]
  unfold wpX_carry
  refine xw_isNode hn (fun t ht et => br_f (by decide) (xw_isAtom hA4 (fun a ha ea => br_f (by decide) ?_) (fun no => br_t rfl ?_))) (fun no => br_t rfl ?_)
  · subst et ea
    refine br_c (fun w => ?_) (fun w => ?_)
    · have ec := qc.mp w
      have qx := zz_no g0 ec
      have G := xr_Gd hA4 qx.1
      refine xw_binding (K := ct_l A (fd_LE n A kd fs sn th dk di dj dc)) rfl hn W (fun t ht => by have c : s.2.2.1 t < n := (qx.1 t ht).1; omega) ht (fun u hu => zz_l g0 ec ht hu) fun r hr => ?_
      obtain ⟨hrn, hl⟩ := bd_lt ht ((zz_l g0 ec ht ht).mpr rfl) hr
      have eC := ((zz_l g0 ec ht hrn).mp hl).symm
      have Ir := qx.1 r hrn
      have It := qx.1 t ht
      have cr : s.2.2.1 r < n := Ir.1
      have fr := Ir.2.2.2.2
      have il := gp_im_lt (s.2.2.2.1 r) (s.2.2.2.2.1 (s.2.2.1 r))
      obtain ⟨b1, b2⟩ := xr_bt hA4 qx.1 ht hrn eC
      have Y0 : ∀ P : Int32 → SY → Prop, (xr_o s.2.2.1 s.2.2.2.1 s.2.2.2.2.1 r a → ∀ y' ov', zG A mN mD n dc ca kd fs sn th tl cz dk di dj (ca) (1) tp tt ti te tm ak fh s y' → P (-1) (yt A mN mD n dc (ca) (1) kd fs sn th tl dk di dj tp tt ti te tm (ov') is ak fh y')) → (¬ xr_o s.2.2.1 s.2.2.2.1 s.2.2.2.2.1 r a → ∀ y' ov', zG A mN mD n dc ca kd fs sn th tl cz dk di dj (ca) (1) tp tt ti te tm ak fh s y' → P (nI (gp_ap (gp_cm (s.2.2.2.1 t) (gp_iv (s.2.2.2.1 r))) a)) (yt A mN mD n dc (ca) (1) kd fs sn th tl dk di dj tp tt ti te tm (ov') is ak fh y')) → wpY_carry P (yt A mN mD n dc cl sd kd fs sn th tl dk di dj tp tt ti te tm ov is ak fh y) (nI t) (nI a) := fun P p1 p0 => by
        unfold wpY_carry
        refine yw_isN1 hn ht (br_f (by decide) (yw_isA1 hA4 ha (br_f (by decide) (zz_culprit g0 fun y' ov' g' => br_t w (yw_bound rfl hA hn W g'.2.2.2.2.2.1.1 ht fun r' hr' => ?_)))))
        have e := bd_u (bd_cg (fun u hu => zz_ly g' ec ht hu) hr') hr
        subst e
        have qy := zz_yes g' ec
        have yb' := g'.2.2.2.2.2.1
        have bo := yb'.2 r'
        have ei : yo y'.2.2 r' a ↔ xr_o s.2.2.1 s.2.2.2.1 s.2.2.2.2.1 r' a := (qy.2 r' a hrn).trans (qx.2.2 r' a hrn).symm
        have q1 : (((nA y'.2.2 (nI r').toNatClampNeg >>> (nI a &&& 31)) &&& 1) = 0) ↔ ¬ yo y'.2.2 r' a := by
          rw [nA_at (by omega), br_bit (by omega) (by omega)]
          unfold yo
          cases (y'.2.2 r').testBit a <;> simp
        refine And.intro (vp_in_nI (by omega) (by decide)) (br_c (fun z => ?_) (fun z => p1 (ei.mp (Classical.byContradiction fun h => z (q1.mpr h))) y' ov' g'))
        have nx : ¬ xr_o s.2.2.1 s.2.2.2.1 s.2.2.2.2.1 r' a := fun h => q1.mp z (ei.mpr h)
        refine yw_carry54 hA T yb' (by omega) (by omega) (by omega) ((zz_ly g' ec ht hrn).mpr hl) fun c hc hy => ?_
        have hxc := (qx.2.1 t r' c ht hrn hc).mpr ((qy.1 t r' c ht hrn hc).mp hy)
        rw [fd_sm G ht hrn hc b1 hxc b2 (by omega) nx]
        exact p0 nx y' ov' g'
      refine xw_offs (t := r) rfl (by omega) Ir.2.2.2.1.1 (by omega) (by omega) (br_c (fun z => ?_) (fun z => ?_))
      · have nx : ¬ xr_o s.2.2.1 s.2.2.2.1 s.2.2.2.2.1 r a := fun h => by
          rw [xr_om, (br_bit (by omega) (by omega)).mp z] at h; exact absurd h (by decide)
        refine xw_between rfl rfl (by omega) (by omega) It.2.2.2.1.1 Ir.2.2.2.1 (xw_apply' rfl rfl b1.1 (by omega) ?_)
        exact Y0 _ (fun h => absurd h nx) (fun _ y' ov' g' => ⟨rfl, zz_mk g'⟩)
      · have yx : xr_o s.2.2.1 s.2.2.2.1 s.2.2.2.2.1 r a := xr_om.mpr (gp_nf fun h => z ((br_bit (by omega) (by omega)).mpr h))
        exact Y0 _ (fun _ y' ov' g' => ⟨rfl, zz_mk g'⟩) (fun h => absurd yx h)
    · show wpY_carry _ (yt A mN mD n dc cl sd kd fs sn th tl dk di dj tp tt ti te tm ov is ak fh y) (nI t) (nI a)
      unfold wpY_carry
      exact yw_isN1 hn ht (br_f (by decide) (yw_isA1 hA4 ha (br_f (by decide) (zz_culprit g0 fun y' ov' g' => br_f w ⟨rfl, zz_mk g'⟩))))
  · subst et
    show wpY_carry _ (yt A mN mD n dc cl sd kd fs sn th tl dk di dj tp tt ti te tm ov is ak fh y) (nI t) v2
    unfold wpY_carry
    exact yw_isN1 hn ht (br_f (by decide) (yw_isA0 hA4 no (br_t rfl ⟨rfl, R⟩)))
  · show wpY_carry _ (yt A mN mD n dc cl sd kd fs sn th tl dk di dj tp tt ti te tm ov is ak fh y) v1 v2
    unfold wpY_carry
    exact yw_isN0 hn no (br_t rfl ⟨rfl, R⟩)
end
section
theorem xq_lo {n A : Nat} {kd fs sn th dk di dj : Nat → Nat} {m : Nat} {s s' : XS} (hn : n ≤ 16) (h : xv_lo s s') (q : xq n A kd fs sn th dk di dj m s.2.2.1 s.2.2.2.1 s.2.2.2.2.1) : xq n A kd fs sn th dk di dj m s'.2.2.1 s'.2.2.2.1 s'.2.2.2.2.1 := by
  obtain ⟨q1, q2, q3⟩ := q
  have c : ∀ x, x < n → s.2.2.1 x < n := fun x hx => (q1 x hx).1
  have a : ∀ x, x < n → s'.2.2.1 x = s.2.2.1 x ∧ s'.2.2.2.1 x = s.2.2.2.1 x ∧ s'.2.2.2.2.1 x = s.2.2.2.2.1 x := fun x hx => h x (by omega)
  refine ⟨fun x hx => ?_, fun t u d ht hu hd => ?_, fun t b ht => ?_⟩
  · have i := q1 x hx
    have cx := c x hx
    rw [(a x hx).1, (a x hx).2.1, (a _ cx).1, (a _ cx).2.1, (a _ cx).2.2]; exact i
  · rw [← q2 t u d ht hu hd]
    unfold xr_e
    rw [(a t ht).1, (a u hu).1, (a t ht).2.1, (a u hu).2.1, (a _ (c t ht)).2.2]
  · rw [← q3 t b ht]
    unfold xr_o
    rw [(a t ht).1, (a t ht).2.1, (a _ (c t ht)).2.2]
theorem xz_lo {n A : Nat} {kd fs sn th dk di dj : Nat → Nat} {m ca : Nat} {s s' : XS} (hn : n ≤ 16) (h : xv_lo s s') (q : xz n A kd fs sn th dk di dj m ca s.2.2.1 s.2.2.2.1 s.2.2.2.2.1) : xz n A kd fs sn th dk di dj m ca s'.2.2.1 s'.2.2.2.1 s'.2.2.2.2.1 := by
  rcases q with ⟨a, b, c⟩ | z
  · exact Or.inl ⟨a, xq_lo hn h b, c⟩
  · exact Or.inr z
/-- all demands hold in the values -/
def ob_A (dc : Nat) (dk di dj : Nat → Nat) (E : Nat → Nat → Nat → Prop) (O : Nat → Nat → Prop) : Prop := ∀ k, k < dc → (dk k = 0 → E (di k) (dj k) 228) ∧ (dk k ≠ 0 → O (dj k) (di k))
/-- the unknown x fits -/
def ft_A (n A : Nat) (kd : Nat → Nat) (L : Nat → Nat → Nat → Prop) (LO : Nat → Nat → Prop) (E : Nat → Nat → Nat → Prop) (O : Nat → Nat → Prop) (x : Nat) : Prop :=
  (∀ a, a < A → LO x a → O x a) ∧ ∀ r, bd_R n kd (ct_l A L) x r → ∀ c, gp_P A c → L x r c → E x r c
section
variable {A mN mD n dc ca cl sd : Nat} {kd fs sn th tl cz dk di dj bl tp tt ti te tm ov is ak fh : Nat → Nat} {s : XS} {y : YS}
theorem zz_tl (g : zG A mN mD n dc ca kd fs sn th tl cz dk di dj cl sd tp tt ti te tm ak fh s y) (h : ∀ t, t < n → kd t = 0 → tl t ≠ 4294967295) : ∀ t, t < n → kd t = 0 → tl t < n ∧ cz (tl t) = 1 := by
  obtain ⟨⟨hA, hmN, hmD, hnN, hdcD⟩, ⟨W, Z, tlo, bt⟩, ⟨hd, hdk⟩, hx, T, yb, hs, bf, ba⟩ := g
  exact fun t ht k => (tlo t ht k).resolve_left (h t ht k)
theorem xw_obeys16 {post : Int32 → SX → Prop} (g : zG A mN mD n dc ca kd fs sn th tl cz dk di dj cl sd tp tt ti te tm ak fh s y) {s' : XS} (X : xv n A kd fs sn th tl (fun t => t < n) s'.2.2.1 s'.2.2.2.1 s'.2.2.2.2.1) (h1 : ob_A dc dk di dj (xm_e 16 s'.2.2.1 s'.2.2.2.1 s'.2.2.2.2.1) (xm_o 16 s'.2.2.1 s'.2.2.2.1 s'.2.2.2.2.1) → post 1 (xt A mN mD n dc ca kd fs sn th tl cz dk di dj bl s')) (h0 : ¬ ob_A dc dk di dj (xm_e 16 s'.2.2.1 s'.2.2.2.1 s'.2.2.2.2.1) (xm_o 16 s'.2.2.1 s'.2.2.2.1 s'.2.2.2.2.1) → post 0 (xt A mN mD n dc ca kd fs sn th tl cz dk di dj bl s')) : ∃ n16 : Nat, wX_obeys_16 post 228 16 (nI A) (nI (2 ^ A - 1)) (nI mN) (nI mD) (nI n) (nI dc) (nI ca) (nI (s'.1)) (nI (s'.2.1)) (nA kd) (nA fs) (nA sn) (nA th) (nA tl) (nA cz) (nA dk) (nA di) (nA dj) (nA (s'.2.2.1)) (nA (s'.2.2.2.1)) (nA (s'.2.2.2.2.1)) (nA bl) (nA (s'.2.2.2.2.2)) n16 0 := by
  obtain ⟨⟨hA, hmN, hmD, hnN, hdcD⟩, ⟨W, Z, tlo, bt⟩, ⟨hd, hdk⟩, hx, T, yb, hs, bf, ba⟩ := g
  have hA4 := yp_A4 hA
  refine loop_0 (fun k i (_ : Unit) => wX_obeys_16 post 228 16 (nI A) (nI (2 ^ A - 1)) (nI mN) (nI mD) (nI n) (nI dc) (nI ca) (nI (s'.1)) (nI (s'.2.1)) (nA kd) (nA fs) (nA sn) (nA th) (nA tl) (nA cz) (nA dk) (nA di) (nA dj) (nA (s'.2.2.1)) (nA (s'.2.2.2.1)) (nA (s'.2.2.2.2.1)) (nA bl) (nA (s'.2.2.2.2.2)) k (nI i)) (fun i _ => ob_A i dk di dj (xm_e 16 s'.2.2.1 s'.2.2.2.1 s'.2.2.2.2.1) (xm_o 16 s'.2.2.1 s'.2.2.2.1 s'.2.2.2.2.1)) dc () (fun k hk => by omega) ?_ ?_
  · rintro k _ J
    exact br_t (nI_le (Nat.le_refl _) (by omega)) (h1 J)
  · rintro k q _ hq J next
    have v8 : vp_in (nI q) 8 := vp_in_nI (by omega) (by decide)
    have d := hd q hq
    have d1 : dj q < n := d.1
    have e1 : nA di (nI q).toNatClampNeg = nI (di q) := nA_at (by omega)
    refine br_f (nI_ge hq (by omega)) (And.intro v8 (And.intro v8 (And.intro v8 (xw_holds (D := ev_D (fun t => t < n)) (k := dk q) (i := di q) (j := dj q) (b := 16) (nA_at (by omega)) e1 (nA_at (by omega)) rfl hA4 (fun x hx => by have : x - 16 < n := hx.2; omega) X.1 (hdk q hq) (ev_Di.mpr d1) (fun z => ev_Di.mpr (d.2.1 z)) (fun z => d.2.2 z) (fun a b => br_f (by decide) (nm_r (nI_1 q) (next () fun j hj => ?_))) (fun no => br_t rfl (h0 fun z => no (z q hq)))))))
    by_cases e : j = q
    · rw [e]; exact ⟨a, b⟩
    · exact J j (by omega)
theorem yw_obeys16 {post : Int32 → SY → Prop} {E : Nat → Nat → Nat → Prop} {O : Nat → Nat → Prop} (g : zG A mN mD n dc ca kd fs sn th tl cz dk di dj cl sd tp tt ti te tm ak fh s y) {ak' fh' : Nat → Nat} (b1 : ∀ i, fh' i < 2 ^ A) (b2 : ∀ i, ak' i < 2 ^ yp_np A) (c1 : ∀ t a, t < n → a < A → (yo fh' t a ↔ O t a)) (c2 : ∀ t u c, t < n → u < n → gp_P A c → (ye A ak' t u c ↔ E t u c))
    (h1 : ob_A dc dk di dj E O → post 1 (yt A mN mD n dc cl sd kd fs sn th tl dk di dj tp tt ti te tm ov is (ak') (fh') y)) (h0 : ¬ ob_A dc dk di dj E O → post 0 (yt A mN mD n dc cl sd kd fs sn th tl dk di dj tp tt ti te tm ov is (ak') (fh') y)) : ∃ n16 : Nat, wY_obeys_16 post (nI A) (nI mN) (nI mD) (nI n) (nI dc) (nI (yp_np A)) (nI (2 ^ A - 1)) (nI (2 ^ yp_np A - 1)) (nI cl) (nI (y.1)) (nI sd) (nA kd) (nA fs) (nA sn) (nA th) (nA tl) (nA dk) (nA di) (nA dj) (nA tp) (nA tt) (nA ti) (nA te) (nA tm) (nA (y.2.1)) (nA (y.2.2)) (nA ov) (nA is) (nA (ak')) (nA (fh')) n16 0 := by
  obtain ⟨⟨hA, hmN, hmD, hnN, hdcD⟩, ⟨W, Z, tlo, bt⟩, ⟨hd, hdk⟩, hx, T, yb, hs, bf, ba⟩ := g
  have hA4 := yp_A4 hA
  have pn := yb_pw hA
  have pw := gp_pw hA4
  refine loop_0 (fun k i (_ : Unit) => wY_obeys_16 post (nI A) (nI mN) (nI mD) (nI n) (nI dc) (nI (yp_np A)) (nI (2 ^ A - 1)) (nI (2 ^ yp_np A - 1)) (nI cl) (nI (y.1)) (nI sd) (nA kd) (nA fs) (nA sn) (nA th) (nA tl) (nA dk) (nA di) (nA dj) (nA tp) (nA tt) (nA ti) (nA te) (nA tm) (nA (y.2.1)) (nA (y.2.2)) (nA ov) (nA is) (nA (ak')) (nA (fh')) k (nI i)) (fun i _ => ob_A i dk di dj E O) dc () (fun k hk => by omega) ?_ ?_
  · rintro k _ J
    exact br_t (nI_le (Nat.le_refl _) (by omega)) (h1 J)
  · rintro k q _ hq J next
    have v8 : vp_in (nI q) 8 := vp_in_nI (by omega) (by decide)
    have d := hd q hq
    have d1 : dj q < n := d.1
    have qk : (nA dk (nI q).toNatClampNeg = 0 ↔ dk q = 0) := br_aq (j := 0) rfl (by omega) (hdk q hq) (by decide)
    have step : ((dk q = 0 → E (di q) (dj q) 228) ∧ (dk q ≠ 0 → O (dj q) (di q))) → ob_A (q + 1) dk di dj E O := fun z j hj => by
      by_cases e : j = q
      · rw [e]; exact z
      · exact J j (by omega)
    refine br_f (nI_ge hq (by omega)) (And.intro v8 (br_c (fun w => ?_) (fun w => ?_)))
    · have z := qk.mp w
      have hi := d.2.1 z
      have bb := b2 (di q * 16 + dj q)
      have ei := c2 (di q) (dj q) 228 hi d1 (gp_P_id A)
      have e1 : nA di (nI q).toNatClampNeg = nI (di q) := nA_at (by omega)
      have e2 : nA dj (nI q).toNatClampNeg = nI (dj q) := nA_at (by omega)
      have q1 : (nA ak' (nA di (nI q).toNatClampNeg * 16 + nA dj (nI q).toNatClampNeg).toNatClampNeg &&& 1 = 0) ↔ ¬ E (di q) (dj q) 228 := by
        rw [e1, e2, ya_16 (by omega), br_a1 (by omega), ← ei]
        unfold ye; rw [(yp_0 hA).1]
        cases (ak' (di q * 16 + dj q)).testBit 0 <;> simp
      exact And.intro v8 (And.intro v8 (And.intro (by rw [e1, e2]; exact yv_16 (by omega)) (br_c (fun z1 => h0 fun h => q1.mp z1 ((h q hq).1 z)) (fun z1 => nm_r (nI_1 q) (next () (step ⟨fun _ => Classical.byContradiction fun h => z1 (q1.mpr h), fun h => absurd z h⟩))))))
    · have z : dk q ≠ 0 := fun h => w (qk.mpr h)
      have hi := d.2.2 z
      have bb := b1 (dj q)
      have ei := c1 (dj q) (di q) d1 hi
      have e1 : nA di (nI q).toNatClampNeg = nI (di q) := nA_at (by omega)
      have e2 : nA dj (nI q).toNatClampNeg = nI (dj q) := nA_at (by omega)
      have q1 : (((nA fh' (nA dj (nI q).toNatClampNeg).toNatClampNeg >>> ((nA di (nI q).toNatClampNeg) &&& 31)) &&& 1) = 0) ↔ ¬ O (dj q) (di q) := by
        rw [e1, e2, nA_at (by omega), br_bit (by omega) (by omega), ← ei]
        unfold yo
        cases (fh' (dj q)).testBit (di q) <;> simp
      exact And.intro v8 (And.intro (by rw [e2]; exact vp_in_nI (by omega) (by decide)) (And.intro v8 (br_c (fun z1 => h0 fun h => q1.mp z1 ((h q hq).2 z)) (fun z1 => nm_r (nI_1 q) (next () (step ⟨fun h => absurd h z, fun _ => Classical.byContradiction fun h => z1 (q1.mpr h)⟩))))))
theorem xw_fits26 {post : Int32 → SX → Prop} (g : zG A mN mD n dc ca kd fs sn th tl cz dk di dj cl sd tp tt ti te tm ak fh s y) (ec : ca = 4294967295) (X : xv n A kd fs sn th tl (fun t => t < n) s.2.2.1 s.2.2.2.1 s.2.2.2.2.1)
    (h1 : (∀ x, x < n → kd x = 0 → ft_A n A kd (fd_LE n A kd fs sn th dk di dj dc) (fd_LO n A kd fs sn th dk di dj dc) (xm_e 16 s.2.2.1 s.2.2.2.1 s.2.2.2.2.1) (xm_o 16 s.2.2.1 s.2.2.2.1 s.2.2.2.2.1) x) → post 1 (xt A mN mD n dc ca kd fs sn th tl cz dk di dj bl s))
    (h0 : ¬ (∀ x, x < n → kd x = 0 → ft_A n A kd (fd_LE n A kd fs sn th dk di dj dc) (fd_LO n A kd fs sn th dk di dj dc) (xm_e 16 s.2.2.1 s.2.2.2.1 s.2.2.2.2.1) (xm_o 16 s.2.2.1 s.2.2.2.1 s.2.2.2.2.1) x) → post 0 (xt A mN mD n dc ca kd fs sn th tl cz dk di dj bl s)) : ∃ n26 : Nat, wX_fits_26 post 228 16 (nI A) (nI (2 ^ A - 1)) (nI mN) (nI mD) (nI n) (nI dc) (nI ca) (nI (s.1)) (nI (s.2.1)) (nA kd) (nA fs) (nA sn) (nA th) (nA tl) (nA cz) (nA dk) (nA di) (nA dj) (nA (s.2.2.1)) (nA (s.2.2.2.1)) (nA (s.2.2.2.2.1)) (nA bl) (nA (s.2.2.2.2.2)) n26 0 := by
  have g0 := g
  have qx := zz_no g0 ec
  obtain ⟨⟨hA, hmN, hmD, hnN, hdcD⟩, ⟨W, Z, tlo, bt⟩, ⟨hd, hdk⟩, hx, T, yb, hs, bf, ba⟩ := g
  have hA4 := yp_A4 hA
  have hn : n ≤ 16 := by omega
  have pw := gp_pw hA4
  have G := xr_Gd hA4 qx.1
  have G6 := xv_Gd hA4 X
  refine loop_0 (fun k i (_ : Unit) => wX_fits_26 post 228 16 (nI A) (nI (2 ^ A - 1)) (nI mN) (nI mD) (nI n) (nI dc) (nI ca) (nI (s.1)) (nI (s.2.1)) (nA kd) (nA fs) (nA sn) (nA th) (nA tl) (nA cz) (nA dk) (nA di) (nA dj) (nA (s.2.2.1)) (nA (s.2.2.2.1)) (nA (s.2.2.2.2.1)) (nA bl) (nA (s.2.2.2.2.2)) k (nI i)) (fun i _ => ∀ x, x < i → kd x = 0 → ft_A n A kd (fd_LE n A kd fs sn th dk di dj dc) (fd_LO n A kd fs sn th dk di dj dc) (xm_e 16 s.2.2.1 s.2.2.2.1 s.2.2.2.2.1) (xm_o 16 s.2.2.1 s.2.2.2.1 s.2.2.2.2.1) x) n () (fun x hx => by omega) ?_ ?_
  · rintro k _ J
    exact br_t (nI_le (Nat.le_refl _) (by omega)) (h1 J)
  · rintro k x _ hxn J next
    have vx : vp_in (nI x) 16 := vp_in_nI (by omega) (by decide)
    have wx := (W x hxn).1
    have q0 : (nA kd (nI x).toNatClampNeg = 0 ↔ kd x = 0) := br_aq (j := 0) rfl (by omega) (by omega) (by decide)
    have step : (kd x = 0 → ft_A n A kd (fd_LE n A kd fs sn th dk di dj dc) (fd_LO n A kd fs sn th dk di dj dc) (xm_e 16 s.2.2.1 s.2.2.2.1 s.2.2.2.2.1) (xm_o 16 s.2.2.1 s.2.2.2.1 s.2.2.2.2.1) x) → ∀ z, z < x + 1 → kd z = 0 → ft_A n A kd (fd_LE n A kd fs sn th dk di dj dc) (fd_LO n A kd fs sn th dk di dj dc) (xm_e 16 s.2.2.1 s.2.2.2.1 s.2.2.2.2.1) (xm_o 16 s.2.2.1 s.2.2.2.1 s.2.2.2.2.1) z := fun h z hz => by
      by_cases e : z = x
      · rw [e]; exact h
      · exact J z (by omega)
    refine br_f (nI_ge hxn (by omega)) (And.intro vx (br_c (fun w => ?_) (fun w => nm_r (nI_1 x) (next () (step fun h => absurd (q0.mpr h) w)))))
    have k0 := q0.mp w
    have yes : ft_A n A kd (fd_LE n A kd fs sn th dk di dj dc) (fd_LO n A kd fs sn th dk di dj dc) (xm_e 16 s.2.2.1 s.2.2.2.1 s.2.2.2.2.1) (xm_o 16 s.2.2.1 s.2.2.2.1 s.2.2.2.2.1) x → wX_fits_26 post 228 16 (nI A) (nI (2 ^ A - 1)) (nI mN) (nI mD) (nI n) (nI dc) (nI ca) (nI (s.1)) (nI (s.2.1)) (nA kd) (nA fs) (nA sn) (nA th) (nA tl) (nA cz) (nA dk) (nA di) (nA dj) (nA (s.2.2.1)) (nA (s.2.2.2.1)) (nA (s.2.2.2.2.1)) (nA bl) (nA (s.2.2.2.2.2)) k (nI (x + 1)) := fun h => next () (step fun _ => h)
    have non : ¬ ft_A n A kd (fd_LE n A kd fs sn th dk di dj dc) (fd_LO n A kd fs sn th dk di dj dc) (xm_e 16 s.2.2.1 s.2.2.2.1 s.2.2.2.2.1) (xm_o 16 s.2.2.1 s.2.2.2.1 s.2.2.2.2.1) x → post 0 (xt A mN mD n dc ca kd fs sn th tl cz dk di dj bl s) := fun h => h0 fun z => h (z x hxn k0)
    have Ix := qx.1 x hxn
    have cx : s.2.2.1 x < n := Ix.1
    have fx := Ix.2.2.2.2
    have I6 := X.1 (16 + x) (ev_Di.mpr hxn)
    have c6 : s.2.2.1 (16 + x) < 32 := by have : s.2.2.1 (16 + x) - 16 < n := I6.1.2; omega
    have f6 := I6.2.2.2.2
    have il := gp_im_lt (s.2.2.2.1 x) (s.2.2.2.2.1 (s.2.2.1 x))
    have e16 : (16 : Int32) + nI x = nI (16 + x) := nI_add 16 x
    have sub : gp_nd (gp_im (s.2.2.2.1 x) (s.2.2.2.2.1 (s.2.2.1 x))) (gp_im (s.2.2.2.1 (16 + x)) (s.2.2.2.2.1 (s.2.2.1 (16 + x)))) = 0 ↔ ∀ a, a < A → fd_LO n A kd fs sn th dk di dj dc x a → xm_o 16 s.2.2.1 s.2.2.2.1 s.2.2.2.2.1 x a := by
      rw [gp_nd_0]
      constructor
      · exact fun z a _ h => xr_om.mpr (z a (xr_om.mp ((qx.2.2 x a hxn).mpr h)))
      · intro z a h
        have h2 := xr_om.mpr h
        exact xr_om.mp (z a (fd_bd G hxn h2) ((qx.2.2 x a hxn).mp h2))
    unfold wpX_fitsAt
    refine xw_offs (t := x) rfl (by omega) Ix.2.2.2.1.1 (by omega) (by omega) (xw_offs (t := 16 + x) e16 (by omega) I6.2.2.2.1.1 c6 (by omega) (br_c (fun z => ?_) (fun z => ?_)))
    · have hsub := sub.mp ((br_nd0 (by omega)).mp z)
      refine xw_binding (K := ct_l A (fd_LE n A kd fs sn th dk di dj dc)) rfl hn W (fun t ht => by have c : s.2.2.1 t < n := (qx.1 t ht).1; omega) hxn (fun u hu => zz_l g0 ec hxn hu) fun r hr => ?_
      obtain ⟨hrn, hl⟩ := bd_lt hxn ((zz_l g0 ec hxn hxn).mpr rfl) hr
      have eC := ((zz_l g0 ec hxn hrn).mp hl).symm
      have Ir := qx.1 r hrn
      obtain ⟨b1, b2⟩ := xr_bt hA4 qx.1 hxn hrn eC
      refine xw_between rfl rfl (by omega) (by omega) Ix.2.2.2.1.1 Ir.2.2.2.1 (xw_same (D := ev_D (fun t => t < n)) (x := 16 + x) (y := 16 + r) e16 rfl (nI_add 16 r) hA4 (fun x hx => by have : x - 16 < n := hx.2; omega) X.1 (ev_Di.mpr hxn) (ev_Di.mpr hrn) b1 (fun h => ⟨rfl, br_f (by decide) (nm_r (nI_1 x) (yes ⟨hsub, fun r' hr' c hc hL => ?_⟩))⟩) (fun h => ⟨rfl, br_t rfl (non fun hf => h (hf.2 r hr _ b1 ((qx.2.1 x r _ hxn hrn b1).mp b2)))⟩))
      have er := bd_u hr' hr
      subst er
      have hxe := (qx.2.1 x r' c hxn hrn hc).mpr hL
      have Pr := gp_P_cm hc (gp_P_iv b1)
      have e1 := fd_ml G hxn hrn hxn hc (gp_P_iv b1) hxe (fd_iv G hxn hrn b1 b2)
      have e2 : xm_e 16 s.2.2.1 s.2.2.2.1 s.2.2.2.2.1 x x (gp_cm c (gp_iv (gp_cm (s.2.2.2.1 x) (gp_iv (s.2.2.2.1 r'))))) := (fd_st G6 hxn Pr).mpr fun a ha hm => by
        have := (fd_st G hxn Pr).mp e1 a ha hm
        exact hsub a (fd_bd G hxn this) ((qx.2.2 x a hxn).mp this)
      have e3 := fd_ml G6 hxn hxn hrn Pr b1 e2 h
      rw [gp_assoc, gp_vl b1, gp_1r hc.1] at e3; exact e3
    · exact br_t rfl (non fun hf => z ((br_nd0 (by omega)).mpr (sub.mpr hf.1)))
theorem yw_fits26 {post : Int32 → SY → Prop} {E : Nat → Nat → Nat → Prop} {O : Nat → Nat → Prop} (g : zG A mN mD n dc ca kd fs sn th tl cz dk di dj (ca) (1) tp tt ti te tm ak fh s y) (ec : ca = 4294967295) {ak' fh' : Nat → Nat} (b1 : ∀ i, fh' i < 2 ^ A) (b2 : ∀ i, ak' i < 2 ^ yp_np A) (c1 : ∀ t a, t < n → a < A → (yo fh' t a ↔ O t a)) (c2 : ∀ t u c, t < n → u < n → gp_P A c → (ye A ak' t u c ↔ E t u c))
    (h1 : (∀ x, x < n → kd x = 0 → ft_A n A kd (fd_LE n A kd fs sn th dk di dj dc) (fd_LO n A kd fs sn th dk di dj dc) E O x) → post 1 (yt A mN mD n dc cl sd kd fs sn th tl dk di dj tp tt ti te tm ov is (ak') (fh') y))
    (h0 : ¬ (∀ x, x < n → kd x = 0 → ft_A n A kd (fd_LE n A kd fs sn th dk di dj dc) (fd_LO n A kd fs sn th dk di dj dc) E O x) → post 0 (yt A mN mD n dc cl sd kd fs sn th tl dk di dj tp tt ti te tm ov is (ak') (fh') y)) : ∃ n26 : Nat, wY_fits_26 post (nI A) (nI mN) (nI mD) (nI n) (nI dc) (nI (yp_np A)) (nI (2 ^ A - 1)) (nI (2 ^ yp_np A - 1)) (nI cl) (nI (y.1)) (nI sd) (nA kd) (nA fs) (nA sn) (nA th) (nA tl) (nA dk) (nA di) (nA dj) (nA tp) (nA tt) (nA ti) (nA te) (nA tm) (nA (y.2.1)) (nA (y.2.2)) (nA ov) (nA is) (nA (ak')) (nA (fh')) n26 0 := by
  have g0 := g
  have qy := zz_yes g0 ec
  obtain ⟨⟨hA, hmN, hmD, hnN, hdcD⟩, ⟨W, Z, tlo, bt⟩, ⟨hd, hdk⟩, hx, T, yb, hs, bf, ba⟩ := g
  have hA4 := yp_A4 hA
  have hn : n ≤ 16 := by omega
  have pw := gp_pw hA4
  have pn := yb_pw hA
  have LG := (fd_LCl hA4 W hd).1
  refine loop_0 (fun k i (_ : Unit) => wY_fits_26 post (nI A) (nI mN) (nI mD) (nI n) (nI dc) (nI (yp_np A)) (nI (2 ^ A - 1)) (nI (2 ^ yp_np A - 1)) (nI cl) (nI (y.1)) (nI sd) (nA kd) (nA fs) (nA sn) (nA th) (nA tl) (nA dk) (nA di) (nA dj) (nA tp) (nA tt) (nA ti) (nA te) (nA tm) (nA (y.2.1)) (nA (y.2.2)) (nA ov) (nA is) (nA (ak')) (nA (fh')) k (nI i)) (fun i _ => ∀ x, x < i → kd x = 0 → ft_A n A kd (fd_LE n A kd fs sn th dk di dj dc) (fd_LO n A kd fs sn th dk di dj dc) E O x) n () (fun x hx => by omega) ?_ ?_
  · rintro k _ J
    exact br_t (nI_le (Nat.le_refl _) (by omega)) (h1 J)
  · rintro k x _ hxn J next
    have vx : vp_in (nI x) 16 := vp_in_nI (by omega) (by decide)
    have wx := (W x hxn).1
    have q0 : (nA kd (nI x).toNatClampNeg = 0 ↔ kd x = 0) := br_aq (j := 0) rfl (by omega) (by omega) (by decide)
    have step : (kd x = 0 → ft_A n A kd (fd_LE n A kd fs sn th dk di dj dc) (fd_LO n A kd fs sn th dk di dj dc) E O x) → ∀ z, z < x + 1 → kd z = 0 → ft_A n A kd (fd_LE n A kd fs sn th dk di dj dc) (fd_LO n A kd fs sn th dk di dj dc) E O z := fun h z hz => by
      by_cases e : z = x
      · rw [e]; exact h
      · exact J z (by omega)
    refine br_f (nI_ge hxn (by omega)) (yw_bound rfl hA hn W yb.1 hxn fun r hr' => ?_)
    have hr := bd_cg (fun u hu => zz_ly g0 ec hxn hu) hr'
    obtain ⟨hrn, _⟩ := bd_lt hxn ⟨228, gp_P_id A, fd_rf LG hxn⟩ hr
    refine nm_r (yi_16 x r) (And.intro vx (br_c (fun w => And.intro vx (And.intro vx ?_)) (fun w => nm_r (nI_1 x) (next () (step fun h => absurd (q0.mpr h) w)))))
    have k0 := q0.mp w
    have bo := yb.2 x
    have be := yb.1 (x * 16 + r)
    have v256 : vp_in (nI (x * 16 + r)) 256 := vp_in_nI (by omega) (by decide)
    have s1 : (nA y.2.2 (nI x).toNatClampNeg &&& (nA fh' (nI x).toNatClampNeg ^^^ (-1)) = 0) ↔ ∀ a, a < A → fd_LO n A kd fs sn th dk di dj dc x a → O x a := by
      rw [nA_at (by omega), nA_at (by omega), br_nd0 (by omega), gp_nd_0]
      constructor
      · exact fun z a ha h => (c1 x a hxn ha).mp (z a ((qy.2 x a hxn).mpr h))
      · intro z a h
        have haA := gp_bit_lt bo h
        exact (c1 x a hxn haA).mpr (z a haA ((qy.2 x a hxn).mp h))
    have s2 : (nA y.2.1 (nI (x * 16 + r)).toNatClampNeg &&& (nA ak' (nI (x * 16 + r)).toNatClampNeg ^^^ (-1)) = 0) ↔ ∀ c, gp_P A c → fd_LE n A kd fs sn th dk di dj dc x r c → E x r c := by
      rw [nA_at (by omega), nA_at (by omega), br_nd0 (by omega), gp_nd_0]
      constructor
      · exact fun z c hc h => (c2 x r c hxn hrn hc).mp (z _ ((qy.1 x r c hxn hrn hc).mpr h))
      · intro z j h
        have i := yp_cP hA (gp_bit_lt be h)
        have h2 : ye A y.2.1 x r (yp_c A j) := by unfold ye; rw [i.2]; exact h
        have h3 := (c2 x r _ hxn hrn i.1).mpr (z _ i.1 ((qy.1 x r _ hxn hrn i.1).mp h2))
        unfold ye at h3
        rw [i.2] at h3; exact h3
    refine br_c (fun z => And.intro v256 (And.intro v256 (br_c (fun z2 => nm_r (nI_1 x) (next () (step fun _ => ⟨s1.mp z, fun r2 hr2 c hc hL => ?_⟩))) (fun z2 => h0 fun h => z2 (s2.mpr ((h x hxn k0).2 r hr)))))) (fun z => h0 fun h => z (s1.mpr (h x hxn k0).1))
    have er := bd_u hr2 hr
    subst er
    exact s2.mp z2 c hc hL
end
theorem i_vc_obeys {k : Nat} {u : SX} {v : SY} (I : i_Rel k u v) (hk : k + 4 ≤ 2051) : wpX_obeys (fun r u' => wpY_obeys (fun r' v' => r' = r ∧ i_Rel (k + 4) u' v') v) u := by
  refine zz_el (P := fun u v => wpX_obeys (fun r u' => wpY_obeys (fun r' v' => r' = r ∧ i_Rel (k + 4) u' v') v) u) ?_ I
  intro A mN mD n dc ca cl sd kd fs sn th tl cz dk di dj bl tp tt ti te tm ov is ak fh s y g
  have g0 := g
  have R : i_Rel (k + 4) (xt A mN mD n dc ca kd fs sn th tl cz dk di dj bl s) (yt A mN mD n dc cl sd kd fs sn th tl dk di dj tp tt ti te tm ov is ak fh y) := zz_mk g
  obtain ⟨⟨hA, hmN, hmD, hnN, hdcD⟩, ⟨W, Z, tlo, bt⟩, ⟨hd, hdk⟩, hx, T, yb, hs, bf, ba⟩ := g
  have hA4 := yp_A4 hA
  have hn : n ≤ 16 := by omega
  unfold wpX_obeys
  refine xw_unset hn W bt (fun h => br_f (by decide) ?_) (fun h => br_t rfl ?_)
  · show wpY_obeys _ (yt A mN mD n dc cl sd kd fs sn th tl dk di dj tp tt ti te tm ov is ak fh y)
    unfold wpY_obeys
    refine yw_missing hn W bt (fun _ => br_f (by decide) ⟨rfl, R⟩) (fun h' => ?_)
    obtain ⟨t, ht, k0, e⟩ := h
    exact absurd e (h' t ht k0)
  · have L := zz_tl g0 h
    refine xw_evaluate hA hn W Z L fun s' X lo => ?_
    have V := xv_ev hA4 W (fun t ht k0 => (L t ht k0).1) X
    have Y0 : ∀ P : Int32 → SY → Prop, (ob_A dc dk di dj (xm_e 16 s'.2.2.1 s'.2.2.2.1 s'.2.2.2.2.1) (xm_o 16 s'.2.2.1 s'.2.2.2.1 s'.2.2.2.2.1) → ∀ ak' fh', (∀ i, fh' i < 2 ^ A) → (∀ i, ak' i < 2 ^ yp_np A) → P 1 (yt A mN mD n dc cl sd kd fs sn th tl dk di dj tp tt ti te tm ov is (ak') (fh') y)) → (¬ ob_A dc dk di dj (xm_e 16 s'.2.2.1 s'.2.2.2.1 s'.2.2.2.2.1) (xm_o 16 s'.2.2.1 s'.2.2.2.1 s'.2.2.2.2.1) → ∀ ak' fh', (∀ i, fh' i < 2 ^ A) → (∀ i, ak' i < 2 ^ yp_np A) → P 0 (yt A mN mD n dc cl sd kd fs sn th tl dk di dj tp tt ti te tm ov is (ak') (fh') y)) → wpY_obeys P (yt A mN mD n dc cl sd kd fs sn th tl dk di dj tp tt ti te tm ov is ak fh y) := fun P p1 p0 => by
      unfold wpY_obeys
      refine yw_missing hn W bt (fun h' => ?_) (fun _ => br_t rfl (yw_evaluate hA hn W T Z L V bf ba fun ak' fh' b1 b2 c1 c2 => yw_obeys16 g0 b1 b2 c1 c2 (fun o => p1 o ak' fh' b1 b2) (fun o => p0 o ak' fh' b1 b2)))
      obtain ⟨t, ht, k0, e⟩ := h'
      exact absurd e (h t ht k0)
    have mk : ∀ ak' fh', (∀ i, fh' i < 2 ^ A) → (∀ i, ak' i < 2 ^ yp_np A) → i_Rel (k + 4) (xt A mN mD n dc ca kd fs sn th tl cz dk di dj bl s') (yt A mN mD n dc cl sd kd fs sn th tl dk di dj tp tt ti te tm ov is (ak') (fh') y) := fun ak' fh' b1 b2 => zz_mk ⟨⟨hA, hmN, hmD, hnN, hdcD⟩, ⟨W, Z, tlo, bt⟩, ⟨hd, hdk⟩, xz_lo hn lo hx, T, yb, hs, b1, b2⟩
    exact xw_obeys16 g0 X (fun o => Y0 _ (fun _ ak' fh' b1 b2 => ⟨rfl, mk ak' fh' b1 b2⟩) (fun h => absurd o h)) (fun o => Y0 _ (fun h => absurd h o) (fun _ ak' fh' b1 b2 => ⟨rfl, mk ak' fh' b1 b2⟩))
theorem i_vc_fits {k : Nat} {u : SX} {v : SY} (I : i_Rel k u v) (hk : k + 4 ≤ 2051) : wpX_fits (fun r u' => wpY_fits (fun r' v' => r' = r ∧ i_Rel (k + 4) u' v') v) u := by
  refine zz_el (P := fun u v => wpX_fits (fun r u' => wpY_fits (fun r' v' => r' = r ∧ i_Rel (k + 4) u' v') v) u) ?_ I
  intro A mN mD n dc ca cl sd kd fs sn th tl cz dk di dj bl tp tt ti te tm ov is ak fh s y g
  have g0 := g
  have R : i_Rel (k + 4) (xt A mN mD n dc ca kd fs sn th tl cz dk di dj bl s) (yt A mN mD n dc cl sd kd fs sn th tl dk di dj tp tt ti te tm ov is ak fh y) := zz_mk g
  obtain ⟨⟨hA, hmN, hmD, hnN, hdcD⟩, ⟨W, Z, tlo, bt⟩, ⟨hd, hdk⟩, hx, T, yb, hs, bf, ba⟩ := g
  have hA4 := yp_A4 hA
  have hn : n ≤ 16 := by omega
  have hca := xz_ca hx (by omega)
  have qc : (nI ca = -1) ↔ ca = 4294967295 := by rw [br_m1, br_eq hca (by decide)]
  unfold wpX_fits
  refine xw_unset hn W bt (fun h => br_f (by decide) ?_) (fun h => br_t rfl (br_c (fun w => ?_) (fun w => ?_)))
  · show wpY_fits _ (yt A mN mD n dc cl sd kd fs sn th tl dk di dj tp tt ti te tm ov is ak fh y)
    unfold wpY_fits
    refine yw_missing hn W bt (fun _ => br_f (by decide) ⟨rfl, R⟩) (fun h' => ?_)
    obtain ⟨t, ht, k0, e⟩ := h
    exact absurd e (h' t ht k0)
  · have ec := qc.mp w
    have L := zz_tl g0 h
    refine xw_evaluate hA hn W Z L fun s' X lo => ?_
    have V := xv_ev hA4 W (fun t ht k0 => (L t ht k0).1) X
    have g1 : zG A mN mD n dc ca kd fs sn th tl cz dk di dj cl sd tp tt ti te tm ak fh s' y := ⟨⟨hA, hmN, hmD, hnN, hdcD⟩, ⟨W, Z, tlo, bt⟩, ⟨hd, hdk⟩, xz_lo hn lo hx, T, yb, hs, bf, ba⟩
    have Y0 : ∀ P : Int32 → SY → Prop, ((∀ x, x < n → kd x = 0 → ft_A n A kd (fd_LE n A kd fs sn th dk di dj dc) (fd_LO n A kd fs sn th dk di dj dc) (xm_e 16 s'.2.2.1 s'.2.2.2.1 s'.2.2.2.2.1) (xm_o 16 s'.2.2.1 s'.2.2.2.1 s'.2.2.2.2.1) x) → ∀ y' ov' ak' fh', zG A mN mD n dc ca kd fs sn th tl cz dk di dj (ca) (1) tp tt ti te tm (ak') (fh') s' y' → P 1 (yt A mN mD n dc (ca) (1) kd fs sn th tl dk di dj tp tt ti te tm (ov') is (ak') (fh') y')) → (¬ (∀ x, x < n → kd x = 0 → ft_A n A kd (fd_LE n A kd fs sn th dk di dj dc) (fd_LO n A kd fs sn th dk di dj dc) (xm_e 16 s'.2.2.1 s'.2.2.2.1 s'.2.2.2.2.1) (xm_o 16 s'.2.2.1 s'.2.2.2.1 s'.2.2.2.2.1) x) → ∀ y' ov' ak' fh', zG A mN mD n dc ca kd fs sn th tl cz dk di dj (ca) (1) tp tt ti te tm (ak') (fh') s' y' → P 0 (yt A mN mD n dc (ca) (1) kd fs sn th tl dk di dj tp tt ti te tm (ov') is (ak') (fh') y')) → wpY_fits P (yt A mN mD n dc cl sd kd fs sn th tl dk di dj tp tt ti te tm ov is ak fh y) := fun P p1 p0 => by
      unfold wpY_fits
      refine yw_missing hn W bt (fun h' => ?_) (fun _ => br_t rfl (zz_culprit g1 fun y' ov' g' => br_t w (yw_evaluate hA hn W T Z L V bf ba fun ak' fh' b1 b2 c1 c2 => ?_)))
      · obtain ⟨t, ht, k0, e⟩ := h'
        exact absurd e (h t ht k0)
      · have g2 : zG A mN mD n dc ca kd fs sn th tl cz dk di dj (ca) (1) tp tt ti te tm (ak') (fh') s' y' := ⟨g'.1, g'.2.1, g'.2.2.1, g'.2.2.2.1, g'.2.2.2.2.1, g'.2.2.2.2.2.1, g'.2.2.2.2.2.2.1, b1, b2⟩
        exact yw_fits26 g' ec b1 b2 c1 c2 (fun o => p1 o y' ov' ak' fh' g2) (fun o => p0 o y' ov' ak' fh' g2)
    exact xw_fits26 g1 ec X (fun o => Y0 _ (fun _ y' ov' ak' fh' g2 => ⟨rfl, zz_mk g2⟩) (fun h => absurd o h)) (fun o => Y0 _ (fun h => absurd h o) (fun _ y' ov' ak' fh' g2 => ⟨rfl, zz_mk g2⟩))
  · show wpY_fits _ (yt A mN mD n dc cl sd kd fs sn th tl dk di dj tp tt ti te tm ov is ak fh y)
    unfold wpY_fits
    refine yw_missing hn W bt (fun h' => ?_) (fun _ => br_t rfl (zz_culprit g0 fun y' ov' g' => br_f w ⟨rfl, zz_mk g'⟩))
    obtain ⟨t, ht, k0, e⟩ := h'
    exact absurd e (h t ht k0)
end
