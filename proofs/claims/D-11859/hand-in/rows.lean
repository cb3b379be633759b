section
/-! ints that are naturals, under and, xor, or, shifts, one bit -/
theorem nx_and (a b : Nat) : nI a &&& nI b = nI (a &&& b) := by
  apply Int32.toBitVec_inj.1
  show BitVec.ofNat 32 a &&& BitVec.ofNat 32 b = BitVec.ofNat 32 (a &&& b)
  apply BitVec.eq_of_getLsbD_eq
  intro i hi
  simp [hi]
theorem nx_xor (a b : Nat) : nI a ^^^ nI b = nI (a ^^^ b) := by
  apply Int32.toBitVec_inj.1
  show BitVec.ofNat 32 a ^^^ BitVec.ofNat 32 b = BitVec.ofNat 32 (a ^^^ b)
  apply BitVec.eq_of_getLsbD_eq
  intro i hi
  simp [hi]
theorem nx_or (a b : Nat) : nI a ||| nI b = nI (a ||| b) := by
  apply Int32.toBitVec_inj.1
  show BitVec.ofNat 32 a ||| BitVec.ofNat 32 b = BitVec.ofNat 32 (a ||| b)
  apply BitVec.eq_of_getLsbD_eq
  intro i hi
  simp [hi]
theorem nx_sl : ∀ n, n < 32 → ((nI n &&& 31).toBitVec.smod 32).toNat = n := by decide +kernel
theorem nx_eq0 {a : Nat} (h : a < 2 ^ 31) : nI a = 0 ↔ a = 0 := by
  rw [← nI_0]
  exact nI_eq h (by omega)
/-- one bit of a code word -/
def ec_bit (m i : Nat) : Nat := m / 2 ^ i % 2
theorem ec_bit_le (m i : Nat) : ec_bit m i ≤ 1 := by
  have := Nat.mod_lt (m / 2 ^ i) (show 0 < 2 by omega)
  unfold ec_bit
  omega
theorem nx_a1 {m : Nat} (h : m < 2 ^ 32) : nI m &&& 1 = nI (m % 2) := pk_andN h (m := 1) 1 (by decide)
theorem nx_bit {m i : Nat} (hm : m < 2 ^ 31) (hi : i < 32) : (nI m >>> (nI i &&& 31)) &&& 1 = nI (ec_bit m i) := by
  have h2 : m / 2 ^ i ≤ m := Nat.div_le_self _ _
  rw [pk_shrN hm _ i (nx_sl i hi), nx_a1 (by omega)]
  rfl
theorem nx_shl {b p : Nat} (hb : b ≤ 1) (hp : p < 31) : nI b <<< (nI p &&& 31) = nI (b * 2 ^ p) := by
  have h1 : 2 ^ p < 2 ^ 31 := Nat.pow_lt_pow_right (by omega) hp
  have h2 : b * 2 ^ p ≤ 1 * 2 ^ p := Nat.mul_le_mul_right _ hb
  exact pk_shlN _ p (nx_sl p (by omega)) (by omega)
theorem nx_one {p : Nat} (hp : p < 31) : (1 : Int32) <<< (nI p &&& 31) = nI (2 ^ p) := by
  have h := nx_shl (b := 1) (p := p) (by omega) hp
  rw [Nat.one_mul] at h
  exact h
theorem nx_x0 (x : Int32) : x ^^^ 0 = x := by
  apply Int32.toBitVec_inj.1
  rw [Int32.toBitVec_xor]
  show x.toBitVec ^^^ 0#32 = x.toBitVec
  simp
theorem nx_o0 (x : Int32) : x ||| 0 = x := by
  apply Int32.toBitVec_inj.1
  rw [Int32.toBitVec_or]
  show x.toBitVec ||| 0#32 = x.toBitVec
  simp
/-! three votes -/
theorem vo_1 (v z : Int32) : ((v &&& v) ||| (v &&& z)) ||| (v &&& z) = v := by
  apply Int32.toBitVec_inj.1
  simp only [Int32.toBitVec_or, Int32.toBitVec_and]
  apply BitVec.eq_of_getLsbD_eq
  intro i hi
  simp only [BitVec.getLsbD_or, BitVec.getLsbD_and]
  cases v.toBitVec.getLsbD i <;> cases z.toBitVec.getLsbD i <;> rfl
theorem vo_2 (v z : Int32) : ((v &&& z) ||| (v &&& v)) ||| (z &&& v) = v := by
  apply Int32.toBitVec_inj.1
  simp only [Int32.toBitVec_or, Int32.toBitVec_and]
  apply BitVec.eq_of_getLsbD_eq
  intro i hi
  simp only [BitVec.getLsbD_or, BitVec.getLsbD_and]
  cases v.toBitVec.getLsbD i <;> cases z.toBitVec.getLsbD i <;> rfl
theorem vo_3 (v z : Int32) : ((z &&& v) ||| (z &&& v)) ||| (v &&& v) = v := by
  apply Int32.toBitVec_inj.1
  simp only [Int32.toBitVec_or, Int32.toBitVec_and]
  apply BitVec.eq_of_getLsbD_eq
  intro i hi
  simp only [BitVec.getLsbD_or, BitVec.getLsbD_and]
  cases v.toBitVec.getLsbD i <;> cases z.toBitVec.getLsbD i <;> rfl
/-! the code words, over naturals -/
def ec_ck (c : Nat) : Nat → Nat → Nat → Nat
  | 0, s, _ => s
  | k + 1, s, p => ec_ck c k (if ec_bit c p = 0 then s else s ^^^ p) (p + 1)
def ec_on (c : Nat) : Nat → Nat → Nat → Nat
  | 0, s, _ => s
  | k + 1, s, p => ec_on c k (s + ec_bit c p) (p + 1)
def ec_e1 (v : Nat) : Nat → Nat → Nat → Nat → Nat
  | 0, c, _, _ => c
  | k + 1, c, x, p => if p &&& (p - 1) = 0 then ec_e1 v k c x (p + 1) else ec_e1 v k (c ||| ec_bit v x * 2 ^ p) (x + 1) (p + 1)
def ec_e2 (h : Nat) : Nat → Nat → Nat → Nat
  | 0, c, _ => c
  | k + 1, c, p => ec_e2 h k (if h &&& p = 0 then c else c ||| 2 ^ p) (p * 2)
def ec_dc (c : Nat) : Nat → Nat → Nat → Nat → Nat
  | 0, v, _, _ => v
  | k + 1, v, x, p => if p &&& (p - 1) = 0 then ec_dc c k v x (p + 1) else ec_dc c k (v ||| ec_bit c p * 2 ^ x) (x + 1) (p + 1)
/-- the checks, the ones, the code word of a value, a code word put right, a value read; e places -/
def ec_chk (c e : Nat) : Nat := ec_ck c (e - 1) 0 1
def ec_one (c e : Nat) : Nat := ec_on c e 0 0
def ec_c1 (v e : Nat) : Nat := ec_e1 v (e - 3) 0 0 3
def ec_c2 (v e : Nat) : Nat := ec_e2 (ec_chk (ec_c1 v e) e) (if e = 13 then 4 else 5) (ec_c1 v e) 1
def ec_enc (v e : Nat) : Nat := ec_c2 v e ||| ec_one (ec_c2 v e) e % 2
def ec_cor (c e : Nat) : Nat := if ec_one c e % 2 = 0 then c else c ^^^ 2 ^ ec_chk c e
def ec_dec (c e : Nat) : Nat := ec_dc c (e - 3) 0 0 3
/-- all that is asked of a code word c that shall be put right to d -/
def ec_fix (c d e : Nat) : Bool := Nat.blt c 4194304 && (Nat.blt (ec_chk c e) 31 && Nat.beq (ec_cor c e) d)
/-- all that is asked of a value v in a word of e places, d its code word -/
def ec_okd (e v d : Nat) : Bool := Nat.blt v 65536 && (Nat.blt (ec_c1 v e) 4194304 && (Nat.blt (ec_c2 v e) 4194304 && (Nat.beq (ec_dec d e) v && (ec_fix d d e && (List.range e).all (fun b => ec_fix (d ^^^ 2 ^ b) d e)))))
def ec_ok (e v : Nat) : Bool := ec_okd e v (ec_enc v e)
theorem ec_tab13 : ∀ v, v < 256 → ec_ok 13 v = true := by decide +kernel
end
section
theorem ec_fixU {c d e : Nat} (h : ec_fix c d e = true) : c < 4194304 ∧ ec_chk c e < 31 ∧ ec_cor c e = d := by
  unfold ec_fix at h
  rw [Bool.and_eq_true, Bool.and_eq_true] at h
  exact ⟨Nat.blt_eq.mp h.1, Nat.blt_eq.mp h.2.1, Nat.eq_of_beq_eq_true h.2.2⟩
theorem ec_okU {e v : Nat} (h : ec_ok e v = true) : v < 65536 ∧ ec_c1 v e < 4194304 ∧ ec_c2 v e < 4194304 ∧ ec_dec (ec_enc v e) e = v ∧ ec_fix (ec_enc v e) (ec_enc v e) e = true ∧ ∀ b, b < e → ec_fix (ec_enc v e ^^^ 2 ^ b) (ec_enc v e) e = true := by
  unfold ec_ok ec_okd at h
  rw [Bool.and_eq_true, Bool.and_eq_true, Bool.and_eq_true, Bool.and_eq_true, Bool.and_eq_true] at h
  refine ⟨Nat.blt_eq.mp h.1, Nat.blt_eq.mp h.2.1, Nat.blt_eq.mp h.2.2.1, Nat.eq_of_beq_eq_true h.2.2.2.1, h.2.2.2.2.1, fun b hb => ?_⟩
  exact List.all_eq_true.mp h.2.2.2.2.2 b (List.mem_range.mpr hb)
/-! the loops of the code words -/
theorem ec_wck {post : Int32 → Prop} {c e : Nat} (hc : c < 2 ^ 31) (he : e < 32) : ∀ k s p, p + k = e → post (nI (ec_ck c k s p)) → wX_checksOf_4 post (nI c) (nI e) (k + 1) (nI s) (nI p) := by
  intro k
  induction k with
  | zero =>
    intro s p hp h
    exact br_t (nI_le (by omega) (by omega)) h
  | succ k ih =>
    intro s p hp h
    refine br_f (nI_ge (by omega) (by omega)) ?_
    rw [nx_bit hc (by omega)]
    have hb := ec_bit_le c p
    unfold ec_ck at h
    refine br_c (fun z => ?_) (fun z => ?_)
    · rw [nx_eq0 (by omega)] at z
      rw [if_pos z] at h
      exact nm_r (nx_x0 _) (nm_r (nI_1 p) (ih s (p + 1) (by omega) h))
    · rw [nx_eq0 (by omega)] at z
      rw [if_neg z] at h
      exact nm_r (nx_xor s p) (nm_r (nI_1 p) (ih _ (p + 1) (by omega) h))
theorem ec_chkW {post : Int32 → Prop} {u : St0} {c e : Nat} (hc : c < 2 ^ 31) (h1 : 1 ≤ e) (he : e < 32) (h : post (nI (ec_chk c e))) : wpX_checksOf post u (nI c) (nI e) :=
  ⟨e - 1 + 1, ec_wck hc he (e - 1) 0 1 (by omega) h⟩
theorem ec_won {post : Int32 → Prop} {c e : Nat} (hc : c < 2 ^ 31) (he : e < 32) : ∀ k s p, p + k = e → post (nI (ec_on c k s p)) → wX_onesOf_4 post (nI c) (nI e) (k + 1) (nI s) (nI p) := by
  intro k
  induction k with
  | zero =>
    intro s p hp h
    exact br_t (nI_le (by omega) (by omega)) h
  | succ k ih =>
    intro s p hp h
    refine br_f (nI_ge (by omega) (by omega)) ?_
    rw [nx_bit hc (by omega)]
    exact nm_r (nI_add _ _) (nm_r (nI_1 p) (ih _ (p + 1) (by omega) h))
theorem ec_oneW {post : Int32 → Prop} {u : St0} {c e : Nat} (hc : c < 2 ^ 31) (he : e < 32) (h : post (nI (ec_one c e))) : wpX_onesOf post u (nI c) (nI e) :=
  ⟨e + 1, ec_won hc he e 0 0 (by omega) h⟩
theorem ec_onB (c : Nat) : ∀ k s p, ec_on c k s p ≤ s + k := by
  intro k
  induction k with
  | zero => intro s p; exact Nat.le_refl _
  | succ k ih =>
    intro s p
    have h := ih (s + ec_bit c p) (p + 1)
    have hb := ec_bit_le c p
    unfold ec_on
    omega
theorem ec_oneB (c e : Nat) : ec_one c e ≤ e := by
  have h := ec_onB c e 0 0
  unfold ec_one
  omega
theorem ec_ckB (c : Nat) : ∀ k s p, s < 2 ^ 5 → p + k ≤ 32 → ec_ck c k s p < 2 ^ 5 := by
  intro k
  induction k with
  | zero => intro s p h _; exact h
  | succ k ih =>
    intro s p h hp
    unfold ec_ck
    refine ih _ _ ?_ (by omega)
    split
    · exact h
    · exact Nat.xor_lt_two_pow h (by omega)
theorem ec_chkB (c e : Nat) (h1 : 1 ≤ e) (he : e < 32) : ec_chk c e < 32 := ec_ckB c (e - 1) 0 1 (by omega) (by omega)
theorem ec_pow {post : Int32 → Prop} {u : St0} {p : Nat} (h1 : 1 ≤ p) (hp : p < 32) (ht : p &&& (p - 1) = 0 → post 1) (hf : ¬ p &&& (p - 1) = 0 → post 0) : wpX_isPower post u (nI p) := by
  have e : nI p &&& (nI p - 1) = nI (p &&& (p - 1)) := by
    rw [show nI p - 1 = nI (p - 1) from pk_sub h1, nx_and]
  have hle : p &&& (p - 1) ≤ p := Nat.and_le_left
  unfold wpX_isPower
  rw [e, nx_eq0 (by omega)]
  exact ⟨ht, hf⟩
theorem ec_we1 {post : Int32 → Prop} {v e : Nat} (hv : v < 2 ^ 31) (he : e < 31) : ∀ k c x p, p + k = e → x ≤ p → 1 ≤ p →
    wpX_checksOf (fun r_2 => (∃ fu51 : Nat, wX_encode_51 post (nI e) r_2 fu51 (nI (ec_e1 v k c x p)) 1)) () (nI (ec_e1 v k c x p)) (nI e) → wX_encode_7 post (nI v) (nI e) (k + 1) (nI c) (nI x) (nI p) := by
  intro k
  induction k with
  | zero =>
    intro c x p hp _ _ h
    exact br_t (nI_le (by omega) (by omega)) h
  | succ k ih =>
    intro c x p hp hx h1 h
    refine br_f (nI_ge (by omega) (by omega)) ?_
    unfold ec_e1 at h
    refine ec_pow h1 (by omega) (fun z => br_f (by decide) ?_) (fun z => br_t rfl ?_)
    · rw [if_pos z] at h
      exact nm_r (nI_1 p) (ih c x (p + 1) (by omega) (by omega) (by omega) h)
    · rw [if_neg z] at h
      rw [nx_bit hv (by omega), nx_shl (ec_bit_le v x) (by omega), nx_or]
      exact nm_e (nm_r (nI_1 x) (nm_r (nI_1 p) (ih _ (x + 1) (p + 1) (by omega) (by omega) (by omega) h)))
theorem ec_we2 {post : Int32 → Prop} {h e : Nat} (hh : h < 2 ^ 31) (he : e < 31) : ∀ k c p, 1 ≤ p → e ≤ p * 2 ^ k → (0 < k → p * 2 ^ (k - 1) < e) →
    wpX_onesOf (fun r_4 => (post (nI (ec_e2 h k c p) ||| (r_4 &&& 1)))) () (nI (ec_e2 h k c p)) (nI e) → p * 2 ^ k < 2 ^ 31 → wX_encode_51 post (nI e) (nI h) (k + 1) (nI c) (nI p) := by
  intro k
  induction k with
  | zero =>
    intro c p h1 hp _ H hb
    exact br_t (nI_le (by omega) (by omega)) H
  | succ k ih =>
    intro c p h1 hp hq H hb
    have hq' := hq (by omega)
    rw [show k + 1 - 1 = k by omega] at hq'
    have hpk : p ≤ p * 2 ^ k := Nat.le_mul_of_pos_right p (Nat.two_pow_pos k)
    have e2 : p * 2 ^ (k + 1) = p * 2 * 2 ^ k := by rw [Nat.pow_succ, Nat.mul_assoc, Nat.mul_comm 2]
    rw [e2] at hp hb
    have hle : h &&& p ≤ h := Nat.and_le_left
    refine br_f (nI_ge (by omega) (by omega)) ?_
    rw [nx_and, nx_eq0 (by omega)]
    unfold ec_e2 at H
    have hn : 0 < k → p * 2 * 2 ^ (k - 1) < e := fun z => by
      have e3 : p * 2 * 2 ^ (k - 1) = p * 2 ^ k := by
        obtain ⟨m, rfl⟩ : ∃ m, k = m + 1 := ⟨k - 1, by omega⟩
        rw [show m + 1 - 1 = m by omega, Nat.pow_succ, Nat.mul_assoc, Nat.mul_comm 2]
      omega
    refine br_c (fun z => ?_) (fun z => ?_)
    · rw [if_pos z] at H
      exact nm_r (nx_o0 _) (nm_r (pk_mul p 2) (ih c (p * 2) (by omega) hp hn H hb))
    · rw [if_neg z] at H
      rw [nx_one (by omega), nx_or]
      exact nm_e (nm_r (pk_mul p 2) (ih _ (p * 2) (by omega) hp hn H hb))
theorem ec_encW {post : Int32 → Prop} {u : St0} {v e : Nat} (he : e = 13 ∨ e = 22) (h : ec_ok e v = true) (H : post (nI (ec_enc v e))) : wpX_encode post u (nI v) (nI e) := by
  obtain ⟨h1, h2, h3, _, h5, _⟩ := ec_okU h
  obtain ⟨_, _, _⟩ := ec_fixU h5
  have hk : e < 31 ∧ 3 ≤ e := by omega
  refine ⟨e - 3 + 1, ec_we1 (by omega) hk.1 (e - 3) 0 0 3 (by omega) (by omega) (by omega) ?_⟩
  show wpX_checksOf _ () (nI (ec_c1 v e)) (nI e)
  have hck := ec_chkB (ec_c1 v e) e (by omega) (by omega)
  refine ec_chkW (by omega) (by omega) (by omega) ⟨(if e = 13 then 4 else 5) + 1, ec_we2 (by omega) hk.1 (if e = 13 then 4 else 5) (ec_c1 v e) 1 (by omega) ?_ ?_ ?_ ?_⟩
  · rcases he with rfl | rfl <;> decide
  · rcases he with rfl | rfl <;> decide
  · show wpX_onesOf _ () (nI (ec_c2 v e)) (nI e)
    refine ec_oneW (by omega) (by omega) ?_
    have hb := ec_oneB (ec_c2 v e) e
    show post (nI (ec_c2 v e) ||| (nI (ec_one (ec_c2 v e) e) &&& 1))
    rw [nx_a1 (by omega), nx_or]
    exact H
  · rcases he with rfl | rfl <;> decide
theorem ec_corW {post : Int32 → Prop} {u : St0} {c d e : Nat} (he : e = 13 ∨ e = 22) (h : ec_fix c d e = true) (H : post (nI d)) : wpX_correct post u (nI c) (nI e) := by
  obtain ⟨h1, h2, h3⟩ := ec_fixU h
  refine ec_oneW (by omega) (by omega) (ec_chkW (by omega) (by omega) (by omega) ?_)
  have hb := ec_oneB c e
  show ((nI (ec_one c e) &&& 1) = 0 → post (nI c)) ∧ (¬ (nI (ec_one c e) &&& 1) = 0 → post (nI c ^^^ ((1 : Int32) <<< (nI (ec_chk c e) &&& 31))))
  rw [nx_a1 (by omega), nx_eq0 (by omega), nx_one h2, nx_xor]
  unfold ec_cor at h3
  refine br_c (fun z => ?_) (fun z => ?_)
  · rw [if_pos z] at h3
    rw [h3]
    exact H
  · rw [if_neg z] at h3
    rw [h3]
    exact H
theorem ec_wdc {post : Int32 → Prop} {c e : Nat} (hc : c < 2 ^ 31) (he : e < 31) : ∀ k v x p, p + k = e → x ≤ p → 1 ≤ p →
    post (nI (ec_dc c k v x p)) → wX_decode_7 post (nI c) (nI e) (k + 1) (nI v) (nI x) (nI p) := by
  intro k
  induction k with
  | zero =>
    intro v x p hp _ _ h
    exact br_t (nI_le (by omega) (by omega)) h
  | succ k ih =>
    intro v x p hp hx h1 h
    refine br_f (nI_ge (by omega) (by omega)) ?_
    unfold ec_dc at h
    refine ec_pow h1 (by omega) (fun z => br_f (by decide) ?_) (fun z => br_t rfl ?_)
    · rw [if_pos z] at h
      exact nm_r (nI_1 p) (ih v x (p + 1) (by omega) (by omega) (by omega) h)
    · rw [if_neg z] at h
      rw [nx_bit hc (by omega), nx_shl (ec_bit_le c p) (by omega), nx_or]
      exact nm_e (nm_r (nI_1 x) (nm_r (nI_1 p) (ih _ (x + 1) (p + 1) (by omega) (by omega) (by omega) h)))
theorem ec_decW {post : Int32 → Prop} {u : St0} {v e : Nat} (he : e = 13 ∨ e = 22) (h : ec_ok e v = true) (H : post (nI v)) : wpX_decode post u (nI (ec_enc v e)) (nI e) := by
  obtain ⟨h1, h2, h3, h4, h5, _⟩ := ec_okU h
  obtain ⟨h6, _, _⟩ := ec_fixU h5
  refine ⟨e - 3 + 1, ec_wdc (by omega) (by omega) (e - 3) 0 0 3 (by omega) (by omega) (by omega) ?_⟩
  show post (nI (ec_dec (ec_enc v e) e))
  rw [h4]
  exact H
/-- a word of the machine: its value v, its code word c, its mark s -/
def cw_pl (w : Nat) : Nat := if w < 32 then 22 else 13
theorem cw_pl2 (w : Nat) : cw_pl w = 13 ∨ cw_pl w = 22 := by
  unfold cw_pl
  split
  · exact Or.inr rfl
  · exact Or.inl rfl
def cw_ok (w v : Nat) (c s : Int32) : Prop := ec_ok (cw_pl w) v = true ∧ ((s = 0 ∧ c = nI (ec_enc v (cw_pl w))) ∨ (s = 1 ∧ ∃ b, b < cw_pl w ∧ c = nI (ec_enc v (cw_pl w) ^^^ 2 ^ b)))
theorem cw_new {w v : Nat} (h : ec_ok (cw_pl w) v = true) : cw_ok w v (nI (ec_enc v (cw_pl w))) 0 := ⟨h, Or.inl ⟨rfl, rfl⟩⟩
theorem cw_hit {w v b : Nat} {c : Int32} (hb : b < cw_pl w) (h : cw_ok w v c 0) : cw_ok w v (c ^^^ ((1 : Int32) <<< (nI b &&& 31))) 1 := by
  obtain ⟨h1, h2⟩ := h
  have hp := cw_pl2 w
  refine ⟨h1, Or.inr ⟨rfl, b, hb, ?_⟩⟩
  rcases h2 with ⟨_, rfl⟩ | ⟨h0, _⟩
  · rw [nx_one (by omega), nx_xor]
  · exact absurd h0 (by decide)
theorem cw_s {w v : Nat} {c s : Int32} (h : cw_ok w v c s) : s = 0 ∨ s = 1 := by
  rcases h.2 with ⟨h0, _⟩ | ⟨h0, _⟩
  · exact Or.inl h0
  · exact Or.inr h0
theorem cw_corW {post : Int32 → Prop} {u : St0} {w v : Nat} {c s : Int32} (h : cw_ok w v c s) (H : post (nI (ec_enc v (cw_pl w)))) : wpX_correct post u c (nI (cw_pl w)) := by
  obtain ⟨_, _, _, _, h5, h6⟩ := ec_okU h.1
  rcases h.2 with ⟨_, rfl⟩ | ⟨_, b, hb, rfl⟩
  · exact ec_corW (cw_pl2 w) h5 H
  · exact ec_corW (cw_pl2 w) (h6 b hb) H
theorem cw_plW {post : Int32 → Prop} {u : St0} {w : Nat} (hw : w < 2 ^ 31) (H : post (nI (cw_pl w))) : wpX_placesOf post u (nI w) := by
  refine pk_le 32 w (fun z => ?_) (fun z => ?_)
  · rw [show cw_pl w = 13 from if_neg (by omega)] at H
    exact H
  · rw [show cw_pl w = 22 from if_pos z] at H
    exact H
end
section
/-! three copies x y z of a value v, h: the mark of the copy that was hit (0: none) -/
def tr_ok (x y z h : Int32) (v : Nat) : Prop := (h = 0 ∧ x = nI v ∧ y = nI v ∧ z = nI v) ∨ (h = 1 ∧ y = nI v ∧ z = nI v) ∨ (h = 2 ∧ x = nI v ∧ z = nI v) ∨ (h = 4 ∧ x = nI v ∧ y = nI v)
theorem tr_vote {x y z h : Int32} {v : Nat} (t : tr_ok x y z h v) : ((x &&& y) ||| (x &&& z)) ||| (y &&& z) = nI v := by
  rcases t with ⟨_, rfl, rfl, rfl⟩ | ⟨_, rfl, rfl⟩ | ⟨_, rfl, rfl⟩ | ⟨_, rfl, rfl⟩
  · exact vo_1 _ _
  · exact vo_3 _ _
  · exact vo_2 _ _
  · exact vo_1 _ _
theorem tr_h {x y z h : Int32} {v : Nat} (t : tr_ok x y z h v) : h = 0 ∨ h = 1 ∨ h = 2 ∨ h = 4 := by
  rcases t with ⟨h, _⟩ | ⟨h, _⟩ | ⟨h, _⟩ | ⟨h, _⟩
  · exact Or.inl h
  · exact Or.inr (Or.inl h)
  · exact Or.inr (Or.inr (Or.inl h))
  · exact Or.inr (Or.inr (Or.inr h))
theorem tr_all {x y z h : Int32} {v : Nat} (k : h = 0 ∨ h = 1 ∨ h = 2 ∨ h = 4) (hx : x = nI v) (hy : y = nI v) (hz : z = nI v) : tr_ok x y z h v := by
  rcases k with e | e | e | e
  · exact Or.inl ⟨e, hx, hy, hz⟩
  · exact Or.inr (Or.inl ⟨e, hy, hz⟩)
  · exact Or.inr (Or.inr (Or.inl ⟨e, hx, hz⟩))
  · exact Or.inr (Or.inr (Or.inr ⟨e, hx, hy⟩))
theorem tr_0 {x y z h : Int32} {v : Nat} (t : tr_ok x y z h v) (h0 : h = 0) : x = nI v ∧ y = nI v ∧ z = nI v := by
  subst h0
  rcases t with ⟨_, k⟩ | ⟨h, _⟩ | ⟨h, _⟩ | ⟨h, _⟩
  · exact k
  · exact absurd h (by decide)
  · exact absurd h (by decide)
  · exact absurd h (by decide)
theorem tr_mask {x y z h : Int32} (v : Nat) (t : tr_ok x y z h 0) : tr_ok (nI v ^^^ x) (nI v ^^^ y) (nI v ^^^ z) h v := by
  have e : nI v ^^^ nI 0 = nI v := nx_x0 _
  rcases t with ⟨k, rfl, rfl, rfl⟩ | ⟨k, rfl, rfl⟩ | ⟨k, rfl, rfl⟩ | ⟨k, rfl, rfl⟩
  · exact Or.inl ⟨k, e, e, e⟩
  · exact Or.inr (Or.inl ⟨k, e, e⟩)
  · exact Or.inr (Or.inr (Or.inl ⟨k, e, e⟩))
  · exact Or.inr (Or.inr (Or.inr ⟨k, e, e⟩))
/-! a map of naturals, changed at one place -/
def ud_f (f : Nat → Nat) (k v : Nat) : Nat → Nat := fun j => if j = k then v else f j
theorem ud_s {f : Nat → Nat} {k v : Nat} : ud_f f k v k = v := if_pos rfl
theorem ud_n {f : Nat → Nat} {k v j : Nat} (h : j ≠ k) : ud_f f k v j = f j := if_neg h
/-- the state u shows registers R, place P, words V, outs O (o of them), st: stopped; hr, hp, hw: the marks of hits -/
def mk_ok (R : Nat → Nat) (P : Nat) (V O : Nat → Nat) (st o : Nat) (hr : Nat → Int32) (hp hw : Int32) (u : St2) : Prop :=
  match u with
  | (ph, wh, sd, sp, oc, a1, a2, a3, a4, a5, a6, a7, a8) => ph = hp ∧ wh = hw ∧ (∃ s, s < 48 ∧ sd = nI s) ∧ sp = nI st ∧ oc = nI o ∧
    (∀ r, r < 4 → a3 r = hr r ∧ tr_ok (a1 (r * 3)) (a1 (r * 3 + 1)) (a1 (r * 3 + 2)) (hr r) (R r)) ∧
    tr_ok (a2 0) (a2 1) (a2 2) hp P ∧ tr_ok (a4 0) (a4 1) (a4 2) hw 0 ∧
    (∀ w, w < 48 → cw_ok w (V w) (a5 w) (a6 w)) ∧ (∀ i, i < o → a7 i = (nI (O i)).toInt8.toInt32)
theorem ix_0 (r : Nat) : nI r * 3 = nI (r * 3) := pk_mul r 3
theorem ix_1 (r : Nat) : nI r * 3 + 1 = nI (r * 3 + 1) := by rw [ix_0, nI_1]
theorem ix_2 (r : Nat) : nI r * 3 + 2 = nI (r * 3 + 2) := by rw [ix_0]; exact nI_add _ 2
theorem ix_c (r c : Nat) : nI r * 3 + nI c = nI (r * 3 + c) := by rw [ix_0]; exact nI_add _ c
theorem mk_voteReg {post : Int32 → Prop} {R : Nat → Nat} {P : Nat} {V O : Nat → Nat} {st o : Nat} {hr : Nat → Int32} {hp hw : Int32} {u : St2} (h : mk_ok R P V O st o hr hp hw u) {r : Nat} (hr4 : r < 4) (H : post (nI (R r))) : wpX_voteRegister post u (nI r) := by
  obtain ⟨ph, wh, sd, sp, oc, a1, a2, a3, a4, a5, a6, a7, a8⟩ := u
  obtain ⟨rfl, rfl, ⟨s, hs, rfl⟩, rfl, rfl, m6, m7, m8, m9, m10⟩ := h
  unfold wpX_voteRegister
  dsimp only
  rw [ix_1, ix_2, ix_0, nI_clamp (by omega), nI_clamp (by omega), nI_clamp (by omega)]
  refine ⟨vp_in_nI (by omega) (by omega), vp_in_nI (by omega) (by omega), vp_in_nI (by omega) (by omega), ?_⟩
  unfold wpX_vote
  rw [tr_vote (m6 r hr4).2]
  exact H
theorem mk_votePlace {post : Int32 → Prop} {R : Nat → Nat} {P : Nat} {V O : Nat → Nat} {st o : Nat} {hr : Nat → Int32} {hp hw : Int32} {u : St2} (h : mk_ok R P V O st o hr hp hw u) (H : post (nI P)) : wpX_votePlace post u := by
  obtain ⟨ph, wh, sd, sp, oc, a1, a2, a3, a4, a5, a6, a7, a8⟩ := u
  obtain ⟨rfl, rfl, ⟨s, hs, rfl⟩, rfl, rfl, m6, m7, m8, m9, m10⟩ := h
  unfold wpX_votePlace
  dsimp only
  unfold wpX_vote
  rw [tr_vote m7]
  exact H
/-- the three copies of a register, of the place, are v -/
def rc_ok (r v : Nat) (u : St2) : Prop := match u with
  | (ph, wh, sd, sp, oc, a1, a2, a3, a4, a5, a6, a7, a8) => a1 (r * 3) = nI v ∧ a1 (r * 3 + 1) = nI v ∧ a1 (r * 3 + 2) = nI v
def pc_ok (v : Nat) (u : St2) : Prop := match u with
  | (ph, wh, sd, sp, oc, a1, a2, a3, a4, a5, a6, a7, a8) => a2 0 = nI v ∧ a2 1 = nI v ∧ a2 2 = nI v
theorem mk_writeReg {post : St2 → Prop} {R : Nat → Nat} {P : Nat} {V O : Nat → Nat} {st o : Nat} {hr : Nat → Int32} {hp hw : Int32} {u : St2} (h : mk_ok R P V O st o hr hp hw u) {r : Nat} (v : Nat) (hr4 : r < 4) (H : ∀ u', mk_ok (ud_f R r v) P V O st o hr hp hw u' → rc_ok r v u' → post u') : wpX_writeRegister post u (nI r) (nI v) := by
  obtain ⟨ph, wh, sd, sp, oc, a1, a2, a3, a4, a5, a6, a7, a8⟩ := u
  obtain ⟨rfl, rfl, ⟨s, hs, rfl⟩, rfl, rfl, m6, m7, m8, m9, m10⟩ := h
  refine pk_loop (fun n i t => wX_writeRegister_2 post (nI r) (nI v) ph wh (nI s) (nI st) (nI o) n (nI i) t a2 a3 a4 a5 a6 a7 a8) (fun i t => (∀ j, j < r * 3 ∨ r * 3 + 3 ≤ j → t j = a1 j) ∧ ∀ c, c < i → t (r * 3 + c) = nI v) 3 0 a1 (by omega) ⟨fun _ _ => rfl, fun c hc => absurd hc (by omega)⟩ ?_ ?_
  · intro n t hI
    refine pk_le 3 3 (fun _ => H _ ⟨rfl, rfl, ⟨s, hs, rfl⟩, rfl, rfl, fun q hq => ⟨(m6 q hq).1, ?_⟩, m7, m8, m9, m10⟩ ⟨hI.2 0 (by omega), hI.2 1 (by omega), hI.2 2 (by omega)⟩) (fun z => absurd z (by omega))
    by_cases e : q = r
    · subst e
      rw [ud_s]
      exact tr_all (tr_h (m6 q hq).2) (hI.2 0 (by omega)) (hI.2 1 (by omega)) (hI.2 2 (by omega))
    · rw [ud_n e, hI.1 _ (by omega), hI.1 _ (by omega), hI.1 _ (by omega)]
      exact (m6 q hq).2
  · intro n i t hi hI hw
    refine pk_le 3 i (fun z => absurd z (by omega)) (fun _ => ?_)
    rw [ix_c, nI_clamp (by omega)]
    refine ⟨vp_in_nI (by omega) (by omega), nm_e (nm_r (nI_1 i) (hw _ ⟨fun j hj => ?_, fun c hc => ?_⟩))⟩
    · rw [pk_un (by omega)]
      exact hI.1 j hj
    · by_cases e : c = i
      · rw [e, pk_us]
      · rw [pk_un (by omega)]
        exact hI.2 c (by omega)
theorem mk_writePlace {post : St2 → Prop} {R : Nat → Nat} {P : Nat} {V O : Nat → Nat} {st o : Nat} {hr : Nat → Int32} {hp hw : Int32} {u : St2} (h : mk_ok R P V O st o hr hp hw u) (v : Nat) (H : ∀ u', mk_ok R v V O st o hr hp hw u' → pc_ok v u' → post u') : wpX_writePlace post u (nI v) := by
  obtain ⟨ph, wh, sd, sp, oc, a1, a2, a3, a4, a5, a6, a7, a8⟩ := u
  obtain ⟨rfl, rfl, ⟨s, hs, rfl⟩, rfl, rfl, m6, m7, m8, m9, m10⟩ := h
  refine pk_loop (fun n i t => wX_writePlace_2 post (nI v) ph wh (nI s) (nI st) (nI o) n (nI i) a1 t a3 a4 a5 a6 a7 a8) (fun i t => ∀ c, c < i → t c = nI v) 3 0 a2 (by omega) (fun c hc => absurd hc (by omega)) ?_ ?_
  · intro n t hI
    exact pk_le 3 3 (fun _ => H _ ⟨rfl, rfl, ⟨s, hs, rfl⟩, rfl, rfl, m6, tr_all (tr_h m7) (hI 0 (by omega)) (hI 1 (by omega)) (hI 2 (by omega)), m8, m9, m10⟩ ⟨hI 0 (by omega), hI 1 (by omega), hI 2 (by omega)⟩) (fun z => absurd z (by omega))
  · intro n i t hi hI hw
    refine pk_le 3 i (fun z => absurd z (by omega)) (fun _ => ?_)
    rw [nI_clamp (by omega)]
    refine ⟨vp_in_nI (by omega) (by omega), nm_e (nm_r (nI_1 i) (hw _ (fun c hc => ?_)))⟩
    by_cases e : c = i
    · rw [e, pk_us]
    · rw [pk_un (by omega)]
      exact hI c (by omega)
/-- the same, another map of registers that agrees -/
theorem mk_R {R : Nat → Nat} {P : Nat} {V O : Nat → Nat} {st o : Nat} {hr : Nat → Int32} {hp hw : Int32} {u : St2} (h : mk_ok R P V O st o hr hp hw u) {R' : Nat → Nat} (e : ∀ r, r < 4 → R' r = R r) : mk_ok R' P V O st o hr hp hw u := by
  obtain ⟨ph, wh, sd, sp, oc, a1, a2, a3, a4, a5, a6, a7, a8⟩ := u
  obtain ⟨rfl, rfl, ⟨s, hs, rfl⟩, rfl, rfl, m6, m7, m8, m9, m10⟩ := h
  exact ⟨rfl, rfl, ⟨s, hs, rfl⟩, rfl, rfl, fun q hq => by rw [e q hq]; exact m6 q hq, m7, m8, m9, m10⟩
theorem mk_V {R : Nat → Nat} {P : Nat} {V O : Nat → Nat} {st o : Nat} {hr : Nat → Int32} {hp hw : Int32} {u : St2} (h : mk_ok R P V O st o hr hp hw u) {V' : Nat → Nat} (e : ∀ w, w < 48 → V' w = V w) : mk_ok R P V' O st o hr hp hw u := by
  obtain ⟨ph, wh, sd, sp, oc, a1, a2, a3, a4, a5, a6, a7, a8⟩ := u
  obtain ⟨rfl, rfl, ⟨s, hs, rfl⟩, rfl, rfl, m6, m7, m8, m9, m10⟩ := h
  exact ⟨rfl, rfl, ⟨s, hs, rfl⟩, rfl, rfl, m6, m7, m8, fun q hq => by rw [e q hq]; exact m9 q hq, m10⟩
theorem mk_hr {R : Nat → Nat} {P : Nat} {V O : Nat → Nat} {st o : Nat} {hr : Nat → Int32} {hp hw : Int32} {u : St2} (h : mk_ok R P V O st o hr hp hw u) {hr' : Nat → Int32} (e : ∀ w, w < 4 → hr' w = hr w) : mk_ok R P V O st o hr' hp hw u := by
  obtain ⟨ph, wh, sd, sp, oc, a1, a2, a3, a4, a5, a6, a7, a8⟩ := u
  obtain ⟨rfl, rfl, ⟨s, hs, rfl⟩, rfl, rfl, m6, m7, m8, m9, m10⟩ := h
  exact ⟨rfl, rfl, ⟨s, hs, rfl⟩, rfl, rfl, fun q hq => by rw [e q hq]; exact m6 q hq, m7, m8, m9, m10⟩
/-- a register whose copies are one: its mark may be taken away -/
theorem mk_clr {R : Nat → Nat} {P : Nat} {V O : Nat → Nat} {st o : Nat} {hr : Nat → Int32} {hp hw : Int32} {ph wh sd sp oc : Int32} {a1 a2 a3 a4 a5 a6 a7 a8 : Nat → Int32} {r v : Nat} (h : mk_ok (ud_f R r v) P V O st o hr hp hw (ph, wh, sd, sp, oc, a1, a2, a3, a4, a5, a6, a7, a8)) (hr4 : r < 4)
    (hc : rc_ok r v (ph, wh, sd, sp, oc, a1, a2, a3, a4, a5, a6, a7, a8)) : mk_ok (ud_f R r v) P V O st o (upd hr r 0) hp hw (ph, wh, sd, sp, oc, a1, a2, upd a3 r 0, a4, a5, a6, a7, a8) := by
  obtain ⟨rfl, rfl, ⟨s, hs, rfl⟩, rfl, rfl, m6, m7, m8, m9, m10⟩ := h
  refine ⟨rfl, rfl, ⟨s, hs, rfl⟩, rfl, rfl, fun q hq => ?_, m7, m8, m9, m10⟩
  by_cases e : q = r
  · subst e
    rw [pk_us, pk_us, ud_s]
    exact ⟨rfl, Or.inl ⟨rfl, hc⟩⟩
  · rw [pk_un e, pk_un e]
    exact m6 q hq
theorem mk_clrP {R : Nat → Nat} {P : Nat} {V O : Nat → Nat} {st o : Nat} {hr : Nat → Int32} {hp hw : Int32} {ph wh sd sp oc : Int32} {a1 a2 a3 a4 a5 a6 a7 a8 : Nat → Int32} (h : mk_ok R P V O st o hr hp hw (ph, wh, sd, sp, oc, a1, a2, a3, a4, a5, a6, a7, a8))
    (hc : pc_ok P (ph, wh, sd, sp, oc, a1, a2, a3, a4, a5, a6, a7, a8)) : mk_ok R P V O st o hr 0 hw (0, wh, sd, sp, oc, a1, a2, a3, a4, a5, a6, a7, a8) := by
  obtain ⟨rfl, rfl, ⟨s, hs, rfl⟩, rfl, rfl, m6, m7, m8, m9, m10⟩ := h
  exact ⟨rfl, rfl, ⟨s, hs, rfl⟩, rfl, rfl, m6, Or.inl ⟨rfl, hc⟩, m8, m9, m10⟩
/-! all copies become what they vote for -/
theorem mk_voteAllL {post : St2 → Prop} {R : Nat → Nat} {P : Nat} {V O : Nat → Nat} {st o : Nat} {hp hw : Int32} (H : ∀ u', mk_ok R P V O st o (fun _ => 0) 0 hw u' → post u') :
    ∀ k i (ph wh sd sp oc : Int32) (a1 a2 a3 a4 a5 a6 a7 a8 : Nat → Int32) (hr : Nat → Int32), i + k = 4 → (∀ r, r < i → hr r = 0) → mk_ok R P V O st o hr hp hw (ph, wh, sd, sp, oc, a1, a2, a3, a4, a5, a6, a7, a8) → wX_voteAll_2 post (k + 1) (nI i) ph wh sd sp oc a1 a2 a3 a4 a5 a6 a7 a8 := by
  intro k
  induction k with
  | zero =>
    intro i ph wh sd sp oc a1 a2 a3 a4 a5 a6 a7 a8 hr hi h0 h
    refine br_t (nI_le (a := 4) (by omega) (by omega)) ?_
    refine mk_votePlace h (mk_writePlace h P (fun u' h' hc => ?_))
    obtain ⟨ph, wh, sd, sp, oc, a1, a2, a3, a4, a5, a6, a7, a8⟩ := u'
    exact H _ (mk_hr (mk_clrP h' hc) (fun r hr4 => (h0 r (by omega)).symm))
  | succ k ih =>
    intro i ph wh sd sp oc a1 a2 a3 a4 a5 a6 a7 a8 hr hi h0 h
    refine br_f (nI_ge (b := 4) (by omega) (by omega)) ?_
    refine mk_voteReg h (r := i) (by omega) (mk_writeReg h (R i) (by omega) (fun u' h' hc => ?_))
    obtain ⟨ph, wh, sd, sp, oc, a1, a2, a3, a4, a5, a6, a7, a8⟩ := u'
    refine ⟨pk_in i 4 (by omega), ?_⟩
    rw [nI_clamp (by omega)]
    refine nm_e (nm_r (nI_1 i) (ih (i + 1) _ _ _ _ _ _ _ _ _ _ _ _ _ (upd hr i 0) (by omega) (fun r hri => ?_) (mk_R (mk_clr h' (by omega) hc) (fun r hr4 => ?_))))
    · by_cases e : r = i
      · rw [e, pk_us]
      · rw [pk_un e]
        exact h0 r (by omega)
    · by_cases e : r = i
      · rw [e, ud_s]
      · rw [ud_n e]
theorem mk_voteAll {post : St2 → Prop} {R : Nat → Nat} {P : Nat} {V O : Nat → Nat} {st o : Nat} {hr : Nat → Int32} {hp hw : Int32} {u : St2} (h : mk_ok R P V O st o hr hp hw u) (H : ∀ u', mk_ok R P V O st o (fun _ => 0) 0 hw u' → post u') : wpX_voteAll post u := by
  obtain ⟨ph, wh, sd, sp, oc, a1, a2, a3, a4, a5, a6, a7, a8⟩ := u
  exact ⟨5, mk_voteAllL H 4 0 _ _ _ _ _ _ _ _ _ _ _ _ _ hr (by omega) (fun r z => absurd z (by omega)) h⟩
/-! words -/
theorem mk_writeWord {post : St2 → Prop} {R : Nat → Nat} {P : Nat} {V O : Nat → Nat} {st o : Nat} {hr : Nat → Int32} {hp hw : Int32} {u : St2} (h : mk_ok R P V O st o hr hp hw u) {w v : Nat} (hw48 : w < 48) (hv : ec_ok (cw_pl w) v = true) (H : ∀ u', mk_ok R P (ud_f V w v) O st o hr hp hw u' → post u') : wpX_writeWord post u (nI w) (nI v) := by
  obtain ⟨ph, wh, sd, sp, oc, a1, a2, a3, a4, a5, a6, a7, a8⟩ := u
  obtain ⟨rfl, rfl, ⟨s, hs, rfl⟩, rfl, rfl, m6, m7, m8, m9, m10⟩ := h
  unfold wpX_writeWord
  dsimp only
  refine cw_plW (by omega) (ec_encW (cw_pl2 w) hv ?_)
  rw [nI_clamp (by omega)]
  refine ⟨pk_in w 48 hw48, nm_e ⟨pk_in w 48 hw48, nm_e (H _ ⟨rfl, rfl, ⟨s, hs, rfl⟩, rfl, rfl, m6, m7, m8, fun q hq => ?_, m10⟩)⟩⟩
  by_cases e : q = w
  · rw [e, ud_s, pk_us, pk_us]
    exact cw_new hv
  · rw [ud_n e, pk_un e, pk_un e]
    exact m9 q hq
theorem mk_repair {post : St2 → Prop} {R : Nat → Nat} {P : Nat} {V O : Nat → Nat} {st o : Nat} {hr : Nat → Int32} {hp hw : Int32} {u : St2} (h : mk_ok R P V O st o hr hp hw u) {w : Nat} (hw48 : w < 48) (H : ∀ u', mk_ok R P V O st o hr hp hw u' → post u') : wpX_repair post u (nI w) := by
  obtain ⟨ph, wh, sd, sp, oc, a1, a2, a3, a4, a5, a6, a7, a8⟩ := u
  obtain ⟨rfl, rfl, ⟨s, hs, rfl⟩, rfl, rfl, m6, m7, m8, m9, m10⟩ := h
  unfold wpX_repair
  dsimp only
  rw [nI_clamp (by omega)]
  refine cw_plW (by omega) ⟨pk_in w 48 hw48, cw_corW (m9 w hw48) ⟨pk_in w 48 hw48, nm_e ⟨pk_in w 48 hw48, nm_e (H _ ⟨rfl, rfl, ⟨s, hs, rfl⟩, rfl, rfl, m6, m7, m8, fun q hq => ?_, m10⟩)⟩⟩⟩
  by_cases e : q = w
  · rw [e, pk_us, pk_us]
    exact cw_new (m9 w hw48).1
  · rw [pk_un e, pk_un e]
    exact m9 q hq
theorem mk_readWord {post : Int32 → Prop} {R : Nat → Nat} {P : Nat} {V O : Nat → Nat} {st o : Nat} {hr : Nat → Int32} {hp hw : Int32} {u : St2} (h : mk_ok R P V O st o hr hp hw u) {w : Nat} (hw48 : w < 48) (H : post (nI (V w))) : wpX_readWord post u (nI w) := by
  obtain ⟨ph, wh, sd, sp, oc, a1, a2, a3, a4, a5, a6, a7, a8⟩ := u
  obtain ⟨rfl, rfl, ⟨s, hs, rfl⟩, rfl, rfl, m6, m7, m8, m9, m10⟩ := h
  unfold wpX_readWord
  dsimp only
  rw [nI_clamp (by omega)]
  exact cw_plW (by omega) ⟨pk_in w 48 hw48, cw_corW (m9 w hw48) (ec_decW (cw_pl2 w) (m9 w hw48).1 H)⟩
theorem mk_readRep {post : Int32 → St2 → Prop} {R : Nat → Nat} {P : Nat} {V O : Nat → Nat} {st o : Nat} {hr : Nat → Int32} {hp hw : Int32} {u : St2} (h : mk_ok R P V O st o hr hp hw u) {w : Nat} (hw48 : w < 48) (H : ∀ u', mk_ok R P V O st o hr hp hw u' → post (nI (V w)) u') : wpX_readAndRepair post u (nI w) := by
  obtain ⟨ph, wh, sd, sp, oc, a1, a2, a3, a4, a5, a6, a7, a8⟩ := u
  unfold wpX_readAndRepair
  dsimp only
  refine mk_repair h hw48 (fun u' h' => ?_)
  obtain ⟨ph, wh, sd, sp, oc, a1, a2, a3, a4, a5, a6, a7, a8⟩ := u'
  exact mk_readWord h' hw48 (H _ h')
end
section
/-! work, bit by bit -/
theorem ad_bits : ∀ x y c : Nat, x ≤ 1 → y ≤ 1 → c ≤ 1 → ((x &&& y) ||| (x &&& c)) ||| (y &&& c) ≤ 1 ∧ (x ^^^ y) ^^^ c ≤ 1 ∧ x + y + c = ((x ^^^ y) ^^^ c) + 2 * (((x &&& y) ||| (x &&& c)) ||| (y &&& c)) := by
  intro x y c hx hy hc
  have ex : x = 0 ∨ x = 1 := by omega
  have ey : y = 0 ∨ y = 1 := by omega
  have ez : c = 0 ∨ c = 1 := by omega
  rcases ex with rfl | rfl <;> rcases ey with rfl | rfl <;> rcases ez with rfl | rfl <;> decide
theorem ad_or {s i b : Nat} (h : s < 2 ^ i) : s ||| b * 2 ^ i = s + b * 2 ^ i := by
  rw [Nat.mul_comm b, Nat.or_comm, ← Nat.two_pow_add_eq_or_of_lt h, Nat.add_comm]
theorem ad_mod (a i : Nat) : a % 2 ^ (i + 1) = a % 2 ^ i + ec_bit a i * 2 ^ i := by
  unfold ec_bit
  rw [Nat.pow_succ, Nat.mod_mul, Nat.mul_comm]
theorem ad_w {post : Int32 → Prop} {a b c0 : Nat} (ha : a < 2 ^ 31) (hb : b < 2 ^ 31) (H : ∀ s, s < 256 → (∃ c, a % 256 + b % 256 + c0 = s + 256 * c) → post (nI s)) :
    ∀ k i s c, i + k = 8 → s < 2 ^ i → c ≤ 1 → a % 2 ^ i + b % 2 ^ i + c0 = s + c * 2 ^ i → wX_addBits_8 post (nI a) (nI b) (k + 1) (nI s) (nI c) (nI i) := by
  intro k
  induction k with
  | zero =>
    intro i s c hi hs hc h
    have e : i = 8 := by omega
    subst e
    exact br_t (nI_le (a := 8) (by omega) (by omega)) (H s hs ⟨c, by omega⟩)
  | succ k ih =>
    intro i s c hi hs hc h
    refine br_f (nI_ge (b := 8) (by omega) (by omega)) ?_
    rw [nx_bit ha (by omega), nx_bit hb (by omega)]
    obtain ⟨h1, h2, h3⟩ := ad_bits (ec_bit a i) (ec_bit b i) c (ec_bit_le a i) (ec_bit_le b i) hc
    have hp : 0 < 2 ^ i := Nat.two_pow_pos i
    refine nm_e (nm_e (nm_r (e' := nI (s + ((ec_bit a i ^^^ ec_bit b i) ^^^ c) * 2 ^ i)) ?_ ?_))
    · rw [nx_xor, nx_xor, nx_shl h2 (by omega), nx_or, ad_or hs]
    · unfold wpX_vote
      rw [nx_and, nx_and, nx_and, nx_or, nx_or]
      refine nm_r (nI_1 i) (ih (i + 1) _ _ (by omega) ?_ h1 ?_)
      · rw [Nat.pow_succ]
        have h4 : ((ec_bit a i ^^^ ec_bit b i) ^^^ c) * 2 ^ i ≤ 1 * 2 ^ i := Nat.mul_le_mul_right _ h2
        omega
      · rw [ad_mod a i, ad_mod b i]
        have e1 : (((ec_bit a i &&& ec_bit b i) ||| (ec_bit a i &&& c)) ||| (ec_bit b i &&& c)) * 2 ^ (i + 1) = 2 * (((ec_bit a i &&& ec_bit b i) ||| (ec_bit a i &&& c)) ||| (ec_bit b i &&& c)) * 2 ^ i := by
          rw [Nat.pow_succ, Nat.mul_comm 2 (_ ||| _), Nat.mul_assoc, Nat.mul_comm 2]
        have e2 : (ec_bit a i + ec_bit b i + c) * 2 ^ i = ((ec_bit a i ^^^ ec_bit b i) ^^^ c) * 2 ^ i + 2 * (((ec_bit a i &&& ec_bit b i) ||| (ec_bit a i &&& c)) ||| (ec_bit b i &&& c)) * 2 ^ i := by
          rw [h3, Nat.add_mul]
        rw [Nat.add_mul, Nat.add_mul] at e2
        omega
theorem ad_bitsW {post : Int32 → Prop} {u : St0} {a b c0 : Nat} (ha : a < 256) (hb : b < 256) (hc : c0 ≤ 1) (H : post (nI ((a + b + c0) % 256))) : wpX_addBits post u (nI a) (nI b) (nI c0) := by
  refine ⟨9, ad_w (c0 := c0) (by omega) (by omega) (fun s hs hx => ?_) 8 0 0 c0 (by omega) (by omega) hc ?_⟩
  · obtain ⟨c, hc⟩ := hx
    rw [show s = (a + b + c0) % 256 by omega]
    exact H
  · rw [show (2 : Nat) ^ 0 = 1 from rfl]
    omega
theorem wo_set {post : Int32 → Prop} {u : St0} {a b m : Int32} (H : post m) : wpX_workOut post u 1 a b m :=
  br_f (by decide) (br_f (by decide) (br_t rfl H))
theorem wo_add {post : Int32 → Prop} {u : St0} {a b : Nat} {m : Int32} (ha : a < 256) (hb : b < 256) (H : post (nI ((a + b) % 256))) : wpX_workOut post u 4 (nI a) (nI b) m :=
  br_f (by decide) (br_f (by decide) (br_f (by decide) (br_f (by decide) (br_f (by decide) (br_t rfl (ad_bitsW (c0 := 0) ha hb (by omega) H))))))
theorem wo_sub {post : Int32 → Prop} {u : St0} {a b : Nat} {m : Int32} (ha : a < 256) (hb : b ^^^ 255 < 256) (H : post (nI ((a + (b ^^^ 255) + 1) % 256))) : wpX_workOut post u 5 (nI a) (nI b) m := by
  refine br_f (by decide) (br_f (by decide) (br_f (by decide) (br_f (by decide) (br_f (by decide) (br_f (by decide) (br_t rfl ?_))))))
  rw [show nI b ^^^ 255 = nI (b ^^^ 255) from nx_xor b 255]
  exact ad_bitsW (c0 := 1) ha hb (by omega) H
theorem wo_jump {post : Int32 → Prop} {u : St0} {a b m : Int32} (H : post (m &&& 31)) : wpX_workOut post u 9 a b m :=
  br_f (by decide) (br_f (by decide) (br_f (by decide) (br_f (by decide) (br_f (by decide) (br_f (by decide) (br_f (by decide) (br_f (by decide) (br_f (by decide) (br_f (by decide) (br_t rfl H))))))))))
/-! three workings and their vote -/
theorem mk_a8 {R : Nat → Nat} {P : Nat} {V O : Nat → Nat} {st o : Nat} {hr : Nat → Int32} {hp hw : Int32} {ph wh sd sp oc : Int32} {a1 a2 a3 a4 a5 a6 a7 a8 : Nat → Int32} (h : mk_ok R P V O st o hr hp hw (ph, wh, sd, sp, oc, a1, a2, a3, a4, a5, a6, a7, a8)) (t : Nat → Int32) : mk_ok R P V O st o hr hp hw (ph, wh, sd, sp, oc, a1, a2, a3, a4, a5, a6, a7, t) := h
theorem mk_work {post : Int32 → St2 → Prop} {R : Nat → Nat} {P : Nat} {V O : Nat → Nat} {st o : Nat} {hp hw : Int32} {u : St2} (h : mk_ok R P V O st o (fun _ => 0) hp hw u) {r q v : Nat} {op m : Int32} (hr4 : r < 4) (hq4 : q < 4)
    (hW : ∀ K : Int32 → Prop, K (nI v) → wpX_workOut K () op (nI (R r)) (nI (R q)) m) (H : ∀ u', mk_ok R P V O st o (fun _ => 0) hp hw u' → post (nI v) u') : wpX_workThrice post u op (nI r) (nI q) m := by
  obtain ⟨ph, wh, sd, sp, oc, a1, a2, a3, a4, a5, a6, a7, a8⟩ := u
  obtain ⟨rfl, rfl, ⟨s, hs, rfl⟩, rfl, rfl, m6, m7, m8, m9, m10⟩ := h
  have cp : ∀ x, x < 4 → ∀ c, c < 3 → a1 (x * 3 + c) = nI (R x) := fun x hx c hc => by
    obtain ⟨e0, e1, e2⟩ := tr_0 (m6 x hx).2 rfl
    have k : c = 0 ∨ c = 1 ∨ c = 2 := by omega
    rcases k with rfl | rfl | rfl
    · exact e0
    · exact e1
    · exact e2
  refine pk_loop (fun n i t => wX_workThrice_3 post op (nI r) (nI q) m ph wh (nI s) (nI st) (nI o) n (nI i) a1 a2 a3 a4 a5 a6 a7 t) (fun i t => ∀ c, c < i → t c = nI v ^^^ a4 c) 3 0 a8 (by omega) (fun c hc => absurd hc (by omega)) ?_ ?_
  · intro n t hI
    refine pk_le 3 3 (fun _ => ?_) (fun z => absurd z (by omega))
    unfold wpX_vote
    rw [hI 0 (by omega), hI 1 (by omega), hI 2 (by omega), tr_vote (tr_mask v m8)]
    exact H _ ⟨rfl, rfl, ⟨s, hs, rfl⟩, rfl, rfl, m6, m7, m8, m9, m10⟩
  · intro n i t hi hI hw
    refine pk_le 3 i (fun z => absurd z (by omega)) (fun _ => ?_)
    rw [ix_c, ix_c, nI_clamp (n := r * 3 + i) (by omega), nI_clamp (n := q * 3 + i) (by omega), nI_clamp (n := i) (by omega), cp r hr4 i hi, cp q hq4 i hi]
    refine ⟨vp_in_nI (by omega) (by omega), vp_in_nI (by omega) (by omega), hW _ ⟨vp_in_nI hi (by omega), vp_in_nI hi (by omega), nm_e (nm_r (nI_1 i) (hw _ (fun c hc => ?_)))⟩⟩
    by_cases e : c = i
    · rw [e, pk_us]
    · rw [pk_un e]
      exact hI c (by omega)
theorem mk_pass {post : Int32 → St2 → Prop} {R : Nat → Nat} {P : Nat} {V O : Nat → Nat} {st o : Nat} {hr : Nat → Int32} {hp hw : Int32} {u : St2} (h : mk_ok R P V O st o hr hp hw u) {v : Nat} (H : ∀ u', mk_ok R P V O st o hr hp hw u' → post (nI v) u') : wpX_passThrice post u (nI v) := by
  obtain ⟨ph, wh, sd, sp, oc, a1, a2, a3, a4, a5, a6, a7, a8⟩ := u
  obtain ⟨rfl, rfl, ⟨s, hs, rfl⟩, rfl, rfl, m6, m7, m8, m9, m10⟩ := h
  refine pk_loop (fun n i t => wX_passThrice_2 post (nI v) ph wh (nI s) (nI st) (nI o) n (nI i) a1 a2 a3 a4 a5 a6 a7 t) (fun i t => ∀ c, c < i → t c = nI v ^^^ a4 c) 3 0 a8 (by omega) (fun c hc => absurd hc (by omega)) ?_ ?_
  · intro n t hI
    refine pk_le 3 3 (fun _ => ?_) (fun z => absurd z (by omega))
    unfold wpX_vote
    rw [hI 0 (by omega), hI 1 (by omega), hI 2 (by omega), tr_vote (tr_mask v m8)]
    exact H _ ⟨rfl, rfl, ⟨s, hs, rfl⟩, rfl, rfl, m6, m7, m8, m9, m10⟩
  · intro n i t hi hI hw
    refine pk_le 3 i (fun z => absurd z (by omega)) (fun _ => ?_)
    rw [nI_clamp (n := i) (by omega)]
    refine ⟨vp_in_nI hi (by omega), vp_in_nI hi (by omega), nm_e (nm_r (nI_1 i) (hw _ (fun c hc => ?_)))⟩
    by_cases e : c = i
    · rw [e, pk_us]
    · rw [pk_un e]
      exact hI c (by omega)
theorem mk_pass2 {post : Int32 → St2 → Prop} {R : Nat → Nat} {P : Nat} {V O : Nat → Nat} {st o : Nat} {hr : Nat → Int32} {hp hw : Int32} {u : St2} (h : mk_ok R P V O st o hr hp hw u) {v : Nat} (H : ∀ u', mk_ok R P V O st o hr hp hw u' → post (nI v) u') : wpX_passThrice_2 post u (nI v) := by
  obtain ⟨ph, wh, sd, sp, oc, a1, a2, a3, a4, a5, a6, a7, a8⟩ := u
  obtain ⟨rfl, rfl, ⟨s, hs, rfl⟩, rfl, rfl, m6, m7, m8, m9, m10⟩ := h
  refine pk_loop (fun n i t => wX_passThrice_2_2 post (nI v) ph wh (nI s) (nI st) (nI o) n (nI i) a1 a2 a3 a4 a5 a6 a7 t) (fun i t => ∀ c, c < i → t c = nI v ^^^ a4 c) 3 0 a8 (by omega) (fun c hc => absurd hc (by omega)) ?_ ?_
  · intro n t hI
    refine pk_le 3 3 (fun _ => ?_) (fun z => absurd z (by omega))
    unfold wpX_vote
    rw [hI 0 (by omega), hI 1 (by omega), hI 2 (by omega), tr_vote (tr_mask v m8)]
    exact H _ ⟨rfl, rfl, ⟨s, hs, rfl⟩, rfl, rfl, m6, m7, m8, m9, m10⟩
  · intro n i t hi hI hw
    refine pk_le 3 i (fun z => absurd z (by omega)) (fun _ => ?_)
    rw [nI_clamp (n := i) (by omega)]
    refine ⟨vp_in_nI hi (by omega), vp_in_nI hi (by omega), nm_e (nm_r (nI_1 i) (hw _ (fun c hc => ?_)))⟩
    by_cases e : c = i
    · rw [e, pk_us]
    · rw [pk_un e]
      exact hI c (by omega)
/-! the end of a step: the place, the masks, one word put right, the count -/
theorem mk_tail {post : St2 → Prop} {R : Nat → Nat} {P : Nat} {V O : Nat → Nat} {st o : Nat} {hr : Nat → Int32} {hp hw : Int32} {ph wh sd sp oc : Int32} {a1 a2 a3 a4 a5 a6 a7 a8 : Nat → Int32} (h : mk_ok R P V O st o hr hp hw (ph, wh, sd, sp, oc, a1, a2, a3, a4, a5, a6, a7, a8)) {v : Nat} (H : ∀ u', mk_ok R v V O st o hr hp 0 u' → post u') : wX_step_119 post (nI v) ph wh sd sp oc a1 a2 a3 a4 a5 a6 a7 a8 := by
  refine mk_writePlace h v (fun u' h' _ => ?_)
  clear h
  obtain ⟨ph, wh, sd, sp, oc, a1, a2, a3, a4, a5, a6, a7, a8⟩ := u'
  have h := h'
  clear h'
  obtain ⟨rfl, rfl, ⟨s, hs, rfl⟩, rfl, rfl, m6, m7, m8, m9, m10⟩ := h
  refine pk_loop (fun n i t => wX_step_128 post ph wh (nI s) (nI st) (nI o) n (nI i) a1 a2 a3 t a5 a6 a7 a8) (fun i t => ∀ c, c < i → t c = 0) 3 0 a4 (by omega) (fun c hc => absurd hc (by omega)) ?_ ?_
  · intro n t hI
    refine pk_le 3 3 (fun _ => ⟨by decide, ?_⟩) (fun z => absurd z (by omega))
    rw [show nI s - nI s / 48 * 48 = nI (s % 48) from pk_rem (d := 48) (by omega) (by omega) (by omega)]
    have h0 : mk_ok R v V O st o hr ph 0 (ph, 0, nI s, nI st, nI o, a1, a2, a3, t, a5, a6, a7, a8) := ⟨rfl, rfl, ⟨s, hs, rfl⟩, rfl, rfl, m6, m7, Or.inl ⟨rfl, hI 0 (by omega), hI 1 (by omega), hI 2 (by omega)⟩, m9, m10⟩
    refine mk_repair h0 (Nat.mod_lt _ (by omega)) (fun u' h' => ?_)
    obtain ⟨ph', wh', sd', sp', oc', b1, b2, b3, b4, b5, b6, b7, b8⟩ := u'
    obtain ⟨rfl, rfl, ⟨s', hs', rfl⟩, rfl, rfl, n6, n7, n8, n9, n10⟩ := h'
    refine ⟨by decide, ?_⟩
    rw [nI_1, show nI (s' + 1) - nI (s' + 1) / 48 * 48 = nI ((s' + 1) % 48) from pk_rem (d := 48) (by omega) (by omega) (by omega)]
    exact nm_e (H _ ⟨rfl, rfl, ⟨_, Nat.mod_lt _ (by omega), rfl⟩, rfl, rfl, n6, n7, n8, n9, n10⟩)
  · intro n i t hi hI hw
    refine pk_le 3 i (fun z => absurd z (by omega)) (fun _ => ?_)
    rw [nI_clamp (n := i) (by omega)]
    refine ⟨vp_in_nI hi (by omega), nm_e (nm_r (nI_1 i) (hw _ (fun c hc => ?_)))⟩
    by_cases e : c = i
    · rw [e, pk_us]
    · rw [pk_un e]
      exact hI c (by omega)
end
section
theorem nx_a3 {m : Nat} (h : m < 2 ^ 32) : nI m &&& 3 = nI (m % 4) := pk_andN h (m := 3) 2 (by decide)
theorem nx_a15 {m : Nat} (h : m < 2 ^ 32) : nI m &&& 15 = nI (m % 16) := pk_andN h (m := 15) 4 (by decide)
theorem nx_a31 {m : Nat} (h : m < 2 ^ 32) : nI m &&& 31 = nI (m % 32) := pk_andN h (m := 31) 5 (by decide)
theorem nx_a255 {m : Nat} (h : m < 2 ^ 32) : nI m &&& 255 = nI (m % 256) := pk_andN h (m := 255) 8 (by decide)
theorem cd_op {c op r m : Nat} (ho : op < 16) (hr : r < 4) (hm : m < 256) (e : c = op + 16 * r + 64 * m) : nI c &&& 15 = nI op := by
  rw [nx_a15 (by omega)]
  congr 1
  omega
theorem cd_r {c op r m : Nat} (ho : op < 16) (hr : r < 4) (hm : m < 256) (e : c = op + 16 * r + 64 * m) : (nI c >>> ((4 : Int32) &&& 31)) &&& 3 = nI r := by
  rw [pk_shrN (by omega) ((4 : Int32) &&& 31) 4 (by decide), nx_a3 (by omega)]
  congr 1
  omega
theorem cd_m {c op r m : Nat} (ho : op < 16) (hr : r < 4) (hm : m < 256) (e : c = op + 16 * r + 64 * m) : (nI c >>> ((6 : Int32) &&& 31)) &&& 255 = nI m := by
  rw [pk_shrN (by omega) ((6 : Int32) &&& 31) 6 (by decide), nx_a255 (by omega)]
  congr 1
  omega
/-! what reads or writes a cell -/
theorem wc_stp {post : Int32 → St2 → Prop} {R : Nat → Nat} {P : Nat} {V O : Nat → Nat} {st o : Nat} {hr : Nat → Int32} {hp hw : Int32} {u : St2} (h : mk_ok R P V O st o hr hp hw u) {p1 p2 p3 p4 : Int32} (H : ∀ u', mk_ok R P V O 1 o hr hp hw u' → post p3 u') : wpX_stepWithCells post u 0 p1 p2 p3 p4 := by
  obtain ⟨ph, wh, sd, sp, oc, a1, a2, a3, a4, a5, a6, a7, a8⟩ := u
  obtain ⟨rfl, rfl, ⟨s, hs, rfl⟩, rfl, rfl, m6, m7, m8, m9, m10⟩ := h
  exact br_t rfl (H _ ⟨rfl, rfl, ⟨s, hs, rfl⟩, rfl, rfl, m6, m7, m8, m9, m10⟩)
theorem wc_set {post : Int32 → St2 → Prop} {R : Nat → Nat} {P : Nat} {V O : Nat → Nat} {st o : Nat} {hp hw : Int32} {u : St2} (h : mk_ok R P V O st o (fun _ => 0) hp hw u) {r m : Nat} {p3 p4 : Int32} (hr4 : r < 4) (hm : m < 256)
    (H : ∀ u', mk_ok (ud_f R r m) P V O st o (fun _ => 0) hp hw u' → post p4 u') : wpX_stepWithCells post u 1 (nI r) (nI m) p3 p4 := by
  obtain ⟨ph, wh, sd, sp, oc, a1, a2, a3, a4, a5, a6, a7, a8⟩ := u
  refine br_f (by decide) (nm_r (nx_a3 (by omega)) (br_f (by decide) (br_f (by decide) (br_t rfl ?_))))
  refine mk_work h (v := m) hr4 (Nat.mod_lt _ (by omega)) (fun K hK => wo_set hK) (fun u' h' => ?_)
  obtain ⟨ph, wh, sd, sp, oc, a1, a2, a3, a4, a5, a6, a7, a8⟩ := u'
  refine mk_writeReg h' m hr4 (fun u' h' _ => ?_)
  obtain ⟨ph, wh, sd, sp, oc, a1, a2, a3, a4, a5, a6, a7, a8⟩ := u'
  exact H _ h'
theorem wc_fetch {post : Int32 → St2 → Prop} {R : Nat → Nat} {P : Nat} {V O : Nat → Nat} {st o : Nat} {hr : Nat → Int32} {hp hw : Int32} {u : St2} (h : mk_ok R P V O st o hr hp hw u) {r m : Nat} {p3 p4 : Int32} (hr4 : r < 4) (hm : m < 256) (hb : R (m % 4) < 256)
    (H : ∀ u', mk_ok (ud_f R r (V (32 + R (m % 4) % 16))) P V O st o hr hp hw u' → post p4 u') : wpX_stepWithCells post u 12 (nI r) (nI m) p3 p4 := by
  obtain ⟨ph, wh, sd, sp, oc, a1, a2, a3, a4, a5, a6, a7, a8⟩ := u
  refine br_f (by decide) (nm_r (nx_a3 (by omega)) (br_t rfl ?_))
  refine mk_voteReg h (Nat.mod_lt _ (by omega)) ?_
  rw [nx_a15 (by omega)]
  refine br_f (by decide) (br_f (by decide) (br_t rfl ?_))
  unfold wX_stepWithCells_84
  rw [show 32 + nI (R (m % 4) % 16) = nI (32 + R (m % 4) % 16) from nI_add 32 _]
  refine mk_readRep h (by omega) (fun u' h' => ?_)
  obtain ⟨ph, wh, sd, sp, oc, a1, a2, a3, a4, a5, a6, a7, a8⟩ := u'
  refine mk_pass h' (fun u' h' => ?_)
  obtain ⟨ph, wh, sd, sp, oc, a1, a2, a3, a4, a5, a6, a7, a8⟩ := u'
  refine mk_writeReg h' _ hr4 (fun u' h' _ => ?_)
  obtain ⟨ph, wh, sd, sp, oc, a1, a2, a3, a4, a5, a6, a7, a8⟩ := u'
  exact H _ h'
theorem wc_store {post : Int32 → St2 → Prop} {R : Nat → Nat} {P : Nat} {V O : Nat → Nat} {st o : Nat} {hr : Nat → Int32} {hp hw : Int32} {u : St2} (h : mk_ok R P V O st o hr hp hw u) {r m : Nat} {p3 p4 : Int32} (hr4 : r < 4) (hm : m < 256) (hb : R r < 256)
    (H : ∀ u', mk_ok R P (ud_f V (32 + m % 16) (R r)) O st o hr hp hw u' → post p4 u') : wpX_stepWithCells post u 3 (nI r) (nI m) p3 p4 := by
  obtain ⟨ph, wh, sd, sp, oc, a1, a2, a3, a4, a5, a6, a7, a8⟩ := u
  refine br_f (by decide) (nm_r (nx_a3 (by omega)) (br_f (by decide) (br_f (by decide) ?_)))
  rw [nx_a15 (by omega)]
  refine br_f (by decide) (br_f (by decide) (br_f (by decide) ?_))
  refine mk_voteReg h hr4 (mk_pass h (fun u' h' => ?_))
  obtain ⟨ph, wh, sd, sp, oc, a1, a2, a3, a4, a5, a6, a7, a8⟩ := u'
  rw [show 32 + nI (m % 16) = nI (32 + m % 16) from nI_add 32 _]
  refine mk_writeWord h' (by omega) ?_ (fun u' h' => ?_)
  · rw [show cw_pl (32 + m % 16) = 13 from if_neg (by omega)]
    exact ec_tab13 _ hb
  · obtain ⟨ph, wh, sd, sp, oc, a1, a2, a3, a4, a5, a6, a7, a8⟩ := u'
    exact H _ h'
/-! jumps and outs -/
theorem so_jump {post : Int32 → St2 → Prop} {R : Nat → Nat} {P : Nat} {V O : Nat → Nat} {st o : Nat} {hp hw : Int32} {u : St2} (h : mk_ok R P V O st o (fun _ => 0) hp hw u) {r m : Nat} {p3 p4 : Int32} (hr4 : r < 4) (hm : m < 256)
    (H : ∀ u', mk_ok R P V O st o (fun _ => 0) hp hw u' → post (nI (m % 32)) u') : wpX_stepOn post u 9 (nI r) (nI m) p3 p4 := by
  obtain ⟨ph, wh, sd, sp, oc, a1, a2, a3, a4, a5, a6, a7, a8⟩ := u
  refine br_t rfl ?_
  refine mk_work h (v := m % 32) hr4 hr4 (fun K hK => wo_jump (by rw [nx_a31 (by omega)]; exact hK)) (fun u' h' => ?_)
  obtain ⟨ph, wh, sd, sp, oc, a1, a2, a3, a4, a5, a6, a7, a8⟩ := u'
  have e : nI (m % 32) &&& 31 = nI (m % 32) := by
    rw [nx_a31 (by omega), Nat.mod_mod]
  rw [e]
  exact H _ h'
theorem so_zero {post : Int32 → St2 → Prop} {R : Nat → Nat} {P : Nat} {V O : Nat → Nat} {st o : Nat} {hr : Nat → Int32} {hp hw : Int32} {u : St2} (h : mk_ok R P V O st o hr hp hw u) {r m : Nat} {p3 p4 : Int32} (hr4 : r < 4) (hm : m < 256) (hb : R r < 256)
    (H0 : R r = 0 → ∀ u', mk_ok R P V O st o hr hp hw u' → post (nI (m % 32)) u') (H1 : R r ≠ 0 → ∀ u', mk_ok R P V O st o hr hp hw u' → post p4 u') : wpX_stepOn post u 10 (nI r) (nI m) p3 p4 := by
  obtain ⟨ph, wh, sd, sp, oc, a1, a2, a3, a4, a5, a6, a7, a8⟩ := u
  refine br_f (by decide) (mk_voteReg h hr4 (br_t rfl (pk_eq (R r) 0 (fun z => ?_) (fun z => H1 z _ h))))
  rw [nx_a31 (by omega)]
  refine mk_pass h (fun u' h' => ?_)
  obtain ⟨ph, wh, sd, sp, oc, a1, a2, a3, a4, a5, a6, a7, a8⟩ := u'
  have e : nI (m % 32) &&& 31 = nI (m % 32) := by
    rw [nx_a31 (by omega), Nat.mod_mod]
  rw [e]
  exact H0 z _ h'
theorem so_out {post : Int32 → St2 → Prop} {R : Nat → Nat} {P : Nat} {V O : Nat → Nat} {st o : Nat} {hr : Nat → Int32} {hp hw : Int32} {u : St2} (h : mk_ok R P V O st o hr hp hw u) {r m : Nat} {p3 p4 : Int32} (hr4 : r < 4) (ho : o < 16)
    (H : ∀ u', mk_ok R P V (ud_f O o (R r)) st (o + 1) hr hp hw u' → post p4 u') : wpX_stepOn post u 11 (nI r) (nI m) p3 p4 := by
  obtain ⟨ph, wh, sd, sp, oc, a1, a2, a3, a4, a5, a6, a7, a8⟩ := u
  have ho' : oc = nI o := h.2.2.2.2.1
  refine br_f (by decide) (mk_voteReg h hr4 (br_f (by decide) (pk_lt o 16 (fun _ => ?_) (fun z => absurd z (by omega)) (hx := ho'))))
  subst ho'
  refine mk_pass2 h (fun u' h' => ?_)
  clear h
  obtain ⟨ph', wh', sd', sp', oc', b1, b2, b3, b4, b5, b6, b7, b8⟩ := u'
  obtain ⟨rfl, rfl, ⟨s, hs, rfl⟩, rfl, rfl, m6, m7, m8, m9, m10⟩ := h'
  refine ⟨vp_in_nI ho (by omega), ?_⟩
  rw [nI_clamp (by omega)]
  refine nm_e (nm_r (nI_1 o) (H _ ⟨rfl, rfl, ⟨s, hs, rfl⟩, rfl, rfl, m6, m7, m8, m9, fun i hi => ?_⟩))
  by_cases e : i = o
  · rw [e, pk_us, ud_s]
  · rw [pk_un e, ud_n e]
    exact m10 i (by omega)
/-! one step: its head, by kinds of operation -/
section
variable {post : St2 → Prop} {R : Nat → Nat} {P : Nat} {V O : Nat → Nat} {st o : Nat} {hr : Nat → Int32} {hp hw : Int32} {u : St2} {op r m : Nat}
theorem st_A (h : mk_ok R P V O st o hr hp hw u) (hP : P < 32) (ho : op < 16) (hr4 : r < 4) (hm : m < 256) (hV : V P = op + 16 * r + 64 * m) (hk : op ≤ 3 ∨ 12 ≤ op)
    (H : ∀ (K : Int32 → St2 → Prop) u', (∀ x ph wh sd sp oc a1 a2 a3 a4 a5 a6 a7 a8, wX_step_119 post x ph wh sd sp oc a1 a2 a3 a4 a5 a6 a7 a8 → K x (ph, wh, sd, sp, oc, a1, a2, a3, a4, a5, a6, a7, a8)) → mk_ok R P V O st o (fun _ => 0) 0 hw u' → wpX_stepWithCells K u' (nI op) (nI r) (nI m) (nI P) (nI ((P + 1) % 32))) : wpX_step post u := by
  obtain ⟨ph, wh, sd, sp, oc, a1, a2, a3, a4, a5, a6, a7, a8⟩ := u
  unfold wpX_step
  dsimp only
  refine mk_voteAll h (fun u' h' => ?_)
  obtain ⟨ph, wh, sd, sp, oc, a1, a2, a3, a4, a5, a6, a7, a8⟩ := u'
  refine mk_votePlace h' (mk_readRep h' (by omega) (fun u' h' => ?_))
  obtain ⟨ph, wh, sd, sp, oc, a1, a2, a3, a4, a5, a6, a7, a8⟩ := u'
  refine nm_r (cd_op ho hr4 hm hV) (nm_r (cd_r ho hr4 hm hV) (nm_r (cd_m ho hr4 hm hV) (nm_r (e' := nI ((P + 1) % 32)) ?_ ?_)))
  · rw [nI_1, nx_a31 (by omega)]
  · refine pk_le op 3 (fun z => ?_) (fun z => pk_lt op 12 (fun z => absurd z (by omega)) (fun z => ?_))
    · exact H _ _ (fun _ _ _ _ _ _ _ _ _ _ _ _ _ _ z => z) h'
    · exact H _ _ (fun _ _ _ _ _ _ _ _ _ _ _ _ _ _ z => z) h'
theorem st_C (h : mk_ok R P V O st o hr hp hw u) (hP : P < 32) (ho : op < 16) (hr4 : r < 4) (hm : m < 256) (hV : V P = op + 16 * r + 64 * m) (hk : 8 < op ∧ op < 12)
    (H : ∀ (K : Int32 → St2 → Prop) u', (∀ x ph wh sd sp oc a1 a2 a3 a4 a5 a6 a7 a8, wX_step_119 post x ph wh sd sp oc a1 a2 a3 a4 a5 a6 a7 a8 → K x (ph, wh, sd, sp, oc, a1, a2, a3, a4, a5, a6, a7, a8)) → mk_ok R P V O st o (fun _ => 0) 0 hw u' → wpX_stepOn K u' (nI op) (nI r) (nI m) (nI P) (nI ((P + 1) % 32))) : wpX_step post u := by
  obtain ⟨ph, wh, sd, sp, oc, a1, a2, a3, a4, a5, a6, a7, a8⟩ := u
  unfold wpX_step
  dsimp only
  refine mk_voteAll h (fun u' h' => ?_)
  obtain ⟨ph, wh, sd, sp, oc, a1, a2, a3, a4, a5, a6, a7, a8⟩ := u'
  refine mk_votePlace h' (mk_readRep h' (by omega) (fun u' h' => ?_))
  obtain ⟨ph, wh, sd, sp, oc, a1, a2, a3, a4, a5, a6, a7, a8⟩ := u'
  refine nm_r (cd_op ho hr4 hm hV) (nm_r (cd_r ho hr4 hm hV) (nm_r (cd_m ho hr4 hm hV) (nm_r (e' := nI ((P + 1) % 32)) ?_ ?_)))
  · rw [nI_1, nx_a31 (by omega)]
  · refine pk_le op 3 (fun z => absurd z (by omega)) (fun z => pk_lt op 12 (fun _ => pk_lt 8 op (fun _ => ?_) (fun z => absurd z (by omega))) (fun z => absurd z (by omega)))
    exact H _ _ (fun _ _ _ _ _ _ _ _ _ _ _ _ _ _ z => z) h'
theorem st_B {v : Nat} (h : mk_ok R P V O st o hr hp hw u) (hP : P < 32) (ho : op < 16) (hr4 : r < 4) (hm : m < 256) (hV : V P = op + 16 * r + 64 * m) (hk : 3 < op ∧ op ≤ 8)
    (hW : ∀ K : Int32 → Prop, K (nI v) → wpX_workOut K () (nI op) (nI (R r)) (nI (R (m % 4))) (nI m))
    (H : ∀ u', mk_ok (ud_f R r v) ((P + 1) % 32) V O st o (fun _ => 0) 0 0 u' → post u') : wpX_step post u := by
  obtain ⟨ph, wh, sd, sp, oc, a1, a2, a3, a4, a5, a6, a7, a8⟩ := u
  unfold wpX_step
  dsimp only
  refine mk_voteAll h (fun u' h' => ?_)
  obtain ⟨ph, wh, sd, sp, oc, a1, a2, a3, a4, a5, a6, a7, a8⟩ := u'
  refine mk_votePlace h' (mk_readRep h' (by omega) (fun u' h' => ?_))
  obtain ⟨ph, wh, sd, sp, oc, a1, a2, a3, a4, a5, a6, a7, a8⟩ := u'
  refine nm_r (cd_op ho hr4 hm hV) (nm_r (cd_r ho hr4 hm hV) (nm_r (cd_m ho hr4 hm hV) (nm_r (e' := nI ((P + 1) % 32)) ?_ ?_)))
  · rw [nI_1, nx_a31 (by omega)]
  · refine pk_le op 3 (fun z => absurd z (by omega)) (fun z => pk_lt op 12 (fun _ => pk_lt 8 op (fun z => absurd z (by omega)) (fun _ => ?_)) (fun z => absurd z (by omega)))
    rw [nx_a3 (by omega)]
    refine mk_work h' hr4 (Nat.mod_lt _ (by omega)) hW (fun u' h' => ?_)
    obtain ⟨ph, wh, sd, sp, oc, a1, a2, a3, a4, a5, a6, a7, a8⟩ := u'
    refine mk_writeReg h' v hr4 (fun u' h' _ => ?_)
    obtain ⟨ph, wh, sd, sp, oc, a1, a2, a3, a4, a5, a6, a7, a8⟩ := u'
    exact mk_tail h' H
end
/-! the steps -/
section
variable {post : St2 → Prop} {R : Nat → Nat} {P : Nat} {V O : Nat → Nat} {st o : Nat} {hr : Nat → Int32} {hp hw : Int32} {u : St2} {r m : Nat}
theorem sx_stop (h : mk_ok R P V O st o hr hp hw u) (hP : P < 32) (hr4 : r < 4) (hm : m < 256) (hV : V P = 0 + 16 * r + 64 * m)
    (H : ∀ u', mk_ok R P V O 1 o (fun _ => 0) 0 0 u' → post u') : wpX_step post u :=
  st_A h hP (by omega) hr4 hm hV (by omega) (fun K u' hK h' => wc_stp h' (fun u' h' => by
    obtain ⟨ph, wh, sd, sp, oc, a1, a2, a3, a4, a5, a6, a7, a8⟩ := u'
    exact hK _ _ _ _ _ _ _ _ _ _ _ _ _ _ (mk_tail h' H)))
theorem sx_set (h : mk_ok R P V O st o hr hp hw u) (hP : P < 32) (hr4 : r < 4) (hm : m < 256) (hV : V P = 1 + 16 * r + 64 * m)
    (H : ∀ u', mk_ok (ud_f R r m) ((P + 1) % 32) V O st o (fun _ => 0) 0 0 u' → post u') : wpX_step post u :=
  st_A h hP (by omega) hr4 hm hV (by omega) (fun K u' hK h' => wc_set h' hr4 hm (fun u' h' => by
    obtain ⟨ph, wh, sd, sp, oc, a1, a2, a3, a4, a5, a6, a7, a8⟩ := u'
    exact hK _ _ _ _ _ _ _ _ _ _ _ _ _ _ (mk_tail h' H)))
theorem sx_store (h : mk_ok R P V O st o hr hp hw u) (hP : P < 32) (hr4 : r < 4) (hm : m < 256) (hV : V P = 3 + 16 * r + 64 * m) (hb : R r < 256)
    (H : ∀ u', mk_ok R ((P + 1) % 32) (ud_f V (32 + m % 16) (R r)) O st o (fun _ => 0) 0 0 u' → post u') : wpX_step post u :=
  st_A h hP (by omega) hr4 hm hV (by omega) (fun K u' hK h' => wc_store h' hr4 hm hb (fun u' h' => by
    obtain ⟨ph, wh, sd, sp, oc, a1, a2, a3, a4, a5, a6, a7, a8⟩ := u'
    exact hK _ _ _ _ _ _ _ _ _ _ _ _ _ _ (mk_tail h' H)))
theorem sx_fetch (h : mk_ok R P V O st o hr hp hw u) (hP : P < 32) (hr4 : r < 4) (hm : m < 256) (hV : V P = 12 + 16 * r + 64 * m) (hb : R (m % 4) < 256)
    (H : ∀ u', mk_ok (ud_f R r (V (32 + R (m % 4) % 16))) ((P + 1) % 32) V O st o (fun _ => 0) 0 0 u' → post u') : wpX_step post u :=
  st_A h hP (by omega) hr4 hm hV (by omega) (fun K u' hK h' => wc_fetch h' hr4 hm hb (fun u' h' => by
    obtain ⟨ph, wh, sd, sp, oc, a1, a2, a3, a4, a5, a6, a7, a8⟩ := u'
    exact hK _ _ _ _ _ _ _ _ _ _ _ _ _ _ (mk_tail h' H)))
theorem sx_add (h : mk_ok R P V O st o hr hp hw u) (hP : P < 32) (hr4 : r < 4) (hm : m < 256) (hV : V P = 4 + 16 * r + 64 * m) (ha : R r < 256) (hb : R (m % 4) < 256)
    (H : ∀ u', mk_ok (ud_f R r ((R r + R (m % 4)) % 256)) ((P + 1) % 32) V O st o (fun _ => 0) 0 0 u' → post u') : wpX_step post u :=
  st_B h hP (by omega) hr4 hm hV (by omega) (fun K hK => wo_add ha hb hK) H
theorem sx_sub (h : mk_ok R P V O st o hr hp hw u) (hP : P < 32) (hr4 : r < 4) (hm : m < 256) (hV : V P = 5 + 16 * r + 64 * m) (ha : R r < 256) (hb : R (m % 4) ^^^ 255 < 256)
    (H : ∀ u', mk_ok (ud_f R r ((R r + (R (m % 4) ^^^ 255) + 1) % 256)) ((P + 1) % 32) V O st o (fun _ => 0) 0 0 u' → post u') : wpX_step post u :=
  st_B h hP (by omega) hr4 hm hV (by omega) (fun K hK => wo_sub ha hb hK) H
theorem sx_jump (h : mk_ok R P V O st o hr hp hw u) (hP : P < 32) (hr4 : r < 4) (hm : m < 256) (hV : V P = 9 + 16 * r + 64 * m)
    (H : ∀ u', mk_ok R (m % 32) V O st o (fun _ => 0) 0 0 u' → post u') : wpX_step post u :=
  st_C h hP (by omega) hr4 hm hV (by omega) (fun K u' hK h' => so_jump h' hr4 hm (fun u' h' => by
    obtain ⟨ph, wh, sd, sp, oc, a1, a2, a3, a4, a5, a6, a7, a8⟩ := u'
    exact hK _ _ _ _ _ _ _ _ _ _ _ _ _ _ (mk_tail h' H)))
theorem sx_zero (h : mk_ok R P V O st o hr hp hw u) (hP : P < 32) (hr4 : r < 4) (hm : m < 256) (hV : V P = 10 + 16 * r + 64 * m) (hb : R r < 256)
    (H0 : R r = 0 → ∀ u', mk_ok R (m % 32) V O st o (fun _ => 0) 0 0 u' → post u') (H1 : R r ≠ 0 → ∀ u', mk_ok R ((P + 1) % 32) V O st o (fun _ => 0) 0 0 u' → post u') : wpX_step post u :=
  st_C h hP (by omega) hr4 hm hV (by omega) (fun K u' hK h' => so_zero h' hr4 hm hb (fun z u' h' => by
    obtain ⟨ph, wh, sd, sp, oc, a1, a2, a3, a4, a5, a6, a7, a8⟩ := u'
    exact hK _ _ _ _ _ _ _ _ _ _ _ _ _ _ (mk_tail h' (H0 z))) (fun z u' h' => by
    obtain ⟨ph, wh, sd, sp, oc, a1, a2, a3, a4, a5, a6, a7, a8⟩ := u'
    exact hK _ _ _ _ _ _ _ _ _ _ _ _ _ _ (mk_tail h' (H1 z))))
theorem sx_out (h : mk_ok R P V O st o hr hp hw u) (hP : P < 32) (hr4 : r < 4) (hm : m < 256) (hV : V P = 11 + 16 * r + 64 * m) (ho : o < 16)
    (H : ∀ u', mk_ok R ((P + 1) % 32) V (ud_f O o (R r)) st (o + 1) (fun _ => 0) 0 0 u' → post u') : wpX_step post u :=
  st_C h hP (by omega) hr4 hm hV (by omega) (fun K u' hK h' => so_out h' hr4 ho (fun u' h' => by
    obtain ⟨ph, wh, sd, sp, oc, a1, a2, a3, a4, a5, a6, a7, a8⟩ := u'
    exact hK _ _ _ _ _ _ _ _ _ _ _ _ _ _ (mk_tail h' H)))
end
end
section
/-! the outside: set, setData, the new machine, reset -/
theorem vs_val {op r m : Nat} (ho : op < 16) (hr : r < 4) (hm : m < 256) : ((nI op ||| (nI r <<< ((4 : Int32) &&& 31))) ||| (nI m <<< ((6 : Int32) &&& 31))) = nI (op + 16 * r + 64 * m) := by
  rw [pk_shlN ((4 : Int32) &&& 31) 4 (by decide) (by omega), pk_shlN ((6 : Int32) &&& 31) 6 (by decide) (by omega), nx_or, nx_or, ad_or (i := 4) (by omega), ad_or (i := 6) (by omega)]
  congr 1
  omega
theorem br_1 {A B : Prop} (b : B) : ((1 : Int32) = 0 → A) ∧ (¬ (1 : Int32) = 0 → B) := br_f (by decide) b
theorem mk_isReg {post : Int32 → Prop} {v : St0} {r : Nat} (hr : r < 4) (H : post 1) : wpX_isRegister post v (nI r) :=
  br_f (nI_pos (by omega)) (br_f (nI_ge (b := 4) hr (by omega)) H)
theorem mk_isCopy {post : Int32 → Prop} {v : St0} {r : Nat} (hr : r < 3) (H : post 1) : wpX_isCopy post v (nI r) :=
  br_f (nI_pos (by omega)) (br_f (nI_ge (b := 3) hr (by omega)) H)
theorem mk_set {post : Int32 → St2 → Prop} {R : Nat → Nat} {P : Nat} {V O : Nat → Nat} {st o : Nat} {hr : Nat → Int32} {hp hw : Int32} {u : St2} (h : mk_ok R P V O st o hr hp hw u) {p op r m : Nat} (hp32 : p < 32) (ho : op ≤ 13) (hr4 : r < 4) (hm : m < 256) (hv : ec_ok 22 (op + 16 * r + 64 * m) = true)
    (H : ∀ u', mk_ok R P (ud_f V p (op + 16 * r + 64 * m)) O st o hr hp hw u' → post 1 u') : wpX_set post u (nI p) (nI op) (nI r) (nI m) := by
  obtain ⟨ph, wh, sd, sp, oc, a1, a2, a3, a4, a5, a6, a7, a8⟩ := u
  refine br_f (nI_pos (by omega)) (br_f (nI_ge (b := 32) hp32 (by omega)) (br_f (nI_pos (by omega)) (br_f (nI_nlt (b := op) (a := 13) ho (by omega)) (mk_isReg hr4 (br_f (by decide) (br_f (nI_pos (by omega)) (br_t (nI_le (b := 255) (by omega) (by omega)) ?_)))))))
  rw [vs_val (by omega) hr4 hm]
  refine mk_writeWord h (by omega) ?_ (fun u' h' => ?_)
  · rw [show cw_pl p = 22 from if_pos hp32]
    exact hv
  · obtain ⟨ph, wh, sd, sp, oc, a1, a2, a3, a4, a5, a6, a7, a8⟩ := u'
    exact H _ h'
theorem mk_setData {post : Int32 → St2 → Prop} {R : Nat → Nat} {P : Nat} {V O : Nat → Nat} {st o : Nat} {hr : Nat → Int32} {hp hw : Int32} {u : St2} (h : mk_ok R P V O st o hr hp hw u) {c v : Nat} (hc : c < 16) (hv : v < 256)
    (H : ∀ u', mk_ok R P (ud_f V (32 + c) v) O st o hr hp hw u' → post 1 u') : wpX_setData post u (nI c) (nI v) := by
  obtain ⟨ph, wh, sd, sp, oc, a1, a2, a3, a4, a5, a6, a7, a8⟩ := u
  refine br_f (nI_pos (by omega)) (br_f (nI_ge (b := 16) hc (by omega)) (br_f (nI_pos (by omega)) (br_t (nI_le (b := 255) (by omega) (by omega)) ?_)))
  rw [show 32 + nI c = nI (32 + c) from nI_add 32 _]
  refine mk_writeWord h (by omega) ?_ (fun u' h' => ?_)
  · rw [show cw_pl (32 + c) = 13 from if_neg (by omega)]
    exact ec_tab13 _ hv
  · obtain ⟨ph, wh, sd, sp, oc, a1, a2, a3, a4, a5, a6, a7, a8⟩ := u'
    exact H _ h'
theorem ec_ok0 (w : Nat) : ec_ok (cw_pl w) 0 = true ∧ ec_enc 0 (cw_pl w) = 0 := by
  rcases cw_pl2 w with e | e
  · rw [e]
    decide +kernel
  · rw [e]
    decide +kernel
theorem mk_new : mk_ok (fun _ => 0) 0 (fun _ => 0) (fun _ => 0) 0 0 (fun _ => 0) 0 0 (0, 0, 0, 0, 0, (fun _ => 0), (fun _ => 0), (fun _ => 0), (fun _ => 0), (fun _ => 0), (fun _ => 0), (fun _ => 0), (fun _ => 0)) := by
  refine ⟨rfl, rfl, ⟨0, by omega, rfl⟩, rfl, rfl, fun r hr => ⟨rfl, Or.inl ⟨rfl, rfl, rfl, rfl⟩⟩, Or.inl ⟨rfl, rfl, rfl, rfl⟩, Or.inl ⟨rfl, rfl, rfl, rfl⟩, fun w hw => ?_, fun i hi => absurd hi (by omega)⟩
  obtain ⟨h1, h2⟩ := ec_ok0 w
  have k := cw_new h1
  rw [h2] at k
  exact k
theorem mk_initL {post : St2 → Prop} {mc ms kc ks : Nat} (H : ∀ u', mk_ok (fun _ => 0) 0 (fun _ => 0) (fun _ => 0) 0 0 (fun _ => 0) 0 0 u' → post u') :
    ∀ k i (ph wh sd sp oc : Int32) (a1 a2 a3 a4 a5 a6 a7 a8 : Nat → Int32), i + k = 48 → mk_ok (fun _ => 0) 0 (fun _ => 0) (fun _ => 0) 0 0 (fun _ => 0) 0 0 (ph, wh, sd, sp, oc, a1, a2, a3, a4, a5, a6, a7, a8) → wX_init_66 post mc ms kc ks (k + 1) (nI i) ph wh sd sp oc a1 a2 a3 a4 a5 a6 a7 a8 := by
  intro k
  induction k with
  | zero =>
    intro i ph wh sd sp oc a1 a2 a3 a4 a5 a6 a7 a8 hi h
    exact br_t (nI_le (a := 48) (by omega) (by omega)) (H _ h)
  | succ k ih =>
    intro i ph wh sd sp oc a1 a2 a3 a4 a5 a6 a7 a8 hi h
    refine br_f (nI_ge (b := 48) (by omega) (by omega)) ?_
    refine mk_writeWord (v := 0) h (by omega) (ec_ok0 i).1 (fun u' h' => ?_)
    obtain ⟨ph, wh, sd, sp, oc, a1, a2, a3, a4, a5, a6, a7, a8⟩ := u'
    refine nm_r (nI_1 i) (ih (i + 1) _ _ _ _ _ _ _ _ _ _ _ _ _ (by omega) (mk_V h' (fun w hw => ?_)))
    unfold ud_f
    split <;> rfl
theorem mk_init {post : St2 → Prop} {mc ms : Nat} (hc : 8 ≤ mc) (hs : 137 ≤ ms) (H : ∀ u', mk_ok (fun _ => 0) 0 (fun _ => 0) (fun _ => 0) 0 0 (fun _ => 0) 0 0 u' → post u') : wpX_init post mc ms (0, 0, 0, 0, 0) := by
  refine ⟨by omega, by omega, by omega, by omega, by omega, by omega, by omega, by omega, by omega, by omega, by omega, by omega, by omega, by omega, by omega, by omega, 49, ?_⟩
  exact mk_initL H 48 0 _ _ _ _ _ _ _ _ _ _ _ _ _ (by omega) mk_new
theorem mk_resetE {post : St2 → Prop} {R : Nat → Nat} {P : Nat} {V O : Nat → Nat} {st o : Nat} {hr : Nat → Int32} {hp hw : Int32} {ph wh sd sp oc : Int32} {a1 a2 a3 a4 a5 a6 a7 a8 : Nat → Int32} (h : mk_ok R P V O st o hr hp hw (ph, wh, sd, sp, oc, a1, a2, a3, a4, a5, a6, a7, a8)) (H : ∀ u', mk_ok R P V O 0 0 hr hp 0 u' → post u') : ∃ n, wX_reset_38 post ph wh sd sp oc n 0 a1 a2 a3 a4 a5 a6 a7 a8 := by
  obtain ⟨rfl, rfl, ⟨s, hs, rfl⟩, rfl, rfl, m6, m7, m8, m9, m10⟩ := h
  refine pk_loop (fun n i t => wX_reset_38 post ph wh (nI s) (nI st) (nI o) n (nI i) a1 a2 a3 t a5 a6 a7 a8) (fun i t => ∀ c, c < i → t c = 0) 3 0 a4 (by omega) (fun c hc => absurd hc (by omega)) ?_ ?_
  · intro n t hI
    exact pk_le 3 3 (fun _ => H _ ⟨rfl, rfl, ⟨s, hs, rfl⟩, rfl, rfl, m6, m7, Or.inl ⟨rfl, hI 0 (by omega), hI 1 (by omega), hI 2 (by omega)⟩, m9, fun i hi => absurd hi (by omega)⟩) (fun z => absurd z (by omega))
  · intro n i t hi hI hw
    refine pk_le 3 i (fun z => absurd z (by omega)) (fun _ => ?_)
    rw [nI_clamp (n := i) (by omega)]
    refine ⟨vp_in_nI hi (by omega), nm_e (nm_r (nI_1 i) (hw _ (fun c hc => ?_)))⟩
    by_cases e : c = i
    · rw [e, pk_us]
    · rw [pk_un e]
      exact hI c (by omega)
theorem mk_resetL {post : St2 → Prop} {P : Nat} {V O : Nat → Nat} {st o : Nat} {hp hw : Int32} (H : ∀ u', mk_ok (fun _ => 0) 0 V O 0 0 (fun _ => 0) 0 0 u' → post u') :
    ∀ k i (ph wh sd sp oc : Int32) (a1 a2 a3 a4 a5 a6 a7 a8 : Nat → Int32) (R : Nat → Nat) (hr : Nat → Int32), i + k = 4 → (∀ r, r < i → hr r = 0 ∧ R r = 0) → mk_ok R P V O st o hr hp hw (ph, wh, sd, sp, oc, a1, a2, a3, a4, a5, a6, a7, a8) → wX_reset_2 post (k + 1) (nI i) ph wh sd sp oc a1 a2 a3 a4 a5 a6 a7 a8 := by
  intro k
  induction k with
  | zero =>
    intro i ph wh sd sp oc a1 a2 a3 a4 a5 a6 a7 a8 R hr hi h0 h
    refine br_t (nI_le (a := 4) (by omega) (by omega)) ?_
    refine mk_writePlace h 0 (fun u' h' hc => ?_)
    obtain ⟨ph, wh, sd, sp, oc, a1, a2, a3, a4, a5, a6, a7, a8⟩ := u'
    exact mk_resetE (mk_R (mk_hr (mk_clrP h' hc) (fun r hr4 => (h0 r (by omega)).1.symm)) (fun r hr4 => (h0 r (by omega)).2.symm)) H
  | succ k ih =>
    intro i ph wh sd sp oc a1 a2 a3 a4 a5 a6 a7 a8 R hr hi h0 h
    refine br_f (nI_ge (b := 4) (by omega) (by omega)) ?_
    refine mk_writeReg h 0 (by omega) (fun u' h' hc => ?_)
    obtain ⟨ph, wh, sd, sp, oc, a1, a2, a3, a4, a5, a6, a7, a8⟩ := u'
    refine ⟨pk_in i 4 (by omega), ?_⟩
    rw [nI_clamp (by omega)]
    refine nm_e (nm_r (nI_1 i) (ih (i + 1) _ _ _ _ _ _ _ _ _ _ _ _ _ (ud_f R i 0) (upd hr i 0) (by omega) (fun r hri => ?_) (mk_clr h' (by omega) hc)))
    by_cases e : r = i
    · rw [e, pk_us, ud_s]
      exact ⟨rfl, rfl⟩
    · rw [pk_un e, ud_n e]
      exact h0 r (by omega)
theorem mk_reset {post : St2 → Prop} {R : Nat → Nat} {P : Nat} {V O : Nat → Nat} {st o : Nat} {hr : Nat → Int32} {hp hw : Int32} {u : St2} (h : mk_ok R P V O st o hr hp hw u) (H : ∀ u', mk_ok (fun _ => 0) 0 V O 0 0 (fun _ => 0) 0 0 u' → post u') : wpX_reset post u := by
  obtain ⟨ph, wh, sd, sp, oc, a1, a2, a3, a4, a5, a6, a7, a8⟩ := u
  exact ⟨5, mk_resetL H 4 0 _ _ _ _ _ _ _ _ _ _ _ _ _ R hr (by omega) (fun r z => absurd z (by omega)) h⟩
/-! hits -/
theorem ht_1 : ∀ c, c < 3 → (1 : Int32) <<< (nI c &&& 31) = nI (2 ^ c) ∧ ((1 : Int32) <<< (nI c &&& 31)).toInt8.toInt32 = nI (2 ^ c) ∧ (0 : Int32) &&& (nI (2 ^ c) ^^^ (-1)) = 0 := by decide +kernel
theorem ht_2 : ∀ c, c < 3 → ∀ d, d < 3 → d ≠ c → ¬ nI (2 ^ d) &&& (nI (2 ^ c) ^^^ (-1)) = 0 := by decide +kernel
theorem tr_hit {f : Nat → Int32} {b c v : Nat} {h x : Int32} (t : tr_ok (f b) (f (b + 1)) (f (b + 2)) h v) (hc : c < 3) (z : h &&& (nI (2 ^ c) ^^^ (-1)) = 0) : tr_ok (upd f (b + c) x b) (upd f (b + c) x (b + 1)) (upd f (b + c) x (b + 2)) (nI (2 ^ c)) v := by
  have k : c = 0 ∨ c = 1 ∨ c = 2 := by omega
  rcases k with rfl | rfl | rfl
  · refine Or.inr (Or.inl ⟨rfl, ?_⟩)
    rw [pk_un (by omega), pk_un (by omega)]
    rcases t with ⟨_, _, h2, h3⟩ | ⟨_, h2, h3⟩ | ⟨e, _⟩ | ⟨e, _⟩
    · exact ⟨h2, h3⟩
    · exact ⟨h2, h3⟩
    · rw [e] at z
      exact absurd z (by decide)
    · rw [e] at z
      exact absurd z (by decide)
  · refine Or.inr (Or.inr (Or.inl ⟨rfl, ?_⟩))
    rw [pk_un (by omega), pk_un (by omega)]
    rcases t with ⟨_, h1, _, h3⟩ | ⟨e, _⟩ | ⟨_, h1, h3⟩ | ⟨e, _⟩
    · exact ⟨h1, h3⟩
    · rw [e] at z
      exact absurd z (by decide)
    · exact ⟨h1, h3⟩
    · rw [e] at z
      exact absurd z (by decide)
  · refine Or.inr (Or.inr (Or.inr ⟨rfl, ?_⟩))
    rw [pk_un (by omega), pk_un (by omega)]
    rcases t with ⟨_, h1, h2, _⟩ | ⟨e, _⟩ | ⟨e, _⟩ | ⟨_, h1, h2⟩
    · exact ⟨h1, h2⟩
    · rw [e] at z
      exact absurd z (by decide)
    · rw [e] at z
      exact absurd z (by decide)
    · exact ⟨h1, h2⟩
/-- what a hit answers (b), and the mark behind it (g'), g: the mark ahead of it, c: the copy -/
def ht_ok (c : Nat) (g g' b : Int32) : Prop := (g = 0 → ¬ b = 0 ∧ g' = nI (2 ^ c)) ∧ (∀ d, d < 3 → d ≠ c → g = nI (2 ^ d) → b = 0)
theorem ht_y {c : Nat} {g : Int32} (hc : c < 3) (z : g &&& (nI (2 ^ c) ^^^ (-1)) = 0) : ht_ok c g (nI (2 ^ c)) 1 :=
  ⟨fun _ => ⟨by decide, rfl⟩, fun d hd hdc e => absurd (e ▸ z) (ht_2 c hc d hd hdc)⟩
theorem ht_n {c : Nat} {g : Int32} (hc : c < 3) (z : ¬ g &&& (nI (2 ^ c) ^^^ (-1)) = 0) : ht_ok c g g 0 :=
  ⟨fun e => absurd (by rw [e]; exact (ht_1 c hc).2.2) z, fun _ _ _ _ => rfl⟩
theorem mk_hitReg {post : Int32 → St2 → Prop} {R : Nat → Nat} {P : Nat} {V O : Nat → Nat} {st o : Nat} {hr : Nat → Int32} {hp hw : Int32} {u : St2} (h : mk_ok R P V O st o hr hp hw u) {r c k : Nat} {x0 x1 x2 : Int32} (e0 : x0 = nI r) (e1 : x1 = nI c) (e2 : x2 = nI k) (hr4 : r < 4) (hc : c < 3) (hk1 : 1 ≤ k) (hk : k ≤ 255)
    (H : ∀ b hr' u', mk_ok R P V O st o hr' hp hw u' → ht_ok c (hr r) (hr' r) b → post b u') : wpX_hitRegister post u x0 x1 x2 := by
  obtain ⟨ph, wh, sd, sp, oc, a1, a2, a3, a4, a5, a6, a7, a8⟩ := u
  have h' := h
  obtain ⟨rfl, rfl, ⟨s, hs, rfl⟩, rfl, rfl, m6, m7, m8, m9, m10⟩ := h
  subst e0 e1 e2
  obtain ⟨g1, g2, g3⟩ := ht_1 c hc
  unfold wpX_hitRegister
  dsimp only
  refine mk_isReg hr4 (br_1 (mk_isCopy hc (br_1 (br_f (nI_nlt (b := 1) hk1 (by omega)) (br_f (nI_nlt (a := 255) hk (by omega)) ?_)))))
  rw [g2, g1, nI_clamp (n := r) (by omega), (m6 r hr4).1, ix_c, nI_clamp (n := r * 3 + c) (by omega)]
  refine ⟨vp_in_nI hr4 (by omega), br_c (fun z => ?_) (fun z => H _ _ _ h' (ht_n hc z))⟩
  refine ⟨vp_in_nI (by omega) (by omega), vp_in_nI (by omega) (by omega), nm_e ⟨vp_in_nI (by omega) (by omega), nm_e (H 1 (upd hr r (nI (2 ^ c))) _ ⟨rfl, rfl, ⟨s, hs, rfl⟩, rfl, rfl, fun q hq => ?_, m7, m8, m9, m10⟩ (by rw [pk_us]; exact ht_y hc z))⟩⟩
  by_cases e : q = r
  · subst e
    rw [pk_us, pk_us]
    exact ⟨rfl, tr_hit (m6 q hq).2 hc z⟩
  · rw [pk_un e, pk_un e, pk_un (by omega), pk_un (by omega), pk_un (by omega)]
    exact m6 q hq
theorem mk_hitPlace {post : Int32 → St2 → Prop} {R : Nat → Nat} {P : Nat} {V O : Nat → Nat} {st o : Nat} {hr : Nat → Int32} {hp hw : Int32} {u : St2} (h : mk_ok R P V O st o hr hp hw u) {c k : Nat} {x1 x2 : Int32} (e1 : x1 = nI c) (e2 : x2 = nI k) (hc : c < 3) (hk1 : 1 ≤ k) (hk : k ≤ 31)
    (H : ∀ b hp' u', mk_ok R P V O st o hr hp' hw u' → ht_ok c hp hp' b → post b u') : wpX_hitPlace post u x1 x2 := by
  obtain ⟨ph, wh, sd, sp, oc, a1, a2, a3, a4, a5, a6, a7, a8⟩ := u
  have h' := h
  obtain ⟨rfl, rfl, ⟨s, hs, rfl⟩, rfl, rfl, m6, m7, m8, m9, m10⟩ := h
  subst e1 e2
  obtain ⟨g1, g2, g3⟩ := ht_1 c hc
  unfold wpX_hitPlace
  dsimp only
  refine mk_isCopy hc (br_1 (br_f (nI_nlt (b := 1) hk1 (by omega)) (br_f (nI_nlt (a := 31) hk (by omega)) ?_)))
  rw [g1, nI_clamp (n := c) (by omega)]
  refine br_c (fun z => ?_) (fun z => H _ _ _ h' (ht_n hc z))
  have t := tr_hit (b := 0) (x := a2 c ^^^ nI k) m7 hc z
  rw [Nat.zero_add] at t
  exact ⟨vp_in_nI hc (by omega), vp_in_nI hc (by omega), nm_e (nm_e (H 1 (nI (2 ^ c)) _ ⟨rfl, rfl, ⟨s, hs, rfl⟩, rfl, rfl, m6, t, m8, m9, m10⟩ (ht_y hc z)))⟩
theorem mk_hitWork {post : Int32 → St2 → Prop} {R : Nat → Nat} {P : Nat} {V O : Nat → Nat} {st o : Nat} {hr : Nat → Int32} {hp hw : Int32} {u : St2} (h : mk_ok R P V O st o hr hp hw u) {c k : Nat} {x1 x2 : Int32} (e1 : x1 = nI c) (e2 : x2 = nI k) (hc : c < 3) (hk1 : 1 ≤ k) (hk : k ≤ 255)
    (H : ∀ b hw' u', mk_ok R P V O st o hr hp hw' u' → ht_ok c hw hw' b → post b u') : wpX_hitWork post u x1 x2 := by
  obtain ⟨ph, wh, sd, sp, oc, a1, a2, a3, a4, a5, a6, a7, a8⟩ := u
  have h' := h
  obtain ⟨rfl, rfl, ⟨s, hs, rfl⟩, rfl, rfl, m6, m7, m8, m9, m10⟩ := h
  subst e1 e2
  obtain ⟨g1, g2, g3⟩ := ht_1 c hc
  unfold wpX_hitWork
  dsimp only
  refine mk_isCopy hc (br_1 (br_f (nI_nlt (b := 1) hk1 (by omega)) (br_f (nI_nlt (a := 255) hk (by omega)) ?_)))
  rw [g1, nI_clamp (n := c) (by omega)]
  refine br_c (fun z => ?_) (fun z => H _ _ _ h' (ht_n hc z))
  have t := tr_hit (b := 0) (x := a4 c ^^^ nI k) m8 hc z
  rw [Nat.zero_add] at t
  exact ⟨vp_in_nI hc (by omega), vp_in_nI hc (by omega), nm_e (nm_e (H 1 (nI (2 ^ c)) _ ⟨rfl, rfl, ⟨s, hs, rfl⟩, rfl, rfl, m6, m7, t, m9, m10⟩ (ht_y hc z)))⟩
theorem mk_hitWord {post : Int32 → St2 → Prop} {R : Nat → Nat} {P : Nat} {V O : Nat → Nat} {st o : Nat} {hr : Nat → Int32} {hp hw : Int32} {u : St2} (h : mk_ok R P V O st o hr hp hw u) {w b : Nat} (hw48 : w < 48) (hb : b < cw_pl w) (H0 : post 0 u) (H1 : ∀ u', mk_ok R P V O st o hr hp hw u' → post 1 u') : wpX_hitWord post u (nI w) (nI b) := by
  obtain ⟨ph, wh, sd, sp, oc, a1, a2, a3, a4, a5, a6, a7, a8⟩ := u
  obtain ⟨rfl, rfl, ⟨s, hs, rfl⟩, rfl, rfl, m6, m7, m8, m9, m10⟩ := h
  unfold wpX_hitWord
  dsimp only
  rw [nI_clamp (n := w) (by omega)]
  refine ⟨vp_in_nI hw48 (by omega), br_c (fun z => ?_) (fun z => H0)⟩
  refine ⟨vp_in_nI hw48 (by omega), vp_in_nI hw48 (by omega), nm_e ⟨vp_in_nI hw48 (by omega), nm_e (H1 _ ⟨rfl, rfl, ⟨s, hs, rfl⟩, rfl, rfl, m6, m7, m8, fun q hq => ?_, m10⟩)⟩⟩
  by_cases e : q = w
  · subst e
    rw [pk_us, pk_us]
    have k := m9 q hq
    rw [z] at k
    exact cw_hit hb k
  · rw [pk_un e, pk_un e]
    exact m9 q hq
theorem mk_hitData {post : Int32 → St2 → Prop} {R : Nat → Nat} {P : Nat} {V O : Nat → Nat} {st o : Nat} {hr : Nat → Int32} {hp hw : Int32} {u : St2} (h : mk_ok R P V O st o hr hp hw u) {c b : Nat} {x1 x2 : Int32} (e1 : x1 = nI c) (e2 : x2 = nI b) (hc : c < 16) (hb : b < 13) (H : ∀ d u', mk_ok R P V O st o hr hp hw u' → post d u') : wpX_hitData post u x1 x2 := by
  subst e1 e2
  obtain ⟨ph, wh, sd, sp, oc, a1, a2, a3, a4, a5, a6, a7, a8⟩ := u
  refine br_f (nI_pos (by omega)) (br_f (nI_ge (b := 16) hc (by omega)) (br_f (nI_pos (by omega)) (br_t (nI_lt (b := 13) hb (by omega)) ?_)))
  rw [show 32 + nI c = nI (32 + c) from nI_add 32 _]
  refine mk_hitWord h (by omega) (by rw [show cw_pl (32 + c) = 13 from if_neg (by omega)]; exact hb) ⟨narrow_b0, H _ _ h⟩ (fun u' h' => ?_)
  obtain ⟨ph, wh, sd, sp, oc, a1, a2, a3, a4, a5, a6, a7, a8⟩ := u'
  exact ⟨narrow_b1, H _ _ h'⟩
theorem mk_hitProg {post : Int32 → St2 → Prop} {R : Nat → Nat} {P : Nat} {V O : Nat → Nat} {st o : Nat} {hr : Nat → Int32} {hp hw : Int32} {u : St2} (h : mk_ok R P V O st o hr hp hw u) {c b : Nat} {x1 x2 : Int32} (e1 : x1 = nI c) (e2 : x2 = nI b) (hc : c < 32) (hb : b < 22) (H : ∀ d u', mk_ok R P V O st o hr hp hw u' → post d u') : wpX_hitProgram post u x1 x2 := by
  subst e1 e2
  obtain ⟨ph, wh, sd, sp, oc, a1, a2, a3, a4, a5, a6, a7, a8⟩ := u
  refine br_f (nI_pos (by omega)) (br_f (nI_ge (b := 32) hc (by omega)) (br_f (nI_pos (by omega)) (br_t (nI_lt (b := 22) hb (by omega)) ?_)))
  refine mk_hitWord h (by omega) (by rw [show cw_pl c = 22 from if_pos hc]; exact hb) ⟨narrow_b0, H _ _ h⟩ (fun u' h' => ?_)
  obtain ⟨ph, wh, sd, sp, oc, a1, a2, a3, a4, a5, a6, a7, a8⟩ := u'
  exact ⟨narrow_b1, H _ _ h'⟩
/-! what the machine shows -/
theorem mk_stopped {post : Int32 → Prop} {R : Nat → Nat} {P : Nat} {V O : Nat → Nat} {st o : Nat} {hr : Nat → Int32} {hp hw : Int32} {u : St2} (h : mk_ok R P V O st o hr hp hw u) (hst : st = 0 ∨ st = 1) (H : post (nI st)) : wpX_stopped post u := by
  obtain ⟨ph, wh, sd, sp, oc, a1, a2, a3, a4, a5, a6, a7, a8⟩ := u
  obtain ⟨rfl, rfl, ⟨s, hs, rfl⟩, rfl, rfl, m6, m7, m8, m9, m10⟩ := h
  refine ⟨?_, H⟩
  rcases hst with rfl | rfl
  · exact narrow_b0
  · exact narrow_b1
theorem mk_register {post : Int32 → Prop} {R : Nat → Nat} {P : Nat} {V O : Nat → Nat} {st o : Nat} {hr : Nat → Int32} {hp hw : Int32} {u : St2} (h : mk_ok R P V O st o hr hp hw u) {r : Nat} (hr4 : r < 4) (H : post (nI (R r))) : wpX_register post u (nI r) := by
  obtain ⟨ph, wh, sd, sp, oc, a1, a2, a3, a4, a5, a6, a7, a8⟩ := u
  unfold wpX_register
  dsimp only
  exact mk_isReg hr4 (br_1 (mk_voteReg h hr4 H))
theorem mk_place {post : Int32 → Prop} {R : Nat → Nat} {P : Nat} {V O : Nat → Nat} {st o : Nat} {hr : Nat → Int32} {hp hw : Int32} {u : St2} (h : mk_ok R P V O st o hr hp hw u) (H : post (nI P)) : wpX_place post u := by
  obtain ⟨ph, wh, sd, sp, oc, a1, a2, a3, a4, a5, a6, a7, a8⟩ := u
  unfold wpX_place
  dsimp only
  exact mk_votePlace h H
theorem mk_data {post : Int32 → Prop} {R : Nat → Nat} {P : Nat} {V O : Nat → Nat} {st o : Nat} {hr : Nat → Int32} {hp hw : Int32} {u : St2} (h : mk_ok R P V O st o hr hp hw u) {c : Nat} (hc : c < 16) (H : post (nI (V (32 + c)))) : wpX_data post u (nI c) := by
  obtain ⟨ph, wh, sd, sp, oc, a1, a2, a3, a4, a5, a6, a7, a8⟩ := u
  refine br_f (nI_pos (by omega)) (br_f (nI_ge (b := 16) hc (by omega)) ?_)
  rw [show 32 + nI c = nI (32 + c) from nI_add 32 _]
  exact mk_readWord h (by omega) H
theorem mk_outs {post : Int32 → Prop} {R : Nat → Nat} {P : Nat} {V O : Nat → Nat} {st o : Nat} {hr : Nat → Int32} {hp hw : Int32} {u : St2} (h : mk_ok R P V O st o hr hp hw u) (H : post (nI o)) : wpX_outs post u := by
  obtain ⟨ph, wh, sd, sp, oc, a1, a2, a3, a4, a5, a6, a7, a8⟩ := u
  obtain ⟨rfl, rfl, ⟨s, hs, rfl⟩, rfl, rfl, m6, m7, m8, m9, m10⟩ := h
  exact H
theorem mk_out {post : Int32 → Prop} {R : Nat → Nat} {P : Nat} {V O : Nat → Nat} {st o : Nat} {hr : Nat → Int32} {hp hw : Int32} {u : St2} (h : mk_ok R P V O st o hr hp hw u) {i : Nat} (ho : o ≤ 16) (hi : i < 16) (H0 : i < o → O i < 256 → post (nI (O i))) (hO : i < o → O i < 256) (H1 : o ≤ i → post (-1)) : wpX_out post u (nI i) := by
  obtain ⟨ph, wh, sd, sp, oc, a1, a2, a3, a4, a5, a6, a7, a8⟩ := u
  obtain ⟨rfl, rfl, ⟨s, hs, rfl⟩, rfl, rfl, m6, m7, m8, m9, m10⟩ := h
  refine br_f (nI_pos (by omega)) (pk_le o i H1 (fun z => ⟨vp_in_nI (by omega) (by omega), ?_⟩))
  rw [nI_clamp (by omega), m10 i z, sc_k8 _ (hO z)]
  exact H0 z (hO z)
theorem mk_spoilL {post : Int32 → Prop} ph wh sd sp oc a1 a2 a3 a4 a5 a6 a7 a8 (hs : ∀ w, w < 48 → a6 w = 0 ∨ a6 w = 1) (H : ∀ k, k ≤ 48 → post (nI k)) : ∀ k i n, i + k = 48 → n ≤ i → wX_spoiled_4 post ph wh sd sp oc a1 a2 a3 a4 a5 a6 a7 a8 (k + 1) (nI n) (nI i) := by
  intro k
  induction k with
  | zero =>
    intro i n hi hn
    exact br_t (nI_le (a := 48) (by omega) (by omega)) (H n (by omega))
  | succ k ih =>
    intro i n hi hn
    refine br_f (nI_ge (b := 48) (by omega) (by omega)) ⟨vp_in_nI (by omega) (by omega), ?_⟩
    refine br_c (fun z => ?_) (fun z => ?_)
    · exact nm_r (nI_add n 0) (nm_r (nI_1 i) (ih (i + 1) n (by omega) (by omega)))
    · exact nm_r (nI_1 n) (nm_r (nI_1 i) (ih (i + 1) (n + 1) (by omega) (by omega)))
theorem mk_spoiled {post : Int32 → Prop} {R : Nat → Nat} {P : Nat} {V O : Nat → Nat} {st o : Nat} {hr : Nat → Int32} {hp hw : Int32} {u : St2} (h : mk_ok R P V O st o hr hp hw u) (H : ∀ k, k ≤ 48 → post (nI k)) : wpX_spoiled post u := by
  obtain ⟨ph, wh, sd, sp, oc, a1, a2, a3, a4, a5, a6, a7, a8⟩ := u
  obtain ⟨rfl, rfl, ⟨s, hs, rfl⟩, rfl, rfl, m6, m7, m8, m9, m10⟩ := h
  exact ⟨49, mk_spoilL _ _ _ _ _ _ _ _ _ _ _ _ _ (fun w hw => cw_s (m9 w hw)) H 48 0 0 (by omega) (by omega)⟩
end
section
/-! the law's program, its run -/
/-- words: the ten steps of the program, i cells set -/
def pg_ok (n : Nat) (E : Nat → Nat) (i : Nat) (V : Nat → Nat) : Prop := (V 0 = 1 + 64 * n ∧ V 1 = 113 ∧ V 2 = 28 ∧ V 3 = 100 ∧ V 4 = 619 ∧ V 5 = 197 ∧ V 6 = 522 ∧ V 7 = 2185 ∧ V 8 = 2019 ∧ V 9 = 0) ∧ ∀ k, k < i → V (33 + k) = E k
/-- the sum of the last j of n cells -/
def sj_m (n : Nat) (E : Nat → Nat) : Nat → Nat
  | 0 => 0
  | j + 1 => (sj_m n E j + E (n - 1 - j)) % 256
theorem sj_lt (n : Nat) (E : Nat → Nat) (j : Nat) : sj_m n E j < 256 := by
  cases j with
  | zero => exact (by decide : 0 < 256)
  | succ j => exact Nat.mod_lt _ (by omega)
/-- registers and outs within the program's loop -/
def lo_ok (n : Nat) (E : Nat → Nat) (R O : Nat → Nat) (o r0 jo js : Nat) : Prop := o = jo ∧ R 0 = r0 ∧ R 2 = sj_m n E js ∧ R 3 = 1 ∧ ∀ i, i < jo → O i = sj_m n E (i + 1)
/-- the machine after t steps -/
def tc_ok (n : Nat) (E : Nat → Nat) (t : Nat) (R : Nat → Nat) (P : Nat) (V O : Nat → Nat) (st o : Nat) : Prop :=
  (t = 0 ∧ P = 0 ∧ st = 0 ∧ o = 0 ∧ R 2 = 0) ∨
  (t = 1 ∧ P = 1 ∧ st = 0 ∧ o = 0 ∧ R 0 = n ∧ R 2 = 0) ∨
  (∃ j, j < n ∧ t = 2 + 6 * j ∧ P = 2 ∧ st = 0 ∧ lo_ok n E R O o (n - j) j j) ∨
  (∃ j, j < n ∧ t = 3 + 6 * j ∧ P = 3 ∧ st = 0 ∧ R 1 = E (n - 1 - j) ∧ lo_ok n E R O o (n - j) j j) ∨
  (∃ j, j < n ∧ t = 4 + 6 * j ∧ P = 4 ∧ st = 0 ∧ lo_ok n E R O o (n - j) j (j + 1)) ∨
  (∃ j, j < n ∧ t = 5 + 6 * j ∧ P = 5 ∧ st = 0 ∧ lo_ok n E R O o (n - j) (j + 1) (j + 1)) ∨
  (∃ j, j < n ∧ t = 6 + 6 * j ∧ P = 6 ∧ st = 0 ∧ lo_ok n E R O o (n - 1 - j) (j + 1) (j + 1)) ∨
  (∃ j, j + 1 < n ∧ t = 7 + 6 * j ∧ P = 7 ∧ st = 0 ∧ lo_ok n E R O o (n - 1 - j) (j + 1) (j + 1)) ∨
  (t = 6 * n + 1 ∧ P = 8 ∧ st = 0 ∧ lo_ok n E R O o 0 n n) ∨
  (t = 6 * n + 2 ∧ P = 9 ∧ st = 0 ∧ V 47 = sj_m n E n ∧ lo_ok n E R O o 0 n n) ∨
  (t = 6 * n + 3 ∧ P = 9 ∧ st = 1 ∧ V 47 = sj_m n E n ∧ lo_ok n E R O o 0 n n)
def cf_ok (n : Nat) (E : Nat → Nat) (t : Nat) (hr : Nat → Int32) (hp hw : Int32) (u : St2) : Prop := ∃ R P V O st o, mk_ok R P V O st o hr hp hw u ∧ pg_ok n E 8 V ∧ tc_ok n E t R P V O st o
theorem cf_step {post : St2 → Prop} {n t : Nat} {E : Nat → Nat} {hr : Nat → Int32} {hp hw : Int32} {u : St2} (hn1 : 1 ≤ n) (hn : n ≤ 8) (hE : ∀ k, E k < 256) (h : cf_ok n E t hr hp hw u) (ht : t < 6 * n + 3)
    (H : ∀ u', cf_ok n E (t + 1) (fun _ => 0) 0 0 u' → post u') : wpX_step post u := by
  obtain ⟨R, P, V, O, st, o, h, hg, hc⟩ := h
  obtain ⟨g0, g1, g2, g3, g4, g5, g6, g7, g8, g9⟩ := hg.1
  have hd := hg.2
  rcases hc with ⟨rfl, rfl, rfl, rfl, c2⟩ | ⟨rfl, rfl, rfl, rfl, c0, c2⟩ | ⟨j, hj, rfl, rfl, rfl, eo, c0, c2, c3, co⟩ | ⟨j, hj, rfl, rfl, rfl, c1, eo, c0, c2, c3, co⟩ | ⟨j, hj, rfl, rfl, rfl, eo, c0, c2, c3, co⟩ | ⟨j, hj, rfl, rfl, rfl, eo, c0, c2, c3, co⟩ | ⟨j, hj, rfl, rfl, rfl, eo, c0, c2, c3, co⟩ | ⟨j, hj, rfl, rfl, rfl, eo, c0, c2, c3, co⟩ | ⟨rfl, rfl, rfl, eo, c0, c2, c3, co⟩ | ⟨rfl, rfl, rfl, cv, eo, c0, c2, c3, co⟩ | ⟨rfl, _⟩
  · exact sx_set h (r := 0) (m := n) (by omega) (by omega) (by omega) (by omega) (fun u' h' => H u' ⟨_, _, _, _, _, _, h', hg, Or.inr (Or.inl ⟨rfl, rfl, rfl, rfl, ud_s, by rw [ud_n (by omega)]; exact c2⟩)⟩)
  · exact sx_set h (r := 3) (m := 1) (by omega) (by omega) (by omega) (by omega) (fun u' h' => H u' ⟨_, _, _, _, _, _, h', hg, Or.inr (Or.inr (Or.inl ⟨0, by omega, rfl, rfl, rfl, rfl, by rw [ud_n (by omega)]; exact c0, by rw [ud_n (by omega)]; exact c2, ud_s, fun i hi => absurd hi (by omega)⟩))⟩)
  · have k0 : R (0 % 4) = n - j := c0
    refine sx_fetch h (r := 1) (m := 0) (by omega) (by omega) (by omega) (by omega) (by omega) (fun u' h' => H u' ⟨_, _, _, _, _, _, h', hg, Or.inr (Or.inr (Or.inr (Or.inl ⟨j, hj, by omega, rfl, rfl, ?_, eo, by rw [ud_n (by omega)]; exact c0, by rw [ud_n (by omega)]; exact c2, by rw [ud_n (by omega)]; exact c3, co⟩)))⟩)
    rw [ud_s, k0, ← hd (n - 1 - j) (by omega)]
    congr 1
    omega
  · have k1 : R (1 % 4) = E (n - 1 - j) := c1
    have s1 := sj_lt n E j
    have s2 := hE (n - 1 - j)
    refine sx_add h (r := 2) (m := 1) (by omega) (by omega) (by omega) (by omega) (by omega) (by omega) (fun u' h' => H u' ⟨_, _, _, _, _, _, h', hg, Or.inr (Or.inr (Or.inr (Or.inr (Or.inl ⟨j, hj, by omega, rfl, rfl, eo, by rw [ud_n (by omega)]; exact c0, ?_, by rw [ud_n (by omega)]; exact c3, co⟩))))⟩)
    rw [ud_s, k1, c2]
    rfl
  · refine sx_out h (r := 2) (m := 9) (by omega) (by omega) (by omega) (by omega) (by omega) (fun u' h' => H u' ⟨_, _, _, _, _, _, h', hg, Or.inr (Or.inr (Or.inr (Or.inr (Or.inr (Or.inl ⟨j, hj, by omega, rfl, rfl, by omega, c0, c2, c3, fun i hi => ?_⟩)))))⟩)
    by_cases e : i = o
    · rw [e, ud_s, c2, eo]
    · rw [ud_n e]
      exact co i (by omega)
  · have k3 : R (3 % 4) = 1 := c3
    refine sx_sub h (r := 0) (m := 3) (by omega) (by omega) (by omega) (by omega) (by omega) (by rw [k3]; decide) (fun u' h' => H u' ⟨_, _, _, _, _, _, h', hg, Or.inr (Or.inr (Or.inr (Or.inr (Or.inr (Or.inr (Or.inl ⟨j, hj, by omega, rfl, rfl, eo, ?_, by rw [ud_n (by omega)]; exact c2, by rw [ud_n (by omega)]; exact c3, co⟩))))))⟩)
    rw [ud_s, k3, c0, show 1 ^^^ 255 = 254 from rfl]
    omega
  · refine sx_zero h (r := 0) (m := 8) (by omega) (by omega) (by omega) (by omega) (by omega) (fun z u' h' => ?_) (fun z u' h' => ?_)
    · have e : n = j + 1 := by omega
      subst e
      exact H u' ⟨_, _, _, _, _, _, h', hg, Or.inr (Or.inr (Or.inr (Or.inr (Or.inr (Or.inr (Or.inr (Or.inr (Or.inl ⟨by omega, rfl, rfl, eo, z, c2, c3, co⟩))))))))⟩
    · exact H u' ⟨_, _, _, _, _, _, h', hg, Or.inr (Or.inr (Or.inr (Or.inr (Or.inr (Or.inr (Or.inr (Or.inl ⟨j, by omega, by omega, rfl, rfl, eo, c0, c2, c3, co⟩)))))))⟩
  · exact sx_jump h (r := 0) (m := 34) (by omega) (by omega) (by omega) (by omega) (fun u' h' => H u' ⟨_, _, _, _, _, _, h', hg, Or.inr (Or.inr (Or.inl ⟨j + 1, hj, by omega, rfl, rfl, eo, by omega, c2, c3, co⟩))⟩)
  · have s1 := sj_lt n E n
    refine sx_store h (r := 2) (m := 31) (by omega) (by omega) (by omega) (by omega) (by omega) (fun u' h' => H u' ⟨_, _, _, _, _, _, h', ⟨?_, fun k hk => ?_⟩, Or.inr (Or.inr (Or.inr (Or.inr (Or.inr (Or.inr (Or.inr (Or.inr (Or.inr (Or.inl ⟨by omega, rfl, rfl, ?_, eo, c0, c2, c3, co⟩)))))))))⟩)
    · exact ⟨by rw [ud_n (by omega)]; exact g0, by rw [ud_n (by omega)]; exact g1, by rw [ud_n (by omega)]; exact g2, by rw [ud_n (by omega)]; exact g3, by rw [ud_n (by omega)]; exact g4, by rw [ud_n (by omega)]; exact g5, by rw [ud_n (by omega)]; exact g6, by rw [ud_n (by omega)]; exact g7, by rw [ud_n (by omega)]; exact g8, by rw [ud_n (by omega)]; exact g9⟩
    · rw [ud_n (by omega)]
      exact hd k hk
    · show ud_f V 47 (R 2) 47 = _
      rw [ud_s]
      exact c2
  · exact sx_stop h (r := 0) (m := 0) (by omega) (by omega) (by omega) (by omega) (fun u' h' => H u' ⟨_, _, _, _, _, _, h', hg, Or.inr (Or.inr (Or.inr (Or.inr (Or.inr (Or.inr (Or.inr (Or.inr (Or.inr (Or.inr ⟨by omega, rfl, rfl, cv, eo, c0, c2, c3, co⟩)))))))))⟩)
  · omega
theorem cf_run0 {n t : Nat} {E : Nat → Nat} {R : Nat → Nat} {P : Nat} {V O : Nat → Nat} {st o : Nat} (hc : tc_ok n E t R P V O st o) : (t < 6 * n + 3 ∧ st = 0) ∨ (t = 6 * n + 3 ∧ st = 1) := by
  rcases hc with ⟨rfl, _, h, _⟩ | ⟨rfl, _, h, _⟩ | ⟨j, hj, rfl, _, h, _⟩ | ⟨j, hj, rfl, _, h, _⟩ | ⟨j, hj, rfl, _, h, _⟩ | ⟨j, hj, rfl, _, h, _⟩ | ⟨j, hj, rfl, _, h, _⟩ | ⟨j, hj, rfl, _, h, _⟩ | ⟨rfl, _, h, _⟩ | ⟨rfl, _, h, _⟩ | ⟨rfl, _, h, _⟩
  all_goals omega
theorem cf_end {n : Nat} {E : Nat → Nat} {hr : Nat → Int32} {hp hw : Int32} {u : St2} (h : cf_ok n E (6 * n + 3) hr hp hw u) (hn : 1 ≤ n) :
    ∃ R V O, mk_ok R 9 V O 1 n hr hp hw u ∧ pg_ok n E 8 V ∧ V 47 = sj_m n E n ∧ R 0 = 0 ∧ R 2 = sj_m n E n ∧ R 3 = 1 ∧ ∀ i, i < n → O i = sj_m n E (i + 1) := by
  obtain ⟨R, P, V, O, st, o, h, hg, hc⟩ := h
  rcases hc with ⟨z, _⟩ | ⟨z, _⟩ | ⟨j, hj, z, _⟩ | ⟨j, hj, z, _⟩ | ⟨j, hj, z, _⟩ | ⟨j, hj, z, _⟩ | ⟨j, hj, z, _⟩ | ⟨j, hj, z, _⟩ | ⟨z, _⟩ | ⟨z, _⟩ | ⟨z, rfl, rfl, cv, eo, c0, c2, c3, co⟩
  iterate 10 omega
  rw [eo] at h
  exact ⟨R, V, O, h, hg, cv, c0, c2, c3, co⟩
/-- no copy is marked -/
def cl_ok (hr : Nat → Int32) (hp hw : Int32) : Prop := (∀ r, r < 4 → hr r = 0) ∧ hp = 0 ∧ hw = 0
/-- after t steps; while it runs no copy is marked -/
def tn_ok (n : Nat) (E : Nat → Nat) (t : Nat) (u : St2) : Prop := ∃ hr hp hw, cf_ok n E t hr hp hw u ∧ (t < 6 * n + 3 → cl_ok hr hp hw)
theorem cf_runL {post : Int32 → St2 → Prop} {n m : Nat} {E : Nat → Nat} (hn1 : 1 ≤ n) (hn : n ≤ 8) (hE : ∀ k, E k < 256) (hm : m ≤ 100) :
    ∀ k d t (ph wh sd sp oc : Int32) (a1 a2 a3 a4 a5 a6 a7 a8 : Nat → Int32) hr hp hw, d + k = m → t ≤ 6 * n + 3 → cf_ok n E t hr hp hw (ph, wh, sd, sp, oc, a1, a2, a3, a4, a5, a6, a7, a8) → (k = 0 → t < 6 * n + 3 → cl_ok hr hp hw) →
      (∀ u', tn_ok n E (t + min k (6 * n + 3 - t)) u' → post (nI (d + min k (6 * n + 3 - t))) u') → wX_run_16 post (nI m) (k + 1) (nI d) (nI d) ph wh sd sp oc a1 a2 a3 a4 a5 a6 a7 a8 := by
  intro k
  induction k with
  | zero =>
    intro d t ph wh sd sp oc a1 a2 a3 a4 a5 a6 a7 a8 hr hp hw hd ht h hcl H
    rw [Nat.zero_min] at H
    exact br_t (nI_le (by omega) (by omega)) (H _ ⟨hr, hp, hw, h, hcl rfl⟩)
  | succ k ih =>
    intro d t ph wh sd sp oc a1 a2 a3 a4 a5 a6 a7 a8 hr hp hw hd ht h hcl H
    refine br_f (nI_ge (by omega) (by omega)) ?_
    have h' := h
    obtain ⟨R, P, V, O, st, o, hk, hg, hc⟩ := h'
    have hsp : sp = nI st := hk.2.2.2.1
    rcases cf_run0 hc with ⟨z, e⟩ | ⟨z, e⟩
    · refine br_t (by rw [hsp, e]; rfl) (cf_step hn1 hn hE h z (fun u' h' => ?_))
      obtain ⟨ph, wh, sd, sp, oc, a1, a2, a3, a4, a5, a6, a7, a8⟩ := u'
      refine nm_r (nI_1 d) (nm_r (nI_1 d) (ih (d + 1) (t + 1) _ _ _ _ _ _ _ _ _ _ _ _ _ _ _ _ (by omega) (by omega) h' (fun _ _ => ⟨fun _ _ => rfl, rfl, rfl⟩) (fun u' h' => ?_)))
      rw [show t + 1 + min k (6 * n + 3 - (t + 1)) = t + min (k + 1) (6 * n + 3 - t) by omega] at h'
      rw [show d + 1 + min k (6 * n + 3 - (t + 1)) = d + min (k + 1) (6 * n + 3 - t) by omega]
      exact H _ h'
    · refine br_f (by rw [hsp, e]; decide) ?_
      rw [show min (k + 1) (6 * n + 3 - t) = 0 by omega] at H
      exact H _ ⟨hr, hp, hw, h, fun w => absurd w (by omega)⟩
theorem cf_run {post : Int32 → St2 → Prop} {n m t : Nat} {E : Nat → Nat} {hr : Nat → Int32} {hp hw : Int32} {u : St2} (hn1 : 1 ≤ n) (hn : n ≤ 8) (hE : ∀ k, E k < 256) (hm1 : 1 ≤ m) (hm : m ≤ 100) (h : cf_ok n E t hr hp hw u) (ht : t ≤ 6 * n + 3)
    (H : ∀ u', tn_ok n E (t + min m (6 * n + 3 - t)) u' → post (nI (min m (6 * n + 3 - t))) u') : wpX_run post u (nI m) := by
  obtain ⟨ph, wh, sd, sp, oc, a1, a2, a3, a4, a5, a6, a7, a8⟩ := u
  refine br_f (nI_pos (by omega)) (br_t (nI_le (b := 100) hm (by omega)) ⟨m + 1, cf_runL hn1 hn hE hm m 0 t _ _ _ _ _ _ _ _ _ _ _ _ _ hr hp hw (by omega) ht h (fun z => absurd z (by omega)) ?_⟩)
  rw [Nat.zero_add]
  exact H
end
section
/-! hits and shows of the machine after t steps -/
section
variable {n t : Nat} {E : Nat → Nat} {hr : Nat → Int32} {hp hw : Int32} {u : St2}
theorem cf_hitReg {post : Int32 → St2 → Prop} (h : cf_ok n E t hr hp hw u) {r c k : Nat} {x0 x1 x2 : Int32} (e0 : x0 = nI r) (e1 : x1 = nI c) (e2 : x2 = nI k) (hr4 : r < 4) (hc : c < 3) (hk1 : 1 ≤ k) (hk : k ≤ 255)
    (H : ∀ b hr' u', cf_ok n E t hr' hp hw u' → ht_ok c (hr r) (hr' r) b → post b u') : wpX_hitRegister post u x0 x1 x2 := by
  obtain ⟨R, P, V, O, st, o, h, hg⟩ := h
  exact mk_hitReg h e0 e1 e2 hr4 hc hk1 hk (fun b hr' u' h' k' => H b hr' u' ⟨R, P, V, O, st, o, h', hg⟩ k')
theorem cf_hitPlace {post : Int32 → St2 → Prop} (h : cf_ok n E t hr hp hw u) {c k : Nat} {x1 x2 : Int32} (e1 : x1 = nI c) (e2 : x2 = nI k) (hc : c < 3) (hk1 : 1 ≤ k) (hk : k ≤ 31)
    (H : ∀ b hp' u', cf_ok n E t hr hp' hw u' → ht_ok c hp hp' b → post b u') : wpX_hitPlace post u x1 x2 := by
  obtain ⟨R, P, V, O, st, o, h, hg⟩ := h
  exact mk_hitPlace h e1 e2 hc hk1 hk (fun b hr' u' h' k' => H b hr' u' ⟨R, P, V, O, st, o, h', hg⟩ k')
theorem cf_hitWork {post : Int32 → St2 → Prop} (h : cf_ok n E t hr hp hw u) {c k : Nat} {x1 x2 : Int32} (e1 : x1 = nI c) (e2 : x2 = nI k) (hc : c < 3) (hk1 : 1 ≤ k) (hk : k ≤ 255)
    (H : ∀ b hw' u', cf_ok n E t hr hp hw' u' → ht_ok c hw hw' b → post b u') : wpX_hitWork post u x1 x2 := by
  obtain ⟨R, P, V, O, st, o, h, hg⟩ := h
  exact mk_hitWork h e1 e2 hc hk1 hk (fun b hr' u' h' k' => H b hr' u' ⟨R, P, V, O, st, o, h', hg⟩ k')
theorem cf_hitData {post : Int32 → St2 → Prop} (h : cf_ok n E t hr hp hw u) {c b : Nat} {x1 x2 : Int32} (e1 : x1 = nI c) (e2 : x2 = nI b) (hc : c < 16) (hb : b < 13) (H : ∀ d u', cf_ok n E t hr hp hw u' → post d u') : wpX_hitData post u x1 x2 := by
  obtain ⟨R, P, V, O, st, o, h, hg⟩ := h
  exact mk_hitData h e1 e2 hc hb (fun d u' h' => H d u' ⟨R, P, V, O, st, o, h', hg⟩)
theorem cf_hitProg {post : Int32 → St2 → Prop} (h : cf_ok n E t hr hp hw u) {c b : Nat} {x1 x2 : Int32} (e1 : x1 = nI c) (e2 : x2 = nI b) (hc : c < 32) (hb : b < 22) (H : ∀ d u', cf_ok n E t hr hp hw u' → post d u') : wpX_hitProgram post u x1 x2 := by
  obtain ⟨R, P, V, O, st, o, h, hg⟩ := h
  exact mk_hitProg h e1 e2 hc hb (fun d u' h' => H d u' ⟨R, P, V, O, st, o, h', hg⟩)
theorem cf_stopped {post : Int32 → Prop} (h : cf_ok n E t hr hp hw u) (H : ∀ b, (b = 0 → t < 6 * n + 3) → post b) : wpX_stopped post u := by
  obtain ⟨R, P, V, O, st, o, h, hg, hc⟩ := h
  rcases cf_run0 hc with ⟨z, e⟩ | ⟨z, e⟩
  · exact mk_stopped h (Or.inl e) (H _ (fun _ => z))
  · refine mk_stopped h (Or.inr e) (H _ (fun w => ?_))
    rw [e] at w
    exact absurd w (by decide)
end
/-! calls that are refused -/
section
variable {u : St2}
theorem no_set1 {post : Int32 → St2 → Prop} (H : post 0 u) : wpX_set post u 32 0 0 0 := by
  obtain ⟨ph, wh, sd, sp, oc, a1, a2, a3, a4, a5, a6, a7, a8⟩ := u
  exact br_f (by decide) (br_t (by decide) H)
theorem no_set2 {post : Int32 → St2 → Prop} (H : post 0 u) : wpX_set post u 0 14 0 0 := by
  obtain ⟨ph, wh, sd, sp, oc, a1, a2, a3, a4, a5, a6, a7, a8⟩ := u
  exact br_f (by decide) (br_f (by decide) (br_f (by decide) (br_t (by decide) H)))
theorem no_setD {post : Int32 → St2 → Prop} (H : post 0 u) : wpX_setData post u 16 0 := by
  obtain ⟨ph, wh, sd, sp, oc, a1, a2, a3, a4, a5, a6, a7, a8⟩ := u
  exact br_f (by decide) (br_t (by decide) H)
theorem no_run {post : Int32 → St2 → Prop} (H : post (-1) u) : wpX_run post u 101 := by
  obtain ⟨ph, wh, sd, sp, oc, a1, a2, a3, a4, a5, a6, a7, a8⟩ := u
  exact br_f (by decide) (br_f (by decide) H)
theorem no_hitD {post : Int32 → St2 → Prop} (H : post 0 u) : wpX_hitData post u 0 13 := by
  obtain ⟨ph, wh, sd, sp, oc, a1, a2, a3, a4, a5, a6, a7, a8⟩ := u
  exact br_f (by decide) (br_f (by decide) (br_f (by decide) (br_f (by decide) H)))
theorem no_hitP {post : Int32 → St2 → Prop} (H : post 0 u) : wpX_hitProgram post u 0 22 := by
  obtain ⟨ph, wh, sd, sp, oc, a1, a2, a3, a4, a5, a6, a7, a8⟩ := u
  exact br_f (by decide) (br_f (by decide) (br_f (by decide) (br_f (by decide) H)))
theorem no_hitL {post : Int32 → St2 → Prop} (H : post 0 u) : wpX_hitPlace post u 0 32 := by
  obtain ⟨ph, wh, sd, sp, oc, a1, a2, a3, a4, a5, a6, a7, a8⟩ := u
  unfold wpX_hitPlace
  dsimp only
  exact mk_isCopy (r := 0) (by omega) (br_1 (br_f (by decide) (br_t (by decide) H)))
theorem no_copy {post : Int32 → Prop} {v : St0} (H : post 0) : wpX_isCopy post v 3 := br_f (by decide) (br_t (by decide) H)
theorem no_reg {post : Int32 → Prop} {v : St0} (H : post 0) : wpX_isRegister post v 4 := br_f (by decide) (br_t (by decide) H)
theorem no_hitR {post : Int32 → St2 → Prop} (H : post 0 u) : wpX_hitRegister post u 0 3 1 := by
  obtain ⟨ph, wh, sd, sp, oc, a1, a2, a3, a4, a5, a6, a7, a8⟩ := u
  unfold wpX_hitRegister
  dsimp only
  exact mk_isReg (r := 0) (by omega) (br_1 (no_copy (br_t rfl H)))
theorem no_regR {post : Int32 → Prop} (H : post (-1)) : wpX_register post u 4 := by
  obtain ⟨ph, wh, sd, sp, oc, a1, a2, a3, a4, a5, a6, a7, a8⟩ := u
  unfold wpX_register
  dsimp only
  exact no_reg (br_t rfl H)
end
/-! bits of the script -/
theorem ra_mod (x : Int32) {m : Int32} (k : Nat) (hm : m.toBitVec.toNat = 2 ^ k - 1) (hk : 2 ^ k < 2 ^ 31) (d : Nat) (hd0 : 0 < d) (hd : d < 2 ^ 31) : ∃ j, j < d ∧ (x &&& m) - (x &&& m) / nI d * nI d = nI j := by
  obtain ⟨j, hj, e⟩ := pk_andE x k hm
  rw [e]
  exact ⟨j % d, Nat.mod_lt _ hd0, pk_rem (by omega) hd0 hd⟩
theorem ra_inc (x : Int32) {m : Int32} (k : Nat) (hm : m.toBitVec.toNat = 2 ^ k - 1) : ∃ j, j < 2 ^ k ∧ 1 + (x &&& m) = nI (1 + j) := by
  obtain ⟨j, hj, e⟩ := pk_andE x k hm
  rw [e]
  exact ⟨j, hj, nI_add 1 j⟩
theorem ra_c1 {c : Nat} (hc : c < 3) : (nI c + 1) - (nI c + 1) / 3 * 3 = nI ((c + 1) % 3) := by
  rw [nI_1]
  exact pk_rem (d := 3) (by omega) (by omega) (by omega)
theorem ra_c2 {c : Nat} (hc : c < 3) : (nI c + 2) - (nI c + 2) / 3 * 3 = nI ((c + 2) % 3) := by
  rw [show nI c + 2 = nI (c + 2) from nI_add c 2]
  exact pk_rem (d := 3) (by omega) (by omega) (by omega)
/-- the cells that the law sets -/
def ee_f (x : Int32) (k : Nat) : Nat := (x + 5 * nI k).toBitVec.toNat % 256
theorem ee_lt (x : Int32) (k : Nat) : ee_f x k < 256 := Nat.mod_lt _ (by omega)
theorem ee_eq (x : Int32) (k : Nat) : (x + 5 * nI k) &&& 255 = nI (ee_f x k) := pk_and (x + 5 * nI k) (m := 255) 8 (by decide)
theorem ec_tab22 : ∀ n, n < 9 → ec_ok 22 (1 + 16 * 0 + 64 * n) = true := by decide +kernel
end
section
/-! the law, from its end -/
section
variable {post : Int32 → St0 → Prop} {mc ms kc ks n : Nat} {x1 x2 x3 : Int32}
theorem lq_694 {E : Nat → Nat} (hn1 : 1 ≤ n) (hn : n ≤ 8) (hE : ∀ k, E k < 256) (H : post 1 ()) {ph wh sd sp oc : Int32} {a1 a2 a3 a4 a5 a6 a7 a8 : Nat → Int32} (h : tn_ok n E (6 * n + 3) (ph, wh, sd, sp, oc, a1, a2, a3, a4, a5, a6, a7, a8)) : wL_lawOf_694 post mc ms (nI n) (nI (6 * n + 3)) (nI (sj_m n E n)) 1 kc ks ph wh sd sp oc a1 a2 a3 a4 a5 a6 a7 a8 := by
  obtain ⟨hr, hp, hw, h, _⟩ := h
  obtain ⟨R, V, O, h, hg, _⟩ := cf_end h hn1
  unfold wL_lawOf_694
  refine mk_reset h (fun u' h' => ?_)
  clear h
  obtain ⟨ph, wh, sd, sp, oc, a1, a2, a3, a4, a5, a6, a7, a8⟩ := u'
  refine cf_run (m := 100) (t := 0) hn1 hn hE (by omega) (by omega) ⟨_, _, _, _, _, _, h', hg, Or.inl ⟨rfl, rfl, rfl, rfl, rfl⟩⟩ (by omega) (fun u' h => ?_)
  clear h' hg
  rw [show min 100 (6 * n + 3 - 0) = 6 * n + 3 by omega, Nat.zero_add] at h
  rw [show min 100 (6 * n + 3 - 0) = 6 * n + 3 by omega]
  obtain ⟨ph, wh, sd, sp, oc, a1, a2, a3, a4, a5, a6, a7, a8⟩ := u'
  obtain ⟨hr, hp, hw, h, _⟩ := h
  obtain ⟨R, V, O, h, hg, cv, c0, c2, c3, co⟩ := cf_end h hn1
  refine mk_spoiled h (fun k hk => br_1 (br_t rfl (br_f (nI_pos (by omega)) (br_f (nI_nlt (a := 48) hk (by omega)) ?_))))
  refine mk_register h (r := 2) (by omega) ?_
  rw [c2]
  refine br_t rfl (mk_outs h (br_t rfl ?_))
  refine no_set1 (br_t rfl (no_set2 (br_t rfl (no_setD (br_t rfl (no_run (br_t rfl (no_hitD (br_t rfl (no_hitP (br_t rfl (no_hitL (br_t rfl (no_hitR (br_t rfl ?_)))))))))))))))
  exact no_regR (br_t rfl H)
theorem lq_607 {E : Nat → Nat} (hn1 : 1 ≤ n) (hn : n ≤ 8) (hE : ∀ k, E k < 256) (H : post 1 ()) {ph wh sd sp oc : Int32} {a1 a2 a3 a4 a5 a6 a7 a8 : Nat → Int32} (h : tn_ok n E (6 * n + 3) (ph, wh, sd, sp, oc, a1, a2, a3, a4, a5, a6, a7, a8)) : wL_lawOf_607 post mc ms (nI n) (nI (6 * n + 3)) (nI (sj_m n E n)) (nI (6 * n + 3)) (nI (6 * n + 3)) kc ks ph wh sd sp oc a1 a2 a3 a4 a5 a6 a7 a8 := by
  obtain ⟨hr, hp, hw, hh, _⟩ := h
  obtain ⟨R, V, O, h, hg, cv, c0, c2, c3, co⟩ := cf_end hh hn1
  refine br_t rfl (mk_stopped h (Or.inr rfl) (br_1 (mk_outs h (br_t rfl (mk_place h (br_t rfl ?_))))))
  refine mk_register h (r := 0) (by omega) ?_
  rw [c0]
  refine br_t rfl (mk_register h (r := 2) (by omega) ?_)
  rw [c2]
  refine br_t rfl (mk_register h (r := 3) (by omega) ?_)
  rw [c3]
  refine br_t rfl (mk_data h (c := 15) (by omega) ?_)
  rw [show V (32 + 15) = sj_m n E n from cv]
  refine br_t rfl (cf_run (m := 5) hn1 hn hE (by omega) (by omega) hh (by omega) (fun u' h' => ?_))
  rw [show min 5 (6 * n + 3 - (6 * n + 3)) = 0 by omega, Nat.add_zero] at h'
  rw [show min 5 (6 * n + 3 - (6 * n + 3)) = 0 by omega]
  obtain ⟨ph, wh, sd, sp, oc, a1, a2, a3, a4, a5, a6, a7, a8⟩ := u'
  exact br_t rfl (lq_694 hn1 hn hE H h')
theorem lq_476 (hn1 : 1 ≤ n) (hn : n ≤ 8) (H : post 1 ()) {ph wh sd sp oc : Int32} {a1 a2 a3 a4 a5 a6 a7 a8 : Nat → Int32} (h : tn_ok n (ee_f x1) (6 * n + 3) (ph, wh, sd, sp, oc, a1, a2, a3, a4, a5, a6, a7, a8)) :
    ∀ k i, i + k = 8 → wL_lawOf_476 post mc ms x1 (nI n) (nI (6 * n + 3)) (nI (6 * n + 3)) kc ks ph wh sd sp oc a1 a2 a3 a4 a5 a6 a7 a8 (k + 1) 1 (nI (sj_m n (ee_f x1) (min i n))) (nI i) := by
  intro k
  induction k with
  | zero =>
    intro i hi
    rw [show min i n = n by omega]
    exact br_t (nI_le (a := 8) (by omega) (by omega)) (br_1 (br_f (nI_ge (b := 56) (by omega) (by omega)) (lq_607 hn1 hn (ee_lt x1) H h)))
  | succ k ih =>
    intro i hi
    have hI := ih (i + 1) (by omega)
    obtain ⟨hr, hp, hw, hh, _⟩ := h
    obtain ⟨R, V, O, h, hg, cv, c0, c2, c3, co⟩ := cf_end hh hn1
    have hd : V (32 + (i + 1)) = ee_f x1 i := by
      rw [← hg.2 i (by omega)]
      congr 1
      omega
    refine br_f (nI_ge (b := 8) (by omega) (by omega)) (nm_e (pk_le n i (fun z => ?_) (fun z => ?_)))
    · rw [show min (i + 1) n = min i n by omega] at hI
      refine br_1 (mk_out h (by omega) (by omega) (fun w => absurd w (by omega)) (fun w => absurd w (by omega)) (fun _ => ?_))
      refine br_t (nI_le z (by omega)) (br_t rfl ?_)
      rw [nI_1 i, ee_eq]
      refine mk_data h (by omega) ?_
      rw [hd]
      exact br_t rfl (nm_e hI)
    · have ex : nI n - 1 - nI i = nI (n - 1 - i) := by
        rw [show nI n - 1 = nI (n - 1) from pk_sub hn1, pk_sub (by omega)]
      have es : (nI (sj_m n (ee_f x1) (min i n)) + ((x1 + 5 * (nI n - 1 - nI i)) &&& 255)) &&& 255 = nI (sj_m n (ee_f x1) (i + 1)) := by
        have l1 := sj_lt n (ee_f x1) i
        have l2 := ee_lt x1 (n - 1 - i)
        rw [ex, ee_eq, show min i n = i by omega, nI_add, nx_a255 (by omega)]
        rfl
      rw [show min (i + 1) n = i + 1 by omega] at hI
      rw [es]
      refine br_1 (mk_out h (by omega) (by omega) (fun w _ => ?_) (fun w => by rw [co i w]; exact sj_lt _ _ _) (fun w => absurd w (by omega)))
      rw [co i w]
      refine br_f (nI_ge z (by omega)) (br_t rfl ?_)
      rw [nI_1 i, ee_eq]
      refine mk_data h (by omega) ?_
      rw [hd]
      exact br_t rfl (nm_e hI)
theorem lq_226 (hn1 : 1 ≤ n) (hn : n ≤ 8) (H : post 1 ()) :
    ∀ k i (ph wh sd sp oc : Int32) (a1 a2 a3 a4 a5 a6 a7 a8 : Nat → Int32), i + k = 8 → tn_ok n (ee_f x1) (min (7 * i) (6 * n + 3)) (ph, wh, sd, sp, oc, a1, a2, a3, a4, a5, a6, a7, a8) →
      wL_lawOf_226 post mc ms x1 x2 x3 (nI n) (nI (6 * n + 3)) kc ks (k + 1) 1 (nI (min (7 * i) (6 * n + 3))) (nI i) ph wh sd sp oc a1 a2 a3 a4 a5 a6 a7 a8 := by
  intro k
  induction k with
  | zero =>
    intro i ph wh sd sp oc a1 a2 a3 a4 a5 a6 a7 a8 hi h
    rw [show min (7 * i) (6 * n + 3) = 6 * n + 3 by omega] at h
    rw [show min (7 * i) (6 * n + 3) = 6 * n + 3 by omega]
    refine br_t (nI_le (a := 8) (by omega) (by omega)) ⟨9, ?_⟩
    have k := lq_476 (mc := mc) (ms := ms) (kc := kc) (ks := ks) hn1 hn H h 8 0 (by omega)
    rw [Nat.zero_min] at k
    exact k
  | succ k ih =>
    intro i ph wh sd sp oc a1 a2 a3 a4 a5 a6 a7 a8 hi h
    have hE := ee_lt x1
    obtain ⟨hr, hp, hw, h, hcl⟩ := h
    obtain ⟨c, hc, ec⟩ := ra_mod (x3 >>> ((2 * nI i) &&& 31)) (m := 3) 2 (by decide) (by decide) 3 (by decide) (by decide)
    obtain ⟨r, hr4, er⟩ := pk_andE (x2 >>> (nI i &&& 31)) (m := 3) 2 (by decide)
    obtain ⟨j1, hj1, e1⟩ := ra_inc (x2 >>> (nI i &&& 31)) (m := 127) 7 (by decide)
    obtain ⟨j3, hj3, e3⟩ := ra_inc (x2 >>> ((nI i + 3) &&& 31)) (m := 15) 4 (by decide)
    obtain ⟨j4, hj4, e4⟩ := ra_inc (x2 >>> ((nI i + 1) &&& 31)) (m := 127) 7 (by decide)
    obtain ⟨d1, hd1, ed1⟩ := pk_andE (x2 >>> (nI i &&& 31)) (m := 15) 4 (by decide)
    obtain ⟨d2, hd2, ed2⟩ := ra_mod (x2 >>> ((nI i + 2) &&& 31)) (m := 15) 4 (by decide) (by decide) 13 (by decide) (by decide)
    obtain ⟨p1, hp1, ep1⟩ := pk_andE (x2 >>> ((nI i + 4) &&& 31)) (m := 15) 4 (by decide)
    obtain ⟨p2, hp2, ep2⟩ := ra_mod (x2 >>> (nI i &&& 31)) (m := 31) 5 (by decide) (by decide) 22 (by decide) (by decide)
    refine br_f (nI_ge (b := 8) (by omega) (by omega)) ⟨by decide, nm_r ec ?_⟩
    refine cf_stopped h (fun bs hbs => ?_)
    refine cf_hitReg h er rfl e1 hr4 hc (by omega) (by omega) (fun b1 hr1 u' h1 t1 => ?_)
    clear h
    obtain ⟨ph, wh, sd, sp, oc, a1, a2, a3, a4, a5, a6, a7, a8⟩ := u'
    refine ⟨by decide, cf_hitReg (k := 255) h1 er (ra_c1 hc) rfl hr4 (Nat.mod_lt _ (by omega)) (by omega) (by omega) (fun b2 hr2 u' h2 t2 => ?_)⟩
    clear h1
    obtain ⟨ph, wh, sd, sp, oc, a1, a2, a3, a4, a5, a6, a7, a8⟩ := u'
    refine ⟨by decide, cf_hitPlace h2 (ra_c2 hc) e3 (Nat.mod_lt _ (by omega)) (by omega) (by omega) (fun b3 hp3 u' h3 t3 => ?_)⟩
    clear h2
    obtain ⟨ph, wh, sd, sp, oc, a1, a2, a3, a4, a5, a6, a7, a8⟩ := u'
    refine cf_hitWork h3 rfl e4 hc (by omega) (by omega) (fun b4 hw4 u' h4 t4 => ?_)
    clear h3
    obtain ⟨ph, wh, sd, sp, oc, a1, a2, a3, a4, a5, a6, a7, a8⟩ := u'
    refine ⟨by decide, cf_hitWork (k := 1) h4 (ra_c2 hc) rfl (Nat.mod_lt _ (by omega)) (by omega) (by omega) (fun b5 hw5 u' h5 t5 => ?_)⟩
    clear h4
    obtain ⟨ph, wh, sd, sp, oc, a1, a2, a3, a4, a5, a6, a7, a8⟩ := u'
    refine ⟨by decide, cf_hitData h5 ed1 ed2 hd1 hd2 (fun b6 u' h6 => ?_)⟩
    clear h5
    obtain ⟨ph, wh, sd, sp, oc, a1, a2, a3, a4, a5, a6, a7, a8⟩ := u'
    refine ⟨by decide, cf_hitProg h6 ep1 ep2 (by omega) hp2 (fun b7 u' h7 => ?_)⟩
    clear h6
    obtain ⟨ph, wh, sd, sp, oc, a1, a2, a3, a4, a5, a6, a7, a8⟩ := u'
    refine cf_run (m := 7) hn1 hn hE (by omega) (by omega) h7 (by omega) (fun u' h8 => ?_)
    clear h7
    obtain ⟨ph, wh, sd, sp, oc, a1, a2, a3, a4, a5, a6, a7, a8⟩ := u'
    rw [show min (7 * i) (6 * n + 3) + min 7 (6 * n + 3 - min (7 * i) (6 * n + 3)) = min (7 * (i + 1)) (6 * n + 3) by omega] at h8
    have hI := ih (i + 1) _ _ _ _ _ _ _ _ _ _ _ _ _ (by omega) h8
    refine nm_r (e' := nI (min (7 * (i + 1)) (6 * n + 3))) ?_ (br_1 (br_c (fun z => ?_) (fun z => nm_r (nI_1 i) hI)))
    · rw [nI_add]
      congr 1
      omega
    · obtain ⟨q1, q2, q3⟩ := hcl (hbs z)
      have s1 := t1.1 (q1 r hr4)
      have s2 := t2.2 c hc (by omega) s1.2
      have s3 := t3.1 q2
      have s4 := t4.1 q3
      have s5 := t5.2 c hc (by omega) s4.2
      exact br_f s1.1 (br_t s2 (br_f s3.1 (br_f s4.1 (br_t s5 (nm_r (nI_1 i) hI)))))
theorem lq_160 (hn1 : 1 ≤ n) (hn : n ≤ 8) (H : post 1 ()) :
    ∀ k i (ph wh sd sp oc : Int32) (a1 a2 a3 a4 a5 a6 a7 a8 : Nat → Int32) (V : Nat → Nat), i + k = 8 → mk_ok (fun _ => 0) 0 V (fun _ => 0) 0 0 (fun _ => 0) 0 0 (ph, wh, sd, sp, oc, a1, a2, a3, a4, a5, a6, a7, a8) → pg_ok n (ee_f x1) i V →
      wL_lawOf_160 post mc ms x1 x2 x3 (nI n) kc ks (k + 1) 1 (nI i) ph wh sd sp oc a1 a2 a3 a4 a5 a6 a7 a8 := by
  intro k
  induction k with
  | zero =>
    intro i ph wh sd sp oc a1 a2 a3 a4 a5 a6 a7 a8 V hi h hg
    have e : i = 8 := by omega
    subst e
    refine br_t (nI_le (a := 8) (by omega) (by omega)) (nm_r (e' := nI (6 * n + 3)) ?_ ⟨9, ?_⟩)
    · rw [show 6 * nI n = nI (6 * n) from pk_mul 6 n]
      exact nI_add (6 * n) 3
    · have h0 : tn_ok n (ee_f x1) (min (7 * 0) (6 * n + 3)) (ph, wh, sd, sp, oc, a1, a2, a3, a4, a5, a6, a7, a8) := by
        rw [show min (7 * 0) (6 * n + 3) = 0 by omega]
        exact ⟨_, _, _, ⟨_, _, _, _, _, _, h, hg, Or.inl ⟨rfl, rfl, rfl, rfl, rfl⟩⟩, fun _ => ⟨fun _ _ => rfl, rfl, rfl⟩⟩
      have hk := lq_226 (mc := mc) (ms := ms) (kc := kc) (ks := ks) (x2 := x2) (x3 := x3) hn1 hn H 8 0 _ _ _ _ _ _ _ _ _ _ _ _ _ (by omega) h0
      rw [show min (7 * 0) (6 * n + 3) = 0 by omega] at hk
      exact hk
  | succ k ih =>
    intro i ph wh sd sp oc a1 a2 a3 a4 a5 a6 a7 a8 V hi h hg
    refine br_f (nI_ge (b := 8) (by omega) (by omega)) ?_
    rw [ee_eq, nI_1 i]
    refine mk_setData h (by omega) (ee_lt x1 i) (fun u' h' => ?_)
    obtain ⟨ph, wh, sd, sp, oc, a1, a2, a3, a4, a5, a6, a7, a8⟩ := u'
    refine br_1 (br_1 (nm_e (ih (i + 1) _ _ _ _ _ _ _ _ _ _ _ _ _ _ (by omega) h' ⟨?_, fun q hq => ?_⟩)))
    · obtain ⟨g0, g1, g2, g3, g4, g5, g6, g7, g8, g9⟩ := hg.1
      exact ⟨by rw [ud_n (by omega)]; exact g0, by rw [ud_n (by omega)]; exact g1, by rw [ud_n (by omega)]; exact g2, by rw [ud_n (by omega)]; exact g3, by rw [ud_n (by omega)]; exact g4, by rw [ud_n (by omega)]; exact g5, by rw [ud_n (by omega)]; exact g6, by rw [ud_n (by omega)]; exact g7, by rw [ud_n (by omega)]; exact g8, by rw [ud_n (by omega)]; exact g9⟩
    · by_cases e : q = i
      · rw [e, show 33 + i = 32 + (i + 1) by omega, ud_s]
      · rw [ud_n (by omega)]
        exact hg.2 q (by omega)
end
end
section
theorem lq_law {post : Int32 → St0 → Prop} (p0 p1 p2 p3 : Int32) (H : post 1 ()) : wpL_lawOf post 9 150 () p0 p1 p2 p3 := by
  obtain ⟨j, hj, ej⟩ := ra_inc p0 (m := 7) 3 (by decide)
  have hn : ∃ n, n = 1 + j := ⟨_, rfl⟩
  obtain ⟨n, en⟩ := hn
  rw [← en] at ej
  refine ⟨by omega, by omega, 8, 137, by omega, by omega, mk_init (by omega) (by omega) (fun u' h => ?_)⟩
  obtain ⟨ph, wh, sd, sp, oc, a1, a2, a3, a4, a5, a6, a7, a8⟩ := u'
  refine nm_r ej ?_
  refine mk_set h (p := 0) (op := 1) (r := 0) (m := n) (by omega) (by omega) (by omega) (by omega) (ec_tab22 n (by omega)) (fun u' h' => ?_)
  clear h
  obtain ⟨ph, wh, sd, sp, oc, a1, a2, a3, a4, a5, a6, a7, a8⟩ := u'
  have h := h'
  clear h'
  refine br_1 ?_
  refine mk_set h (p := 1) (op := 1) (r := 3) (m := 1) (by omega) (by omega) (by omega) (by omega) (by decide +kernel) (fun u' h' => ?_)
  clear h
  obtain ⟨ph, wh, sd, sp, oc, a1, a2, a3, a4, a5, a6, a7, a8⟩ := u'
  have h := h'
  clear h'
  refine br_1 ?_
  refine mk_set h (p := 2) (op := 12) (r := 1) (m := 0) (by omega) (by omega) (by omega) (by omega) (by decide +kernel) (fun u' h' => ?_)
  clear h
  obtain ⟨ph, wh, sd, sp, oc, a1, a2, a3, a4, a5, a6, a7, a8⟩ := u'
  have h := h'
  clear h'
  refine br_1 ?_
  refine mk_set h (p := 3) (op := 4) (r := 2) (m := 1) (by omega) (by omega) (by omega) (by omega) (by decide +kernel) (fun u' h' => ?_)
  clear h
  obtain ⟨ph, wh, sd, sp, oc, a1, a2, a3, a4, a5, a6, a7, a8⟩ := u'
  have h := h'
  clear h'
  refine br_1 ?_
  refine mk_set h (p := 4) (op := 11) (r := 2) (m := 9) (by omega) (by omega) (by omega) (by omega) (by decide +kernel) (fun u' h' => ?_)
  clear h
  obtain ⟨ph, wh, sd, sp, oc, a1, a2, a3, a4, a5, a6, a7, a8⟩ := u'
  have h := h'
  clear h'
  refine br_1 ?_
  refine mk_set h (p := 5) (op := 5) (r := 0) (m := 3) (by omega) (by omega) (by omega) (by omega) (by decide +kernel) (fun u' h' => ?_)
  clear h
  obtain ⟨ph, wh, sd, sp, oc, a1, a2, a3, a4, a5, a6, a7, a8⟩ := u'
  have h := h'
  clear h'
  refine br_1 ?_
  refine mk_set h (p := 6) (op := 10) (r := 0) (m := 8) (by omega) (by omega) (by omega) (by omega) (by decide +kernel) (fun u' h' => ?_)
  clear h
  obtain ⟨ph, wh, sd, sp, oc, a1, a2, a3, a4, a5, a6, a7, a8⟩ := u'
  have h := h'
  clear h'
  refine br_1 ?_
  refine mk_set h (p := 7) (op := 9) (r := 0) (m := 34) (by omega) (by omega) (by omega) (by omega) (by decide +kernel) (fun u' h' => ?_)
  clear h
  obtain ⟨ph, wh, sd, sp, oc, a1, a2, a3, a4, a5, a6, a7, a8⟩ := u'
  have h := h'
  clear h'
  refine br_1 ?_
  refine mk_set h (p := 8) (op := 3) (r := 2) (m := 31) (by omega) (by omega) (by omega) (by omega) (by decide +kernel) (fun u' h' => ?_)
  clear h
  obtain ⟨ph, wh, sd, sp, oc, a1, a2, a3, a4, a5, a6, a7, a8⟩ := u'
  have h := h'
  clear h'
  refine br_1 ?_
  refine mk_set h (p := 9) (op := 0) (r := 0) (m := 0) (by omega) (by omega) (by omega) (by omega) (by decide +kernel) (fun u' h' => ?_)
  clear h
  obtain ⟨ph, wh, sd, sp, oc, a1, a2, a3, a4, a5, a6, a7, a8⟩ := u'
  have h := h'
  clear h'
  refine br_1 ⟨9, lq_160 (by omega) (by omega) H 8 0 _ _ _ _ _ _ _ _ _ _ _ _ _ _ (by omega) h ⟨⟨rfl, rfl, rfl, rfl, rfl, rfl, rfl, rfl, rfl, rfl⟩, fun k hk => absurd hk (by omega)⟩⟩
theorem lq_cell {post : Int32 → Prop} {L : Nat} {xs : Nat → Int32} {v : St0} (hL : L ≤ 4) (k : Nat) (hk : k < 4) (H : ∀ x, post x) : wpL_cellAt post L xs v (nI k) :=
  pk_le L k (fun _ => H _) (fun z => ⟨pk_in k L z, H _⟩)
theorem i_vc (xs : Nat → Int32) (L : Nat) (hL : L ≤ 4) : wpL_law (fun r => r = 1) L xs :=
  lq_cell hL 0 (by omega) (fun r1 => lq_cell hL 1 (by omega) (fun r2 => lq_cell hL 2 (by omega) (fun r3 => lq_cell hL 3 (by omega) (fun r4 => ⟨9, 150, by omega, by omega, lq_law r1 r2 r3 r4 rfl⟩))))
end
