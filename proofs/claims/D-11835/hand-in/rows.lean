section
/-! bits of Int32 (the family bt of BITS.to-paste, under names of our own) -/
def cb_t (x : Int32) (i : Nat) : Bool := x.toBitVec.getLsbD i
theorem cb_ext {x y : Int32} (h : ∀ i, i < 32 → cb_t x i = cb_t y i) : x = y := Int32.toBitVec_inj.mp (BitVec.eq_of_getLsbD_eq (fun i hi => h i hi))
theorem cb_or (x y : Int32) (i : Nat) : cb_t (x ||| y) i = (cb_t x i || cb_t y i) := by unfold cb_t; rw [Int32.toBitVec_or, BitVec.getLsbD_or]
theorem cb_and (x y : Int32) (i : Nat) : cb_t (x &&& y) i = (cb_t x i && cb_t y i) := by unfold cb_t; rw [Int32.toBitVec_and, BitVec.getLsbD_and]
theorem cb_xor (x y : Int32) (i : Nat) : cb_t (x ^^^ y) i = (cb_t x i ^^ cb_t y i) := by unfold cb_t; rw [Int32.toBitVec_xor, BitVec.getLsbD_xor]
theorem cb_big {x : Int32} {i : Nat} (h : 32 ≤ i) : cb_t x i = false := BitVec.getLsbD_of_ge _ _ h
theorem cb_65535 (i : Nat) : cb_t 65535 i = decide (i < 16) := by
  rcases Nat.lt_or_ge i 32 with h | h
  · exact (by decide +kernel : ∀ i, i < 32 → cb_t 65535 i = decide (i < 16)) i h
  · rw [cb_big h, decide_eq_false (by omega)]
theorem cb_1 (i : Nat) : cb_t 1 i = decide (i = 0) := by
  rcases Nat.lt_or_ge i 32 with h | h
  · exact (by decide +kernel : ∀ i, i < 32 → cb_t 1 i = decide (i = 0)) i h
  · rw [cb_big h, decide_eq_false (by omega)]
theorem cb_0 (i : Nat) : cb_t 0 i = false := BitVec.getLsbD_zero
theorem cb_sl : ∀ n, n < 32 → ((nI n &&& 31).toBitVec.smod 32).toNat = n := by decide +kernel
theorem cb_su : ∀ n, n < 32 → (((nI n).toUInt32 &&& Int32.toUInt32 31).toBitVec % 32).toNat = n := by decide +kernel
theorem cb_shl (n : Nat) (hn : n < 32) (x : Int32) {i : Nat} (hi : i < 32) : cb_t (x <<< (nI n &&& 31)) i = (decide (n ≤ i) && cb_t x (i - n)) := by
  unfold cb_t
  rw [Int32.toBitVec_shiftLeft]
  show (x.toBitVec <<< ((nI n &&& 31).toBitVec.smod 32).toNat).getLsbD i = _
  rw [cb_sl n hn, BitVec.getLsbD_shiftLeft]
  rcases Nat.lt_or_ge i n with h | h
  · simp [h, Nat.not_le.mpr h]
  · simp [hi, h, Nat.not_lt.mpr h]
theorem cb_ushr (n : Nat) (hn : n < 32) (x : Int32) (i : Nat) : cb_t ((x.toUInt32 >>> ((nI n).toUInt32 &&& Int32.toUInt32 31)).toInt32) i = cb_t x (n + i) := by
  show (x.toUInt32 >>> ((nI n).toUInt32 &&& Int32.toUInt32 31)).toBitVec.getLsbD i = x.toUInt32.toBitVec.getLsbD (n + i)
  rw [UInt32.toBitVec_shiftRight]
  show (x.toUInt32.toBitVec >>> (((nI n).toUInt32 &&& Int32.toUInt32 31).toBitVec % 32).toNat).getLsbD i = _
  rw [cb_su n hn, BitVec.getLsbD_ushiftRight]
theorem cb_nxor (a b : Nat) : nI a ^^^ nI b = nI (a ^^^ b) := by
  apply Int32.toBitVec_inj.1
  show BitVec.ofNat 32 a ^^^ BitVec.ofNat 32 b = BitVec.ofNat 32 (a ^^^ b)
  apply BitVec.eq_of_getLsbD_eq
  intro i hi
  simp [hi]
/-- an or of disjoint sets is an exclusive-or -/
theorem cb_orx {x y : Int32} (h : ∀ i, i < 32 → cb_t x i = true → cb_t y i = false) : x ||| y = x ^^^ y := by
  apply cb_ext
  intro i hi
  rw [cb_or, cb_xor]
  cases e : cb_t x i
  · rw [Bool.false_or, Bool.false_xor]
  · rw [h i hi e]; rfl
theorem cb_xx (x y : Int32) : (x ^^^ y) ^^^ y = x := by rw [Int32.xor_assoc, Int32.xor_self, Int32.xor_zero]
theorem cb_xy (x y : Int32) : (x ^^^ y) ^^^ x = y := by rw [Int32.xor_comm x y, cb_xx]
/-- bit i of x, as the program reads it -/
def cf_b (x : Int32) (i : Nat) : Int32 := (x.toUInt32 >>> ((nI i).toUInt32 &&& Int32.toUInt32 31)).toInt32 &&& 1
theorem cf_b_eq (x : Int32) {i : Nat} (hi : i < 32) : cf_b x i = if cb_t x i then 1 else 0 := by
  apply cb_ext
  intro j hj
  unfold cf_b
  rw [cb_and, cb_ushr i hi, cb_1]
  by_cases e : j = 0
  · subst e
    cases h : cb_t x i <;> simp [h, cb_0, cb_1]
  · cases h : cb_t x i <;> simp [e, cb_0, cb_1]
theorem cf_b_t (x : Int32) {i : Nat} (hi : i < 32) (h : cb_t x i = true) : cf_b x i = 1 := by rw [cf_b_eq x hi, h]; rfl
theorem cf_b_f (x : Int32) {i : Nat} (hi : i < 32) (h : cb_t x i = false) : cf_b x i = 0 := by rw [cf_b_eq x hi, h]; rfl
theorem cf_b0 {x : Int32} {i : Nat} (hi : i < 32) (h : cf_b x i = 0) : cb_t x i = false := by
  cases e : cb_t x i
  · rfl
  · rw [cf_b_t x hi e] at h
    exact absurd h (by decide)
theorem cf_b1 {x : Int32} {i : Nat} (hi : i < 32) (h : ¬ cf_b x i = 0) : cb_t x i = true := by
  cases e : cb_t x i
  · exact absurd (cf_b_f x hi e) h
  · rfl
/-- the bit moved to place k: one place alone -/
theorem cf_b_shl (x : Int32) {i k j : Nat} (hi : i < 32) (hk : k < 32) (hj : j < 32) : cb_t (cf_b x i <<< (nI k &&& 31)) j = (decide (j = k) && cb_t x i) := by
  rw [cb_shl k hk _ hj, cf_b_eq x hi]
  cases h : cb_t x i
  · simp [cb_0]
  · by_cases e : j = k
    · subst e
      simp [cb_1]
    · rcases Nat.lt_or_ge j k with z | z
      · simp [e, Nat.not_le.mpr z]
      · have : ¬ j - k = 0 := by omega
        simp [e, cb_1, this]
end
section
/-! the code: ones, syndrome, encode, decode as plain functions, and the walks -/
def cf_cn (x : Int32) : Nat → Nat
  | 0 => 0
  | k + 1 => cf_cn x k + (cb_t x k).toNat
def cf_pa (x : Int32) : Nat → Bool
  | 0 => false
  | k + 1 => cf_pa x k ^^ cb_t x k
def cf_sy (x : Int32) : Nat → Int32
  | 0 => 0
  | k + 1 => cf_sy x k ^^^ (if cb_t x k then nI k else 0)
theorem cf_cn_s (x : Int32) {i : Nat} (hi : i < 32) : nI (cf_cn x i) + cf_b x i = nI (cf_cn x (i + 1)) := by
  show _ = nI (cf_cn x i + (cb_t x i).toNat)
  cases h : cb_t x i
  · rw [cf_b_f x hi h]
    exact nI_add _ 0
  · rw [cf_b_t x hi h]
    exact nI_add _ 1
theorem cf_cn_le (x : Int32) (k : Nat) : cf_cn x k ≤ k := by
  induction k with
  | zero => exact Nat.le_refl 0
  | succ k ih =>
    show cf_cn x k + (cb_t x k).toNat ≤ k + 1
    have := Bool.toNat_le (cb_t x k)
    omega
theorem cf_cn_pa (x : Int32) (k : Nat) : cf_cn x k % 2 = (cf_pa x k).toNat := by
  induction k with
  | zero => rfl
  | succ k ih =>
    show (cf_cn x k + (cb_t x k).toNat) % 2 = (cf_pa x k ^^ cb_t x k).toNat
    revert ih
    cases cf_pa x k <;> cases cb_t x k <;> intro ih <;> simp at ih ⊢ <;> omega
theorem cf_par (x : Int32) : nI (cf_cn x 22) &&& 1 = if cf_pa x 22 then 1 else 0 := by
  have h := cf_cn_le x 22
  rw [pk_andN (by omega) 1 (by decide), show 2 ^ 1 = 2 from rfl, cf_cn_pa]
  cases cf_pa x 22 <;> rfl
theorem cf_ones {post : Int32 → Prop} (x : Int32) (h : post (nI (cf_cn x 22))) : wpX_ones post () x :=
  pk_loop (fun n i s => wX_ones_4 post x n s (nI i)) (fun i s => s = nI (cf_cn x i)) 22 0 0 (by omega) rfl
    (fun n s e => pk_le 22 22 (fun _ => by rw [e]; exact h) (fun z => absurd z (by omega)))
    (fun n i s hi e hw => pk_le 22 i (fun z => absurd z (by omega)) (fun _ => nm_e (nm_r (nI_1 i) (hw _ (by rw [e]; exact cf_cn_s x (by omega))))))
theorem cf_sy_1 (x : Int32) : cf_sy x 1 = 0 := by
  show (0 : Int32) ^^^ (if cb_t x 0 then nI 0 else 0) = 0
  cases cb_t x 0 <;> rfl
theorem cf_sy_f (x : Int32) {i : Nat} (hi : i < 32) (h : cf_b x i = 0) : cf_sy x i ^^^ 0 = cf_sy x (i + 1) := by
  show _ = cf_sy x i ^^^ (if cb_t x i then nI i else 0)
  rw [cf_b0 hi h]
  rfl
theorem cf_sy_t (x : Int32) {i : Nat} (hi : i < 32) (h : ¬ cf_b x i = 0) : cf_sy x i ^^^ nI i = cf_sy x (i + 1) := by
  show _ = cf_sy x i ^^^ (if cb_t x i then nI i else 0)
  rw [cf_b1 hi h]
  rfl
theorem cf_synd {post : Int32 → Prop} (x : Int32) (h : post (cf_sy x 22)) : wpX_syndrome post () x :=
  pk_loop (fun n i s => wX_syndrome_4 post x n s (nI i)) (fun i s => s = cf_sy x i) 22 1 0 (by omega) (cf_sy_1 x).symm
    (fun n s e => pk_le 22 22 (fun _ => by rw [e]; exact h) (fun z => absurd z (by omega)))
    (fun n i s hi e hw => pk_le 22 i (fun z => absurd z (by omega)) (fun _ => br_c (fun hz => nm_e (nm_r (nI_1 i) (hw _ (by rw [e]; exact cf_sy_f x (by omega) hz)))) (fun hz => nm_e (nm_r (nI_1 i) (hw _ (by rw [e]; exact cf_sy_t x (by omega) hz))))))
/-! check places; kk i: how many data places lie below i -/
def cf_ck (i : Nat) : Bool := decide ((nI i &&& (nI i - 1)) = 0)
def cf_kk : Nat → Nat
  | 0 => 0
  | i + 1 => if cf_ck i then cf_kk i else cf_kk i + 1
theorem cf_isCheck {post : Int32 → Prop} (i : Nat) (h1 : cf_ck i = true → post 1) (h0 : cf_ck i = false → post 0) : wpX_isCheck post () (nI i) :=
  br_c (fun z => h1 (decide_eq_true z)) (fun z => h0 (decide_eq_false z))
theorem cf_kk_le (i : Nat) : cf_kk i ≤ i := by
  induction i with
  | zero => exact Nat.le_refl 0
  | succ i ih =>
    show (if cf_ck i then cf_kk i else cf_kk i + 1) ≤ i + 1
    cases cf_ck i <;> simp <;> omega
theorem cf_kk_t {i : Nat} (h : cf_ck i = true) : cf_kk (i + 1) = cf_kk i := by
  show (if cf_ck i then cf_kk i else cf_kk i + 1) = _
  rw [h]; rfl
theorem cf_kk_f {i : Nat} (h : cf_ck i = false) : cf_kk (i + 1) = cf_kk i + 1 := by
  show (if cf_ck i then cf_kk i else cf_kk i + 1) = _
  rw [h]; rfl
theorem cf_kk_1 : cf_kk 1 = 0 := by decide +kernel
theorem cf_kk_22 : cf_kk 22 = 16 := by decide +kernel
/-- the data bits at their places -/
def cf_e0 (v : Int32) : Nat → Int32
  | 0 => 0
  | i + 1 => if cf_ck i then cf_e0 v i else cf_e0 v i ||| (cf_b v (cf_kk i) <<< (nI i &&& 31))
theorem cf_e0_t (v : Int32) {i : Nat} (h : cf_ck i = true) : cf_e0 v (i + 1) = cf_e0 v i := by
  show (if cf_ck i then _ else _) = _
  rw [h]; rfl
theorem cf_e0_f (v : Int32) {i : Nat} (h : cf_ck i = false) : cf_e0 v (i + 1) = cf_e0 v i ||| (cf_b v (cf_kk i) <<< (nI i &&& 31)) := by
  show (if cf_ck i then _ else _) = _
  rw [h]; rfl
theorem cf_e0_1 (v : Int32) : cf_e0 v 1 = 0 := cf_e0_t v (by decide +kernel)
/-- the checks s at their places, over c -/
def cf_e1 (c s : Int32) : Nat → Int32
  | 0 => c
  | b + 1 => cf_e1 c s b ||| (cf_b s b <<< (((1 : Int32) <<< (nI b &&& 31)) &&& 31))
def cf_c1 (v : Int32) : Int32 := cf_e1 (cf_e0 v 22) (cf_sy (cf_e0 v 22) 22) 5
def cf_en (v : Int32) : Int32 := cf_c1 v ||| (nI (cf_cn (cf_c1 v) 22) &&& 1)
theorem cf_enc46 {post : Int32 → Prop} (c s : Int32) (h : post (cf_e1 c s 5 ||| (nI (cf_cn (cf_e1 c s 5) 22) &&& 1))) : ∃ n, wX_encode_46 post s n c 0 :=
  pk_loop (fun n i x => wX_encode_46 post s n x (nI i)) (fun i x => x = cf_e1 c s i) 5 0 c (by omega) rfl
    (fun n x e => pk_le 5 5 (fun _ => cf_ones x (by rw [e]; exact h)) (fun z => absurd z (by omega)))
    (fun n i x hi e hw => pk_le 5 i (fun z => absurd z (by omega)) (fun _ => nm_e (nm_r (nI_1 i) (hw _ (by rw [e]; rfl)))))
theorem cf_enco {post : Int32 → Prop} (v : Int32) (h : post (cf_en v)) : wpX_encode post () v :=
  pk_loop (fun n i (s : Int32 × Int32) => wX_encode_6 post v n s.1 s.2 (nI i)) (fun i s => s.1 = cf_e0 v i ∧ s.2 = nI (cf_kk i)) 22 1 (0, 0) (by omega)
    ⟨(cf_e0_1 v).symm, by rw [cf_kk_1]; rfl⟩
    (fun n s e => pk_le 22 22 (fun _ => cf_synd s.1 (cf_enc46 s.1 _ (by rw [e.1]; exact h))) (fun z => absurd z (by omega)))
    (fun n i s hi e hw => pk_le 22 i (fun z => absurd z (by omega)) (fun _ => cf_isCheck i
      (fun hc => br_f (by decide) (nm_r (nI_1 i) (hw (s.1, s.2) ⟨by rw [cf_e0_t v hc]; exact e.1, by rw [cf_kk_t hc]; exact e.2⟩)))
      (fun hc => br_t rfl (nm_e (nm_e (nm_r (nI_1 i) (hw (_, _) ⟨by dsimp only; rw [cf_e0_f v hc, e.1, e.2]; rfl, by dsimp only; rw [cf_kk_f hc, e.2]; exact nI_1 _⟩)))))))
/-- the data bits read back -/
def cf_ex (x : Int32) : Nat → Int32
  | 0 => 0
  | i + 1 => if cf_ck i then cf_ex x i else cf_ex x i ||| (cf_b x i <<< (nI (cf_kk i) &&& 31))
theorem cf_ex_t (x : Int32) {i : Nat} (h : cf_ck i = true) : cf_ex x (i + 1) = cf_ex x i := by
  show (if cf_ck i then _ else _) = _
  rw [h]; rfl
theorem cf_ex_f (x : Int32) {i : Nat} (h : cf_ck i = false) : cf_ex x (i + 1) = cf_ex x i ||| (cf_b x i <<< (nI (cf_kk i) &&& 31)) := by
  show (if cf_ck i then _ else _) = _
  rw [h]; rfl
theorem cf_ex_1 (x : Int32) : cf_ex x 1 = 0 := cf_ex_t x (by decide +kernel)
theorem cf_dec54 {post : Int32 → Prop} (x : Int32) (h : post (cf_ex x 22)) : ∃ n, wX_decode_54 post x n 0 0 1 :=
  pk_loop (fun n i (s : Int32 × Int32) => wX_decode_54 post x n s.1 s.2 (nI i)) (fun i s => s.1 = cf_ex x i ∧ s.2 = nI (cf_kk i)) 22 1 (0, 0) (by omega)
    ⟨(cf_ex_1 x).symm, by rw [cf_kk_1]; rfl⟩
    (fun n s e => pk_le 22 22 (fun _ => by rw [e.1]; exact h) (fun z => absurd z (by omega)))
    (fun n i s hi e hw => pk_le 22 i (fun z => absurd z (by omega)) (fun _ => cf_isCheck i
      (fun hc => br_f (by decide) (nm_r (nI_1 i) (hw (s.1, s.2) ⟨by rw [cf_ex_t x hc]; exact e.1, by rw [cf_kk_t hc]; exact e.2⟩)))
      (fun hc => br_t rfl (nm_e (nm_e (nm_r (nI_1 i) (hw (_, _) ⟨by dsimp only; rw [cf_ex_f x hc, e.1, e.2]; rfl, by dsimp only; rw [cf_kk_f hc, e.2]; exact nI_1 _⟩)))))))
def cf_de (x : Int32) : Int32 :=
  if cf_pa x 22 then cf_ex (x ^^^ ((1 : Int32) <<< (cf_sy x 22 &&& 31))) 22 else if cf_sy x 22 = 0 then cf_ex x 22 else -3
theorem cf_deco {post : Int32 → Prop} (x : Int32) (h : post (cf_de x)) : wpX_decode post () x := by
  unfold wpX_decode
  refine cf_synd x (cf_ones x ?_)
  rw [cf_par]
  unfold cf_de at h
  cases hp : cf_pa x 22
  · rw [hp] at h
    refine br_t rfl ?_
    unfold wX_decode_19
    refine br_t rfl ?_
    refine br_c (fun z => ?_) (fun z => ?_)
    · unfold wX_decode_31
      refine br_t rfl (cf_dec54 x ?_)
      rw [if_neg (by decide), if_pos z] at h
      exact h
    · rw [if_neg (by decide), if_neg z] at h
      exact h
  · rw [hp] at h
    refine br_f (by decide) ?_
    unfold wX_decode_19
    refine br_f (by decide) ?_
    unfold wX_decode_31
    refine br_f (by decide) (nm_e (cf_dec54 _ ?_))
    rw [if_pos rfl] at h
    exact h
/-! exclusive-or goes through -/
theorem cf_pa_x (x y : Int32) (k : Nat) : cf_pa (x ^^^ y) k = (cf_pa x k ^^ cf_pa y k) := by
  induction k with
  | zero => rfl
  | succ k ih =>
    show (cf_pa (x ^^^ y) k ^^ cb_t (x ^^^ y) k) = ((cf_pa x k ^^ cb_t x k) ^^ (cf_pa y k ^^ cb_t y k))
    rw [ih, cb_xor]
    cases cf_pa x k <;> cases cf_pa y k <;> cases cb_t x k <;> cases cb_t y k <;> rfl
theorem cf_sy_x (x y : Int32) (k : Nat) : cf_sy (x ^^^ y) k = cf_sy x k ^^^ cf_sy y k := by
  induction k with
  | zero => exact (Int32.xor_self (a := 0)).symm
  | succ k ih =>
    show cf_sy (x ^^^ y) k ^^^ (if cb_t (x ^^^ y) k then nI k else 0) = (cf_sy x k ^^^ (if cb_t x k then nI k else 0)) ^^^ (cf_sy y k ^^^ (if cb_t y k then nI k else 0))
    rw [ih, cb_xor]
    generalize cf_sy x k = X
    generalize cf_sy y k = Y
    generalize nI k = N
    cases cb_t x k <;> cases cb_t y k <;> (apply cb_ext; intro i hi; simp [cb_xor, cb_0]) <;> (cases cb_t X i <;> cases cb_t Y i <;> cases cb_t N i <;> rfl)
theorem cf_sy_lt (x : Int32) (k : Nat) (hk : k ≤ 32) : ∃ m, m < 32 ∧ cf_sy x k = nI m := by
  induction k with
  | zero => exact ⟨0, by omega, rfl⟩
  | succ k ih =>
    obtain ⟨m, hm, e⟩ := ih (by omega)
    cases h : cb_t x k
    · refine ⟨m, hm, ?_⟩
      show cf_sy x k ^^^ (if cb_t x k then nI k else 0) = nI m
      rw [h, e]
      exact Int32.xor_zero
    · refine ⟨m ^^^ k, Nat.xor_lt_two_pow (n := 5) hm (by omega), ?_⟩
      show cf_sy x k ^^^ (if cb_t x k then nI k else 0) = nI (m ^^^ k)
      rw [h, e]
      exact cb_nxor m k
/-! what is encoded -/
theorem cf_e0_b (v : Int32) (i : Nat) (hi : i ≤ 22) {j : Nat} (hj : j < 32) : cb_t (cf_e0 v i) j = (decide (j < i) && (!cf_ck j && cb_t v (cf_kk j))) := by
  induction i with
  | zero =>
    show cb_t 0 j = _
    rw [cb_0, decide_eq_false (by omega)]
    rfl
  | succ i ih =>
    have ih := ih (by omega)
    have hk := cf_kk_le i
    cases hc : cf_ck i
    · rw [cf_e0_f v hc, cb_or, ih, cf_b_shl v (by omega) (by omega) hj]
      by_cases e : j = i
      · subst e
        simp [hc]
      · have : decide (j < i + 1) = decide (j < i) := by
          by_cases z : j < i
          · rw [decide_eq_true z, decide_eq_true (by omega)]
          · rw [decide_eq_false z, decide_eq_false (by omega)]
        rw [this, decide_eq_false e, Bool.false_and, Bool.or_false]
    · rw [cf_e0_t v hc, ih]
      by_cases e : j = i
      · subst e
        simp [hc]
      · have : decide (j < i + 1) = decide (j < i) := by
          by_cases z : j < i
          · rw [decide_eq_true z, decide_eq_true (by omega)]
          · rw [decide_eq_false z, decide_eq_false (by omega)]
        rw [this]
/-- the checks alone -/
def cf_k (m : Nat) : Int32 := cf_e1 0 (nI m) 5
theorem cf_e1_k (c s : Int32) (b : Nat) : cf_e1 c s b = c ||| cf_e1 0 s b := by
  induction b with
  | zero => exact (Int32.or_zero).symm
  | succ b ih =>
    show cf_e1 c s b ||| _ = c ||| (cf_e1 0 s b ||| _)
    rw [ih, Int32.or_assoc]
theorem cf_k_b : ∀ m, m < 32 → ∀ j, j < 32 → cb_t (cf_k m) j = true → cf_ck j = true ∧ ¬ j = 0 := by decide +kernel
theorem cf_k_s : ∀ m, m < 32 → cf_sy (cf_k m) 22 = nI m := by decide +kernel
theorem cf_ck_0 : cf_ck 0 = true := by decide +kernel
theorem cf_c1_eq (v : Int32) : ∃ m, m < 32 ∧ cf_sy (cf_e0 v 22) 22 = nI m ∧ cf_c1 v = cf_e0 v 22 ^^^ cf_k m := by
  obtain ⟨m, hm, e⟩ := cf_sy_lt (cf_e0 v 22) 22 (by omega)
  refine ⟨m, hm, e, ?_⟩
  unfold cf_c1
  rw [cf_e1_k, e]
  refine cb_orx (fun i hi h => ?_)
  rw [cf_e0_b v 22 (by omega) hi] at h
  cases z : cb_t (cf_e1 0 (nI m) 5) i
  · rfl
  · rw [(cf_k_b m hm i hi z).1] at h
    simp at h
theorem cf_c1_s (v : Int32) : cf_sy (cf_c1 v) 22 = 0 := by
  obtain ⟨m, hm, e, h⟩ := cf_c1_eq v
  rw [h, cf_sy_x, e, cf_k_s m hm, Int32.xor_self]
theorem cf_c1_0 (v : Int32) : cb_t (cf_c1 v) 0 = false := by
  obtain ⟨m, hm, e, h⟩ := cf_c1_eq v
  rw [h, cb_xor, cf_e0_b v 22 (by omega) (by omega), cf_ck_0]
  cases z : cb_t (cf_k m) 0
  · simp
  · exact absurd rfl (cf_k_b m hm 0 (by omega) z).2
theorem cf_en_eq (v : Int32) : cf_en v = cf_c1 v ^^^ (if cf_pa (cf_c1 v) 22 then 1 else 0) := by
  unfold cf_en
  rw [cf_par]
  refine cb_orx (fun i hi h => ?_)
  cases cf_pa (cf_c1 v) 22
  · exact cb_0 i
  · show cb_t 1 i = false
    rw [cb_1]
    by_cases z : i = 0
    · rw [z, cf_c1_0] at h
      exact absurd h (by decide)
    · exact decide_eq_false z
theorem cf_en_s (v : Int32) : cf_sy (cf_en v) 22 = 0 := by
  rw [cf_en_eq, cf_sy_x, cf_c1_s]
  cases cf_pa (cf_c1 v) 22
  · decide +kernel
  · decide +kernel
theorem cf_en_p (v : Int32) : cf_pa (cf_en v) 22 = false := by
  rw [cf_en_eq, cf_pa_x]
  cases cf_pa (cf_c1 v) 22
  · decide +kernel
  · decide +kernel
theorem cf_en_b (v : Int32) {i : Nat} (hi : i < 22) (hc : cf_ck i = false) : cb_t (cf_en v) i = cb_t v (cf_kk i) := by
  have h0 : ¬ i = 0 := fun z => by rw [z, cf_ck_0] at hc; exact absurd hc (by decide)
  obtain ⟨m, hm, e, h⟩ := cf_c1_eq v
  have h1 : cb_t (cf_k m) i = false := by
    cases z : cb_t (cf_k m) i
    · rfl
    · rw [(cf_k_b m hm i (by omega) z).1] at hc
      exact absurd hc (by decide)
  have h2 : cb_t (if cf_pa (cf_c1 v) 22 then 1 else 0) i = false := by
    cases cf_pa (cf_c1 v) 22
    · exact cb_0 i
    · show cb_t 1 i = false
      rw [cb_1, decide_eq_false h0]
  rw [cf_en_eq, cb_xor, h2, h, cb_xor, h1, cf_e0_b v 22 (by omega) (by omega), hc, decide_eq_true hi]
  simp
theorem cf_ex_b (x v : Int32) (hx : ∀ i, i < 22 → cf_ck i = false → cb_t x i = cb_t v (cf_kk i)) (i : Nat) (hi : i ≤ 22) {j : Nat} (hj : j < 32) : cb_t (cf_ex x i) j = (decide (j < cf_kk i) && cb_t v j) := by
  induction i with
  | zero =>
    show cb_t 0 j = (decide (j < 0) && _)
    rw [cb_0, decide_eq_false (by omega)]
    rfl
  | succ i ih =>
    have ih := ih (by omega)
    have hk := cf_kk_le i
    cases hc : cf_ck i
    · rw [cf_ex_f x hc, cb_or, ih, cf_b_shl x (by omega) (by omega) hj, cf_kk_f hc, hx i (by omega) hc]
      by_cases e : j = cf_kk i
      · subst e
        simp
      · have : decide (j < cf_kk i + 1) = decide (j < cf_kk i) := by
          by_cases z : j < cf_kk i
          · rw [decide_eq_true z, decide_eq_true (by omega)]
          · rw [decide_eq_false z, decide_eq_false (by omega)]
        rw [this, decide_eq_false e, Bool.false_and, Bool.or_false]
    · rw [cf_ex_t x hc, ih, cf_kk_t hc]
theorem cf_ex_en (w : Int32) : cf_ex (cf_en (w &&& 65535)) 22 = w &&& 65535 := by
  apply cb_ext
  intro j hj
  rw [cf_ex_b _ (w &&& 65535) (fun i hi hc => cf_en_b _ hi hc) 22 (by omega) hj, cf_kk_22, cb_and, cb_65535]
  cases decide (j < 16) <;> simp
/-! the turned bits -/
def cf_p (p : Nat) : Int32 := (1 : Int32) <<< (nI p &&& 31)
theorem cf_p_s : ∀ p, p < 22 → cf_sy (cf_p p) 22 = nI p := by decide +kernel
theorem cf_p_p : ∀ p, p < 22 → cf_pa (cf_p p) 22 = true := by decide +kernel
theorem cf_p_c : ∀ p, p < 22 → cf_cn (cf_p p) 22 = 1 := by decide +kernel
theorem cf_pq_s : ∀ p, p < 22 → ∀ q, q < 22 → p ≠ q → ¬ cf_sy (cf_p p ^^^ cf_p q) 22 = 0 := by decide +kernel
theorem cf_pq_c : ∀ p, p < 22 → ∀ q, q < 22 → p ≠ q → cf_cn (cf_p p ^^^ cf_p q) 22 = 2 := by decide +kernel
theorem cf_d0 (w : Int32) : cf_de (cf_en (w &&& 65535) ^^^ 0) = w &&& 65535 := by
  unfold cf_de
  rw [Int32.xor_zero, cf_en_p, if_neg (by decide), cf_en_s, if_pos rfl, cf_ex_en]
theorem cf_d1 (w : Int32) {p : Nat} (hp : p < 22) : cf_de (cf_en (w &&& 65535) ^^^ cf_p p) = w &&& 65535 := by
  unfold cf_de
  rw [cf_pa_x, cf_en_p, cf_p_p p hp, if_pos (by decide), cf_sy_x, cf_en_s, cf_p_s p hp, Int32.zero_xor]
  show cf_ex ((cf_en (w &&& 65535) ^^^ cf_p p) ^^^ cf_p p) 22 = _
  rw [cb_xx, cf_ex_en]
theorem cf_d2 (w : Int32) {p q : Nat} (hp : p < 22) (hq : q < 22) (h : p ≠ q) : cf_de (cf_en (w &&& 65535) ^^^ (cf_p p ^^^ cf_p q)) = -3 := by
  unfold cf_de
  rw [cf_pa_x, cf_pa_x, cf_en_p, cf_p_p p hp, cf_p_p q hq, if_neg (by decide), cf_sy_x, cf_en_s, Int32.zero_xor, if_neg (cf_pq_s p hp q hq h)]
end
section
/-! the flash: what holds of a state between calls, and what a page written, a block erased, a new current block keep -/
/-- block b holds k written pages, its first k -/
def fl_bl (a1 : Nat → Int32) (b k : Nat) : Prop := ∀ j, j < 4 → (a1 (4 * b + j) ≠ 0 ↔ j < k)
/-- sector x has no page, or g is its newest one and holds what K, W, T say -/
def fl_N (a1 a2 : Nat → Int32) (a3 : Nat → Int64) (a4 a5 a6 K W T : Nat → Int32) (x : Nat) : Prop :=
  (K x = 0 ∧ a6 x = -1 ∧ ∀ p, p < 32 → a1 p ≠ 0 → (a2 p).toNatClampNeg ≠ x) ∨
  (∃ g, g < 32 ∧ a6 x = nI g ∧ a1 g ≠ 0 ∧ (a2 g).toNatClampNeg = x ∧ K x = a1 g ∧ W x = a4 g ∧ T x = a5 g ∧
    ∀ p, p < 32 → a1 p ≠ 0 → (a2 p).toNatClampNeg = x → p ≠ g → (a3 p).toInt < (a3 g).toInt)
def fl_J (c f : Nat) (ns : Int64) (a1 a2 : Nat → Int32) (a3 : Nat → Int64) (a4 a5 a6 K W T : Nat → Int32) : Prop :=
  c < 8 ∧ f ≤ 4 ∧ 1 ≤ ns.toInt ∧ fl_bl a1 c f ∧ (∀ b, b < 8 → b ≠ c → fl_bl a1 b 0 ∨ fl_bl a1 b 4) ∧
  (∀ p, p < 32 → a1 p ≠ 0 → vp_in (a2 p) 16 ∧ (a3 p).toInt < ns.toInt) ∧
  (∀ x, x < 16 → fl_N a1 a2 a3 a4 a5 a6 K W T x)
/-- a block other than the current one is free -/
def fl_F (c : Nat) (a1 : Nat → Int32) : Prop := ∃ b, b < 8 ∧ b ≠ c ∧ a1 (4 * b) = 0
theorem fl_n1 {ns : Int64} (h0 : 0 ≤ ns.toInt) (h : ns.toInt < 2 ^ 62) : (ns + 1).toInt = ns.toInt + 1 := by
  have hn : ¬ ns < 0 := by
    rw [Int64.lt_iff_toInt_lt]
    have : (0 : Int64).toInt = 0 := by decide
    omega
  obtain ⟨k, hk, rfl⟩ := pk_lOf hn
  rw [pk_lT hk] at h ⊢
  rw [lN_1, pk_lT (by omega)]
  omega
theorem fl_upd_same (f : Nat → Int32) (k : Nat) {x : Int32} (h : f k = x) : upd f k x = f := by
  funext j
  by_cases e : j = k
  · rw [e, pk_us, h]
  · rw [pk_un e]
theorem fl_e4 (b : Nat) : (4 : Int32) * nI b = nI (4 * b) := pk_mul 4 b
theorem fl_e44 (b : Nat) : (4 : Int32) * nI b + 4 = nI (4 * b + 4) := by rw [fl_e4]; exact nI_add _ 4
theorem fl_e43 (b : Nat) : (4 : Int32) * nI b + 3 = nI (4 * b + 3) := by rw [fl_e4]; exact nI_add _ 3
theorem fl_c4 {b : Nat} (h : b < 8) : ((4 : Int32) * nI b).toNatClampNeg = 4 * b := by rw [fl_e4]; exact nI_clamp (by omega)
theorem fl_c43 {b : Nat} (h : b < 8) : ((4 : Int32) * nI b + 3).toNatClampNeg = 4 * b + 3 := by rw [fl_e43]; exact nI_clamp (by omega)
theorem fl_in {x : Int32} (h : vp_in x 16) : x.toNatClampNeg < 16 ∧ x = nI x.toNatClampNeg := by
  obtain ⟨j, hj, rfl⟩ := vp_in_of h (by omega)
  rw [nI_clamp (by omega)]
  exact ⟨hj, rfl⟩
theorem fl_bl_at {a1 : Nat → Int32} {b k : Nat} (h : fl_bl a1 b k) (hk : 0 < k) : a1 (4 * b) ≠ 0 := (h 0 (by omega)).mpr hk
theorem fl_bl_z {a1 : Nat → Int32} {b k : Nat} (h : fl_bl a1 b k) (hz : a1 (4 * b) = 0) : k = 0 := by
  rcases Nat.eq_zero_or_pos k with e | e
  · exact e
  · exact absurd hz (fl_bl_at h e)
section
variable {c f : Nat} {ns : Int64} {a1 a2 : Nat → Int32} {a3 : Nat → Int64} {a4 a5 a6 K W T : Nat → Int32}
/-- a live page is its owner's newest one -/
theorem fl_live (hJ : fl_J c f ns a1 a2 a3 a4 a5 a6 K W T) {p : Nat} (hp : p < 32) (h1 : a1 p ≠ 0) (h6 : a6 (a2 p).toNatClampNeg = nI p) :
    K (a2 p).toNatClampNeg = a1 p ∧ W (a2 p).toNatClampNeg = a4 p ∧ T (a2 p).toNatClampNeg = a5 p := by
  obtain ⟨_, _, _, _, _, hpg, hN⟩ := hJ
  have hx := (fl_in (hpg p hp h1).1).1
  rcases hN _ hx with ⟨_, _, hn⟩ | ⟨g, hg, h6', _, _, hK, hW, hT, _⟩
  · exact absurd rfl (hn p hp h1)
  · rw [h6'] at h6
    have e : g = p := (nI_eq (by omega) (by omega)).mp h6
    subst e
    exact ⟨hK, hW, hT⟩
theorem fl_put (hJ : fl_J c f ns a1 a2 a3 a4 a5 a6 K W T) {x : Nat} {kd w t : Int32} (hf : f < 4) (hx : x < 16) (hk : kd ≠ 0) (hn : ns.toInt < 2 ^ 62) :
    fl_J c (f + 1) (ns + 1) (upd a1 (4 * c + f) kd) (upd a2 (4 * c + f) (nI x)) (vp_updL a3 (4 * c + f) ns) (upd a4 (4 * c + f) w) (upd a5 (4 * c + f) t) (upd a6 x (nI (4 * c + f))) (upd K x kd) (upd W x w) (upd T x t) := by
  obtain ⟨hc, hf4, h1, hb, ho, hpg, hN⟩ := hJ
  have hP0 : a1 (4 * c + f) = 0 := by
    apply Classical.byContradiction
    intro z
    exact absurd ((hb f hf).mp z) (by omega)
  have hns : (ns + 1).toInt = ns.toInt + 1 := fl_n1 (by omega) hn
  have hxx : (nI x).toNatClampNeg = x := nI_clamp (by omega)
  refine ⟨hc, by omega, by omega, fun j hj => ?_, fun b hb8 hbc => ?_, fun p hp h => ?_, fun y hy => ?_⟩
  · by_cases e : j = f
    · subst e
      rw [pk_us]
      exact ⟨fun _ => by omega, fun _ => hk⟩
    · rw [pk_un (by omega)]
      have := hb j hj
      exact ⟨fun z => by have := this.mp z; omega, fun z => this.mpr (by omega)⟩
  · have hu : ∀ j, j < 4 → upd a1 (4 * c + f) kd (4 * b + j) = a1 (4 * b + j) := fun j hj => pk_un (by omega)
    rcases ho b hb8 hbc with h | h
    · exact Or.inl (fun j hj => by rw [hu j hj]; exact h j hj)
    · exact Or.inr (fun j hj => by rw [hu j hj]; exact h j hj)
  · by_cases e : p = 4 * c + f
    · subst e
      rw [pk_us, pk_uLs]
      exact ⟨vp_in_nI hx (by omega), by omega⟩
    · rw [pk_un e] at h
      rw [pk_un e, pk_uLn e]
      have := hpg p hp h
      exact ⟨this.1, by have := this.2; omega⟩
  · by_cases e : y = x
    · subst e
      refine Or.inr ⟨4 * c + f, by omega, pk_us, by rw [pk_us]; exact hk, by rw [pk_us]; exact hxx, by rw [pk_us, pk_us], by rw [pk_us, pk_us], by rw [pk_us, pk_us], fun p hp h h2 hne => ?_⟩
      rw [pk_un hne] at h
      rw [pk_uLn hne, pk_uLs]
      exact (hpg p hp h).2
    · rcases hN y hy with ⟨hK, h6, hno⟩ | ⟨g, hg, h6, hg1, hg2, hK, hW, hT, hmx⟩
      · refine Or.inl ⟨by rw [pk_un e]; exact hK, by rw [pk_un e]; exact h6, fun p hp h => ?_⟩
        by_cases ep : p = 4 * c + f
        · subst ep
          rw [pk_us, hxx]
          exact fun z => e z.symm
        · rw [pk_un ep] at h
          rw [pk_un ep]
          exact hno p hp h
      · have hgP : g ≠ 4 * c + f := fun z => hg1 (by rw [z]; exact hP0)
        refine Or.inr ⟨g, hg, by rw [pk_un e]; exact h6, by rw [pk_un hgP]; exact hg1, by rw [pk_un hgP]; exact hg2, by rw [pk_un e, pk_un hgP]; exact hK, by rw [pk_un e, pk_un hgP]; exact hW, by rw [pk_un e, pk_un hgP]; exact hT, fun p hp h h2 hne => ?_⟩
        by_cases ep : p = 4 * c + f
        · subst ep
          rw [pk_us, hxx] at h2
          exact absurd h2.symm e
        · rw [pk_un ep] at h h2
          rw [pk_uLn ep, pk_uLn hgP]
          exact hmx p hp h h2 hne
/-- the kinds with the pages of block b below i erased -/
def fl_er (a1 : Nat → Int32) (b i : Nat) : Nat → Int32 := fun p => if 4 * b ≤ p ∧ p < i then 0 else a1 p
theorem fl_er_0 (a1 : Nat → Int32) (b : Nat) : fl_er a1 b (4 * b) = a1 := by
  funext p
  exact if_neg (by omega)
theorem fl_er_s (a1 : Nat → Int32) (b k : Nat) : upd (fl_er a1 b (4 * b + k)) (4 * b + k) 0 = fl_er a1 b (4 * b + (k + 1)) := by
  funext p
  by_cases e : p = 4 * b + k
  · rw [e, pk_us]
    exact (if_pos (by omega)).symm
  · rw [pk_un e]
    show (if 4 * b ≤ p ∧ p < 4 * b + k then 0 else a1 p) = (if 4 * b ≤ p ∧ p < 4 * b + (k + 1) then 0 else a1 p)
    by_cases z : 4 * b ≤ p ∧ p < 4 * b + k
    · rw [if_pos z, if_pos (by omega)]
    · rw [if_neg z, if_neg (by omega)]
theorem fl_er_in {a1 : Nat → Int32} {b p : Nat} (h1 : 4 * b ≤ p) (h2 : p < 4 * b + 4) : fl_er a1 b (4 * b + 4) p = 0 := if_pos ⟨h1, h2⟩
theorem fl_er_out {a1 : Nat → Int32} {b p : Nat} (h : ¬ (4 * b ≤ p ∧ p < 4 * b + 4)) : fl_er a1 b (4 * b + 4) p = a1 p := if_neg h
theorem fl_er_ne {a1 : Nat → Int32} {b p : Nat} (h : fl_er a1 b (4 * b + 4) p ≠ 0) : ¬ (4 * b ≤ p ∧ p < 4 * b + 4) ∧ a1 p ≠ 0 := by
  by_cases z : 4 * b ≤ p ∧ p < 4 * b + 4
  · exact absurd (fl_er_in z.1 z.2) h
  · exact ⟨z, fun q => h (by rw [fl_er_out z]; exact q)⟩
theorem fl_erase (hJ : fl_J c f ns a1 a2 a3 a4 a5 a6 K W T) {b : Nat} (hbc : b ≠ c)
    (hl : ∀ p, 4 * b ≤ p → p < 4 * b + 4 → a1 p ≠ 0 → a6 (a2 p).toNatClampNeg ≠ nI p) :
    fl_J c f ns (fl_er a1 b (4 * b + 4)) a2 a3 a4 a5 a6 K W T := by
  obtain ⟨hc, hf4, h1, hb, ho, hpg, hN⟩ := hJ
  refine ⟨hc, hf4, h1, fun j hj => ?_, fun b' hb8 hb'c => ?_, fun p hp h => ?_, fun y hy => ?_⟩
  · rw [fl_er_out (by omega)]
    exact hb j hj
  · by_cases e : b' = b
    · subst e
      refine Or.inl (fun j hj => ?_)
      rw [fl_er_in (by omega) (by omega)]
      exact ⟨fun z => absurd rfl z, fun z => absurd z (by omega)⟩
    · have hu : ∀ j, j < 4 → fl_er a1 b (4 * b + 4) (4 * b' + j) = a1 (4 * b' + j) := fun j hj => fl_er_out (by omega)
      rcases ho b' hb8 hb'c with h | h
      · exact Or.inl (fun j hj => by rw [hu j hj]; exact h j hj)
      · exact Or.inr (fun j hj => by rw [hu j hj]; exact h j hj)
  · exact hpg p hp (fl_er_ne h).2
  · rcases hN y hy with ⟨hK, h6, hno⟩ | ⟨g, hg, h6, hg1, hg2, hK, hW, hT, hmx⟩
    · exact Or.inl ⟨hK, h6, fun p hp h => hno p hp (fl_er_ne h).2⟩
    · have hgo : ¬ (4 * b ≤ g ∧ g < 4 * b + 4) := fun z => hl g z.1 z.2 hg1 (by rw [hg2]; exact h6)
      exact Or.inr ⟨g, hg, h6, by rw [fl_er_out hgo]; exact hg1, hg2, by rw [fl_er_out hgo]; exact hK, hW, hT, fun p hp h h2 hne => hmx p hp (fl_er_ne h).2 h2 hne⟩
/-- a free block becomes current when the current one is full -/
theorem fl_next (hJ : fl_J c 4 ns a1 a2 a3 a4 a5 a6 K W T) {b : Nat} (hb8 : b < 8) (hbc : b ≠ c) (hz : a1 (4 * b) = 0) :
    fl_J b 0 ns a1 a2 a3 a4 a5 a6 K W T := by
  obtain ⟨hc, hf4, h1, hb, ho, hpg, hN⟩ := hJ
  refine ⟨hb8, by omega, h1, ?_, fun b' hb'8 hb'b => ?_, hpg, hN⟩
  · rcases ho b hb8 hbc with h | h
    · exact h
    · exact absurd (fl_bl_z h hz) (by omega)
  · by_cases e : b' = c
    · subst e
      exact Or.inr hb
    · exact ho b' hb'8 e
/-- another array of newest pages, the same below 16; another next number -/
theorem fl_cong (hJ : fl_J c f ns a1 a2 a3 a4 a5 a6 K W T) {c' f' : Nat} {ns' : Int64} {b6 : Nat → Int32} (hc : c' < 8) (hf : f' ≤ 4) (h1 : 1 ≤ ns'.toInt)
    (hb : fl_bl a1 c' f') (ho : ∀ b, b < 8 → b ≠ c' → fl_bl a1 b 0 ∨ fl_bl a1 b 4) (hs : ∀ p, p < 32 → a1 p ≠ 0 → (a3 p).toInt < ns'.toInt)
    (h6 : ∀ x, x < 16 → b6 x = a6 x) : fl_J c' f' ns' a1 a2 a3 a4 a5 b6 K W T := by
  obtain ⟨_, _, _, _, _, hpg, hN⟩ := hJ
  refine ⟨hc, hf, h1, hb, ho, fun p hp h => ⟨(hpg p hp h).1, hs p hp h⟩, fun x hx => ?_⟩
  rcases hN x hx with ⟨hK, h6', hno⟩ | ⟨g, hg, h6', hg'⟩
  · exact Or.inl ⟨hK, by rw [h6 x hx]; exact h6', hno⟩
  · exact Or.inr ⟨g, hg, by rw [h6 x hx]; exact h6', hg'⟩
/-- bits of a sector's newest page turned -/
theorem fl_turn (hJ : fl_J c f ns a1 a2 a3 a4 a5 a6 K W T) {x g : Nat} {v : Int32} (hx : x < 16) (hg : g < 32) (h6 : a6 x = nI g) :
    fl_J c f ns a1 a2 a3 a4 (upd a5 g v) a6 K W (upd T x v) := by
  obtain ⟨hc, hf4, h1, hb, ho, hpg, hN⟩ := hJ
  have hgx : ∀ h, h < 32 → ∀ y, y < 16 → a6 y = nI h → (h = g ↔ y = x) → (upd T x v y = upd a5 g v h ↔ y = x ∨ T y = a5 h) := by
    intro h hh y hy _ hi
    by_cases e : y = x
    · rw [e, hi.mpr e, pk_us, pk_us]
      exact ⟨fun _ => Or.inl rfl, fun _ => rfl⟩
    · rw [pk_un e, pk_un (fun z => e (hi.mp z))]
      exact ⟨fun z => Or.inr z, fun z => z.resolve_left e⟩
  have hxg : (a2 g).toNatClampNeg = x := by
    rcases hN x hx with ⟨_, h6', _⟩ | ⟨g', hg', h6', _, h2, _⟩
    · rw [h6'] at h6
      have := congrArg Int32.toInt h6
      rw [nI_toInt (by omega)] at this
      have : (-1 : Int) = (g : Int) := this
      omega
    · rw [h6'] at h6
      have e : g' = g := (nI_eq (by omega) (by omega)).mp h6
      rw [← e]
      exact h2
  refine ⟨hc, hf4, h1, hb, ho, hpg, fun y hy => ?_⟩
  rcases hN y hy with ⟨hK, h6', hno⟩ | ⟨g', hg', h6', h1', h2, hK, hW, hT, hm⟩
  · exact Or.inl ⟨hK, h6', hno⟩
  · refine Or.inr ⟨g', hg', h6', h1', h2, hK, hW, ?_, hm⟩
    refine (hgx g' hg' y hy h6' ⟨fun z => by rw [← h2, z]; exact hxg, fun z => ?_⟩).mpr (Or.inr hT)
    rw [z] at h6'
    rw [h6'] at h6
    exact (nI_eq (by omega) (by omega)).mp h6
end
/-! live pages counted -/
def fl_lv (a1 a2 a6 : Nat → Int32) (p : Nat) : Nat := if a1 p ≠ 0 ∧ a6 (a2 p).toNatClampNeg = nI p then 1 else 0
def fl_lc (a1 a2 a6 : Nat → Int32) (p : Nat) : Nat → Nat
  | 0 => 0
  | k + 1 => fl_lc a1 a2 a6 p k + fl_lv a1 a2 a6 (p + k)
theorem fl_lv_1 {a1 a2 a6 : Nat → Int32} {p : Nat} (h : a1 p ≠ 0) (h6 : a6 (a2 p).toNatClampNeg = nI p) : fl_lv a1 a2 a6 p = 1 := if_pos ⟨h, h6⟩
theorem fl_lv_z {a1 a2 a6 : Nat → Int32} {p : Nat} (h : a1 p = 0) : fl_lv a1 a2 a6 p = 0 := if_neg (fun z => z.1 h)
theorem fl_lv_o {a1 a2 a6 : Nat → Int32} {p : Nat} (h : ¬ a6 (a2 p).toNatClampNeg = nI p) : fl_lv a1 a2 a6 p = 0 := if_neg (fun z => h z.2)
theorem fl_lv_c (a1 a2 a6 : Nat → Int32) (p : Nat) : fl_lv a1 a2 a6 p = 0 ∨ (fl_lv a1 a2 a6 p = 1 ∧ a1 p ≠ 0 ∧ a6 (a2 p).toNatClampNeg = nI p) := by
  by_cases h : a1 p ≠ 0 ∧ a6 (a2 p).toNatClampNeg = nI p
  · exact Or.inr ⟨if_pos h, h⟩
  · exact Or.inl (if_neg h)
theorem fl_lc_4 (a1 a2 a6 : Nat → Int32) (p : Nat) : fl_lc a1 a2 a6 p 4 = fl_lv a1 a2 a6 p + fl_lv a1 a2 a6 (p + 1) + fl_lv a1 a2 a6 (p + 2) + fl_lv a1 a2 a6 (p + 3) := by
  show 0 + fl_lv a1 a2 a6 (p + 0) + fl_lv a1 a2 a6 (p + 1) + fl_lv a1 a2 a6 (p + 2) + fl_lv a1 a2 a6 (p + 3) = _
  rw [Nat.zero_add, Nat.add_zero]
theorem fl_lc_le (a1 a2 a6 : Nat → Int32) (p : Nat) : fl_lc a1 a2 a6 p 4 ≤ 4 := by
  rw [fl_lc_4]
  have h0 := fl_lv_c a1 a2 a6 p
  have h1 := fl_lv_c a1 a2 a6 (p + 1)
  have h2 := fl_lv_c a1 a2 a6 (p + 2)
  have h3 := fl_lv_c a1 a2 a6 (p + 3)
  rcases h0 with h0 | ⟨h0, _⟩ <;> rcases h1 with h1 | ⟨h1, _⟩ <;> rcases h2 with h2 | ⟨h2, _⟩ <;> rcases h3 with h3 | ⟨h3, _⟩ <;> omega
/-- the first page taken off -/
theorem fl_lc_s (a1 a2 a6 : Nat → Int32) (p m : Nat) : fl_lc a1 a2 a6 p (m + 1) = fl_lv a1 a2 a6 p + fl_lc a1 a2 a6 (p + 1) m := by
  induction m with
  | zero =>
    show 0 + fl_lv a1 a2 a6 (p + 0) = fl_lv a1 a2 a6 p + 0
    rw [Nat.add_zero, Nat.zero_add, Nat.add_zero]
  | succ m ih =>
    show fl_lc a1 a2 a6 p (m + 1) + fl_lv a1 a2 a6 (p + (m + 1)) = fl_lv a1 a2 a6 p + (fl_lc a1 a2 a6 (p + 1) m + fl_lv a1 a2 a6 (p + 1 + m))
    rw [ih, show p + (m + 1) = p + 1 + m by omega]
    omega
theorem fl_lc_mono {a1 a2 a6 b1 b2 b6 : Nat → Int32} {p : Nat} (m : Nat) (h : ∀ q, p ≤ q → q < p + m → fl_lv b1 b2 b6 q ≤ fl_lv a1 a2 a6 q) : fl_lc b1 b2 b6 p m ≤ fl_lc a1 a2 a6 p m := by
  induction m with
  | zero => exact Nat.le_refl 0
  | succ m ih =>
    have h1 := ih (fun q h1 h2 => h q h1 (by omega))
    have h2 := h (p + m) (by omega) (by omega)
    show fl_lc b1 b2 b6 p m + fl_lv b1 b2 b6 (p + m) ≤ fl_lc a1 a2 a6 p m + fl_lv a1 a2 a6 (p + m)
    omega
/-- two sectors written: at most two live pages -/
theorem fl_two {c f : Nat} {ns : Int64} {a1 a2 : Nat → Int32} {a3 : Nat → Int64} {a4 a5 a6 K W T : Nat → Int32} (hJ : fl_J c f ns a1 a2 a3 a4 a5 a6 K W T) {s t b : Nat}
    (h0 : ∀ x, x < 16 → x ≠ s → x ≠ t → K x = 0) (hb : b < 8) : fl_lc a1 a2 a6 (4 * b) 4 ≤ 2 := by
  have key : ∀ p, p < 32 → fl_lv a1 a2 a6 p = 0 ∨ (fl_lv a1 a2 a6 p = 1 ∧ (p = (a6 s).toNatClampNeg ∨ p = (a6 t).toNatClampNeg)) := by
    intro p hp
    rcases fl_lv_c a1 a2 a6 p with h | ⟨h, h1, h6⟩
    · exact Or.inl h
    · refine Or.inr ⟨h, ?_⟩
      have hK := (fl_live hJ hp h1 h6).1
      have hx := (fl_in (hJ.2.2.2.2.2.1 p hp h1).1).1
      by_cases e : (a2 p).toNatClampNeg = s
      · left
        rw [← e, h6, nI_clamp (by omega)]
      · by_cases e' : (a2 p).toNatClampNeg = t
        · right
          rw [← e', h6, nI_clamp (by omega)]
        · rw [h0 _ hx e e'] at hK
          exact absurd hK.symm h1
  rw [fl_lc_4]
  have k0 := key (4 * b) (by omega)
  have k1 := key (4 * b + 1) (by omega)
  have k2 := key (4 * b + 2) (by omega)
  have k3 := key (4 * b + 3) (by omega)
  generalize (a6 s).toNatClampNeg = gs at *
  generalize (a6 t).toNatClampNeg = gt at *
  generalize fl_lv a1 a2 a6 (4 * b) = v0 at *
  generalize fl_lv a1 a2 a6 (4 * b + 1) = v1 at *
  generalize fl_lv a1 a2 a6 (4 * b + 2) = v2 at *
  generalize fl_lv a1 a2 a6 (4 * b + 3) = v3 at *
  clear key h0 hJ
  omega
end
section
/-! the walks: put, freeBlock, livePages, leastLive, gather, program -/
section
variable {c f : Nat} {ns : Int64} {a1 a2 : Nat → Int32} {a3 : Nat → Int64} {a4 a5 a6 K W T : Nat → Int32}
theorem fl_wput {post : St2 → Prop} {x : Nat} {kd w t : Int32} (hc : c < 8) (hf : f < 4) (hx : x < 16)
    (h : post (nI c, nI (f + 1), ns + 1, upd a1 (4 * c + f) kd, upd a2 (4 * c + f) (nI x), vp_updL a3 (4 * c + f) ns, upd a4 (4 * c + f) w, upd a5 (4 * c + f) t, upd a6 x (nI (4 * c + f)))) :
    wpX_put post (nI c, nI f, ns, a1, a2, a3, a4, a5, a6) (nI x) kd w t := by
  have e : (4 : Int32) * nI c + nI f = nI (4 * c + f) := by rw [fl_e4, nI_add]
  have ec : (nI (4 * c + f)).toNatClampNeg = 4 * c + f := nI_clamp (by omega)
  have ex : (nI x).toNatClampNeg = x := nI_clamp (by omega)
  have hin : vp_in (nI (4 * c + f)) 32 := vp_in_nI (by omega) (by omega)
  have hix : vp_in (nI x) 16 := vp_in_nI (by omega) (by omega)
  unfold wpX_put
  refine nm_r e ?_
  rw [ec, ex, nI_1 f]
  exact ⟨hin, nm_e ⟨hin, nm_e ⟨hin, nm_e ⟨hin, nm_e ⟨hin, nm_e (nm_e (nm_e ⟨hix, nm_e h⟩))⟩⟩⟩⟩⟩
theorem fl_wfree {post : Int32 → Prop} {fi : Int32} (hc : c < 8) (h1 : ∀ b, b < 8 → b ≠ c → a1 (4 * b) = 0 → post (nI b)) (h0 : (∀ b, b < 8 → b ≠ c → a1 (4 * b) ≠ 0) → post (-1)) :
    wpX_freeBlock post (nI c, fi, ns, a1, a2, a3, a4, a5, a6) :=
  pk_loop (σ := Unit) (fun n i _ => wX_freeBlock_2 post (nI c) fi ns a1 a2 a3 a4 a5 a6 n (nI i)) (fun i _ => ∀ b, b < i → b ≠ c → a1 (4 * b) ≠ 0) 8 0 () (by omega) (fun b hb => absurd hb (by omega))
    (fun n _ hI => pk_le 8 8 (fun _ => h0 hI) (fun z => absurd z (by omega)))
    (fun n i _ hi hI hw => pk_le 8 i (fun z => absurd z (by omega)) (fun _ => pk_eq i c
      (fun e => nm_r (nI_1 i) (hw () (fun b hb hbc => hI b (by omega) hbc)))
      (fun ne => ⟨pk_in (4 * i) 32 (by omega) (fl_e4 i), br_c (fun z => h1 i hi ne (by rw [fl_c4 hi] at z; exact z))
        (fun z => nm_r (nI_1 i) (hw () (fun b hb hbc => by
          by_cases e : b = i
          · rw [fl_c4 hi] at z
            rw [e]
            exact z
          · exact hI b (by omega) hbc)))⟩)))
theorem fl_wlive {post : Int32 → Prop} {cu fi : Int32} {b : Nat} (hb : b < 8) (hpg : ∀ p, p < 32 → a1 p ≠ 0 → vp_in (a2 p) 16)
    (h : post (nI (fl_lc a1 a2 a6 (4 * b) 4))) : wpX_livePages post (cu, fi, ns, a1, a2, a3, a4, a5, a6) (nI b) := by
  have key : ∀ (m k : Nat), k + m = 4 → wX_livePages_6 post (nI b) cu fi ns a1 a2 a3 a4 a5 a6 (m + 1) (nI (fl_lc a1 a2 a6 (4 * b) k)) (nI (4 * b + k)) := by
    intro m
    induction m with
    | zero =>
      intro k hk
      have e : k = 4 := by omega
      subst e
      exact pk_le (4 * b + 4) (4 * b + 4) (fun _ => h) (fun z => absurd z (by omega)) (fl_e44 b)
    | succ m ih =>
      intro k hk
      have hn := ih (k + 1) (by omega)
      have ec : (nI (4 * b + k)).toNatClampNeg = 4 * b + k := nI_clamp (by omega)
      have hs : ∀ v, fl_lv a1 a2 a6 (4 * b + k) = v → nI (fl_lc a1 a2 a6 (4 * b) k) + nI v = nI (fl_lc a1 a2 a6 (4 * b) (k + 1)) := by
        intro v hv
        rw [nI_add, ← hv]
        rfl
      refine pk_le (4 * b + 4) (4 * b + k) (fun z => absurd z (by omega)) (fun _ => ⟨pk_in (4 * b + k) 32 (by omega), ?_⟩) (fl_e44 b)
      rw [ec]
      refine br_c (fun z => nm_r (hs 0 (fl_lv_z z)) (nm_r (nI_1 _) hn)) (fun z => ⟨pk_in (4 * b + k) 32 (by omega), hpg _ (by omega) z, ?_⟩)
      exact br_c (fun g => nm_r (hs 1 (fl_lv_1 z g)) (nm_r (nI_1 _) hn)) (fun g => nm_r (hs 0 (fl_lv_o g)) (nm_r (nI_1 _) hn))
  unfold wpX_livePages
  exact nm_r (fl_e4 b) ⟨5, key 4 0 rfl⟩
theorem fl_wleast {post : Int32 → Prop} {fi : Int32} (hc : c < 8) (hpg : ∀ p, p < 32 → a1 p ≠ 0 → vp_in (a2 p) 16)
    (h1 : ∀ b, b < 8 → b ≠ c → a1 (4 * b) ≠ 0 → post (nI b)) (h0 : (∀ b, b < 8 → b ≠ c → a1 (4 * b) = 0) → post (-1)) :
    wpX_leastLive post (nI c, fi, ns, a1, a2, a3, a4, a5, a6) := by
  refine pk_loop (fun n i s => wX_leastLive_4 post (nI c) fi ns a1 a2 a3 a4 a5 a6 n s (nI i))
    (fun i s => (s = -1 ∧ ∀ b, b < i → b ≠ c → a1 (4 * b) = 0) ∨ (∃ b, b < 8 ∧ b ≠ c ∧ a1 (4 * b) ≠ 0 ∧ s = nI b)) 8 0 (-1) (by omega) (Or.inl ⟨rfl, fun b hb => absurd hb (by omega)⟩) ?_ ?_
  · intro n s hI
    refine pk_le 8 8 (fun _ => ?_) (fun z => absurd z (by omega))
    rcases hI with ⟨rfl, h⟩ | ⟨b, hb, hbc, hz, rfl⟩
    · exact h0 h
    · exact h1 b hb hbc hz
  · intro n i s hi hI hw
    refine pk_le 8 i (fun z => absurd z (by omega)) (fun _ => pk_eq i c (fun e => nm_r (nI_1 i) (hw _ ?_)) (fun ne => ⟨pk_in (4 * i) 32 (by omega) (fl_e4 i), ?_⟩))
    · rcases hI with ⟨rfl, h⟩ | h
      · exact Or.inl ⟨rfl, fun b hb hbc => h b (by omega) hbc⟩
      · exact Or.inr h
    · rw [fl_c4 hi]
      refine br_c (fun z => nm_r (nI_1 i) (hw _ ?_)) (fun z => fl_wlive hi hpg ?_)
      · rcases hI with ⟨rfl, h⟩ | h
        · refine Or.inl ⟨rfl, fun b hb hbc => ?_⟩
          by_cases e : b = i
          · rw [e]
            exact z
          · exact h b (by omega) hbc
        · exact Or.inr h
      · rcases hI with ⟨rfl, h⟩ | ⟨b, hb, hbc, hz, rfl⟩
        · exact br_t (by decide) (nm_r (nI_1 i) (hw _ (Or.inr ⟨i, hi, ne, z, rfl⟩)))
        · refine br_f (nI_pos (by omega)) (fl_wlive hb hpg (br_c (fun _ => nm_r (nI_1 i) (hw _ (Or.inr ⟨b, hb, hbc, hz, rfl⟩))) (fun _ => nm_r (nI_1 i) (hw _ (Or.inr ⟨i, hi, ne, z, rfl⟩)))))
/-- the second loop of gather -/
theorem fl_wg88 {post : St2 → Prop} {cu fi : Int32} {b : Nat} (hb : b < 8) (h : post (cu, fi, ns, fl_er a1 b (4 * b + 4), a2, a3, a4, a5, a6)) :
    ∃ n, wX_gather_88 post (nI b) cu fi ns n (nI (4 * b)) a1 a2 a3 a4 a5 a6 := by
  have key : ∀ (m k : Nat), k + m = 4 → wX_gather_88 post (nI b) cu fi ns (m + 1) (nI (4 * b + k)) (fl_er a1 b (4 * b + k)) a2 a3 a4 a5 a6 := by
    intro m
    induction m with
    | zero =>
      intro k hk
      have e : k = 4 := by omega
      subst e
      exact pk_le (4 * b + 4) (4 * b + 4) (fun _ => h) (fun z => absurd z (by omega)) (fl_e44 b)
    | succ m ih =>
      intro k hk
      have hn := ih (k + 1) (by omega)
      have ec : (nI (4 * b + k)).toNatClampNeg = 4 * b + k := nI_clamp (by omega)
      refine pk_le (4 * b + 4) (4 * b + k) (fun z => absurd z (by omega)) (fun _ => ⟨pk_in (4 * b + k) 32 (by omega), ?_⟩) (fl_e44 b)
      rw [ec, fl_er_s]
      exact nm_e (nm_r (nI_1 _) hn)
  have this : wX_gather_88 post (nI b) cu fi ns 5 (nI (4 * b)) (fl_er a1 b (4 * b)) a2 a3 a4 a5 a6 := key 4 0 rfl
  rw [fl_er_0] at this
  exact ⟨5, this⟩
end
/-- gather: every live page of block b is copied, the block is erased -/
theorem fl_wgather {post : St2 → Prop} {c b F0 : Nat} {N0 : Int} {K W T : Nat → Int32} (hb : b < 8) (hbc : b ≠ c) (hF : F0 ≤ 4) (hN : N0 + 4 < 2 ^ 62)
    (H : ∀ (f : Nat) (ns : Int64) (a1 a2 : Nat → Int32) (a3 : Nat → Int64) (a4 a5 a6 : Nat → Int32), fl_J c f ns a1 a2 a3 a4 a5 a6 K W T → f ≤ F0 → ns.toInt ≤ N0 + 4 → a1 (4 * b) = 0 →
      post (nI c, nI f, ns, a1, a2, a3, a4, a5, a6))
    {f : Nat} {ns : Int64} {a1 a2 : Nat → Int32} {a3 : Nat → Int64} {a4 a5 a6 : Nat → Int32} (hJ : fl_J c f ns a1 a2 a3 a4 a5 a6 K W T) (hns : ns.toInt ≤ N0)
    (hl : f + fl_lc a1 a2 a6 (4 * b) 4 ≤ F0) : wpX_gather post (nI c, nI f, ns, a1, a2, a3, a4, a5, a6) (nI b) := by
  have key : ∀ (m k : Nat), k + m = 4 → ∀ (f : Nat) (ns : Int64) (a1 a2 : Nat → Int32) (a3 : Nat → Int64) (a4 a5 a6 : Nat → Int32), fl_J c f ns a1 a2 a3 a4 a5 a6 K W T → ns.toInt ≤ N0 + (k : Int) →
      f + fl_lc a1 a2 a6 (4 * b + k) m ≤ F0 → (∀ p, 4 * b ≤ p → p < 4 * b + k → a1 p ≠ 0 → a6 (a2 p).toNatClampNeg ≠ nI p) →
      wX_gather_9 post (nI b) (m + 1) (nI (4 * b + k)) (nI c) (nI f) ns a1 a2 a3 a4 a5 a6 := by
    intro m
    induction m with
    | zero =>
      intro k hk f ns a1 a2 a3 a4 a5 a6 hJ hns hl hd
      have e : k = 4 := by omega
      subst e
      refine pk_le (4 * b + 4) (4 * b + 4) (fun _ => nm_r (fl_e4 b) (fl_wg88 hb ?_)) (fun z => absurd z (by omega)) (fl_e44 b)
      refine H f ns _ a2 a3 a4 a5 a6 (fl_erase hJ hbc hd) ?_ hns (fl_er_in (by omega) (by omega))
      have : f + 0 ≤ F0 := hl
      omega
    | succ m ih =>
      intro k hk f ns a1 a2 a3 a4 a5 a6 hJ hns hl hd
      have ec : (nI (4 * b + k)).toNatClampNeg = 4 * b + k := nI_clamp (by omega)
      rw [fl_lc_s] at hl
      have hpg := hJ.2.2.2.2.2.1
      have hc : c < 8 := hJ.1
      have hskip : (a1 (4 * b + k) ≠ 0 → ¬ a6 (a2 (4 * b + k)).toNatClampNeg = nI (4 * b + k)) → wX_gather_9 post (nI b) (m + 1) (nI (4 * b + k + 1)) (nI c) (nI f) ns a1 a2 a3 a4 a5 a6 := by
        intro hno
        refine ih (k + 1) (by omega) f ns a1 a2 a3 a4 a5 a6 hJ (by omega) (by rw [← Nat.add_assoc]; omega) (fun p h1 h2 h3 => ?_)
        by_cases e : p = 4 * b + k
        · subst e
          exact hno h3
        · exact hd p h1 (by omega) h3
      refine pk_le (4 * b + 4) (4 * b + k) (fun z => absurd z (by omega)) (fun _ => ⟨pk_in (4 * b + k) 32 (by omega), ?_⟩) (fl_e44 b)
      rw [ec]
      refine br_c (fun z => nm_r (nI_1 _) (hskip (fun h => absurd z h))) (fun z => ⟨pk_in (4 * b + k) 32 (by omega), (hpg _ (by omega) z).1, br_c (fun g => ?_) (fun g => nm_r (nI_1 _) (hskip (fun _ => g)))⟩)
      have hlv := fl_lv_1 z g
      rw [hlv] at hl
      have hf : f < 4 := by omega
      have hx := fl_in (hpg _ (by omega) z).1
      have hlive := fl_live hJ (by omega) z g
      refine pk_le 4 f (fun z => absurd z (by omega)) (fun _ => ⟨pk_in (4 * b + k) 32 (by omega), pk_in (4 * b + k) 32 (by omega), pk_in (4 * b + k) 32 (by omega), pk_in (4 * b + k) 32 (by omega), ?_⟩)
      rw [hx.2]
      refine fl_wput hc hf hx.1 (nm_r (nI_1 _) ?_)
      have hJ' := fl_put hJ (x := (a2 (4 * b + k)).toNatClampNeg) (kd := a1 (4 * b + k)) (w := a4 (4 * b + k)) (t := a5 (4 * b + k)) hf hx.1 z (by omega)
      rw [fl_upd_same K _ hlive.1, fl_upd_same W _ hlive.2.1, fl_upd_same T _ hlive.2.2] at hJ'
      have hn1 : (ns + 1).toInt = ns.toInt + 1 := fl_n1 (by have := hJ.2.2.1; omega) (by omega)
      have hlo : ∀ q, 4 * b ≤ q → q < 4 * b + 4 → fl_lv (upd a1 (4 * c + f) (a1 (4 * b + k))) (upd a2 (4 * c + f) (nI (a2 (4 * b + k)).toNatClampNeg)) (upd a6 (a2 (4 * b + k)).toNatClampNeg (nI (4 * c + f))) q ≤ fl_lv a1 a2 a6 q := by
        intro q q1 q2
        have hq : q ≠ 4 * c + f := by omega
        rcases fl_lv_c (upd a1 (4 * c + f) (a1 (4 * b + k))) (upd a2 (4 * c + f) (nI (a2 (4 * b + k)).toNatClampNeg)) (upd a6 (a2 (4 * b + k)).toNatClampNeg (nI (4 * c + f))) q with h | ⟨h, h1, h6⟩
        · omega
        · rw [pk_un hq] at h1 h6
          by_cases e : (a2 q).toNatClampNeg = (a2 (4 * b + k)).toNatClampNeg
          · rw [e, pk_us] at h6
            exact absurd ((nI_eq (by omega) (by omega)).mp h6).symm hq
          · rw [pk_un e] at h6
            rw [h, fl_lv_1 h1 h6]
            exact Nat.le_refl 1
      refine ih (k + 1) (by omega) (f + 1) (ns + 1) _ _ _ _ _ _ hJ' (by omega) ?_ (fun p h1 h2 h3 h6 => ?_)
      · have := fl_lc_mono (p := 4 * b + (k + 1)) m (fun q q1 q2 => hlo q (by omega) (by omega))
        rw [show 4 * b + k + 1 = 4 * b + (k + 1) by omega] at hl
        omega
      · have hq : p ≠ 4 * c + f := by omega
        rw [pk_un hq] at h3 h6
        by_cases e : (a2 p).toNatClampNeg = (a2 (4 * b + k)).toNatClampNeg
        · rw [e, pk_us] at h6
          exact absurd ((nI_eq (by omega) (by omega)).mp h6).symm hq
        · rw [pk_un e] at h6
          by_cases e' : p = 4 * b + k
          · rw [e'] at e
            exact e rfl
          · exact hd p h1 (by omega) h3 h6
  unfold wpX_gather
  refine br_t (nI_pos' (by omega)) (nm_r (fl_e4 b) ⟨5, ?_⟩)
  exact key 4 0 rfl f ns a1 a2 a3 a4 a5 a6 hJ (by omega) hl (fun p h1 h2 => absurd h2 (by omega))
/-- program: the page is written, a free block is left -/
theorem fl_wprog {post : St2 → Prop} {c f s t x : Nat} {ns : Int64} {a1 a2 : Nat → Int32} {a3 : Nat → Int64} {a4 a5 a6 K W T : Nat → Int32} {kd w v : Int32} {N0 : Int}
    (hJ : fl_J c f ns a1 a2 a3 a4 a5 a6 K W T) (hF : fl_F c a1) (h2 : ∀ x, x < 16 → x ≠ s → x ≠ t → K x = 0) (hx : x < 16) (hk : kd ≠ 0) (hns : ns.toInt ≤ N0) (hN : N0 + 5 < 2 ^ 62)
    (H : ∀ (c f : Nat) (ns : Int64) (a1 a2 : Nat → Int32) (a3 : Nat → Int64) (a4 a5 a6 : Nat → Int32), fl_J c f ns a1 a2 a3 a4 a5 a6 (upd K x kd) (upd W x w) (upd T x v) → fl_F c a1 → ns.toInt ≤ N0 + 5 →
      post (nI c, nI f, ns, a1, a2, a3, a4, a5, a6)) : wpX_program post (nI c, nI f, ns, a1, a2, a3, a4, a5, a6) (nI x) kd w v := by
  have hput : ∀ (c f : Nat) (ns : Int64) (a1 a2 : Nat → Int32) (a3 : Nat → Int64) (a4 a5 a6 : Nat → Int32), fl_J c f ns a1 a2 a3 a4 a5 a6 K W T → fl_F c a1 → f < 4 → ns.toInt ≤ N0 + 4 →
      wX_program_40 post (nI x) kd w v (nI c) (nI f) ns a1 a2 a3 a4 a5 a6 := by
    intro c f ns a1 a2 a3 a4 a5 a6 hJ hF hf hns
    unfold wX_program_40
    have hn1 : (ns + 1).toInt = ns.toInt + 1 := fl_n1 (by have := hJ.2.2.1; omega) (by omega)
    refine fl_wput hJ.1 hf hx (H _ _ _ _ _ _ _ _ _ (fl_put hJ hf hx hk (by omega)) ?_ (by omega))
    obtain ⟨b, hb, hbc, hz⟩ := hF
    exact ⟨b, hb, hbc, by rw [pk_un (by omega)]; exact hz⟩
  have hf4 := hJ.2.1
  unfold wpX_program
  refine pk_eq f 4 (fun e => ?_) (fun e => hput c f ns a1 a2 a3 a4 a5 a6 hJ hF (by omega) (by omega))
  subst e
  refine fl_wfree hJ.1 (fun b hb hbc hz => ?_) (fun hno => ?_)
  · have hJb := fl_next hJ hb hbc hz
    refine fl_wfree hb (fun b' hb' hbb hz' => br_t (nI_pos' (by omega)) (hput b 0 ns a1 a2 a3 a4 a5 a6 hJb ⟨b', hb', hbb, hz'⟩ (by omega) (by omega))) (fun hno => br_f (by decide) ?_)
    refine fl_wleast hb (fun p hp h => (hJb.2.2.2.2.2.1 p hp h).1) (fun d hd hdb hdz => ?_) (fun hall => ?_)
    · refine fl_wgather (f := 0) (F0 := 2) (N0 := N0) hd hdb (by omega) (by omega) (fun f' ns' b1 b2 b3 b4 b5 b6 hJ' hf' hns' hz' => ?_) hJb hns ?_
      · exact hput b f' ns' b1 b2 b3 b4 b5 b6 hJ' ⟨d, hd, hdb, hz'⟩ (by omega) hns'
      · have := fl_two hJb h2 hd
        omega
    · exact absurd (hall c hJ.1 (fun z => hbc z.symm)) (hno c hJ.1 (fun z => hbc z.symm))
  · obtain ⟨b, hb, hbc, hz⟩ := hF
    exact absurd hz (hno b hb hbc)
end
section
/-! findCurrent, power, init -/
section
variable {ns : Int64} {a1 a2 : Nat → Int32} {a3 : Nat → Int64} {a4 a5 a6 : Nat → Int32}
/-- the pages of block c counted: k of them -/
theorem fl_wf97 {post : St2 → Prop} {c k : Nat} (hc : c < 8) (hk : k ≤ 4) (hb : fl_bl a1 c k) (h : post (nI c, nI k, ns, a1, a2, a3, a4, a5, a6)) :
    ∃ n, wX_findCurrent_97 post (nI c) ns a1 a2 a3 a4 a5 a6 n (nI (4 * c)) 0 := by
  have key : ∀ (m j : Nat), j + m = 4 → wX_findCurrent_97 post (nI c) ns a1 a2 a3 a4 a5 a6 (m + 1) (nI (4 * c + j)) (nI (min k j)) := by
    intro m
    induction m with
    | zero =>
      intro j hj
      have e : j = 4 := by omega
      subst e
      rw [show min k 4 = k by omega]
      exact pk_le (4 * c + 4) (4 * c + 4) (fun _ => h) (fun z => absurd z (by omega)) (fl_e44 c)
    | succ m ih =>
      intro j hj
      have hn := ih (j + 1) (by omega)
      have ec : (nI (4 * c + j)).toNatClampNeg = 4 * c + j := nI_clamp (by omega)
      have hbj := hb j (by omega)
      refine pk_le (4 * c + 4) (4 * c + j) (fun z => absurd z (by omega)) (fun _ => ⟨pk_in (4 * c + j) 32 (by omega), ?_⟩) (fl_e44 c)
      rw [ec]
      refine br_c (fun z => nm_r ?_ (nm_r (nI_1 _) hn)) (fun z => nm_r ?_ (nm_r (nI_1 _) hn))
      · have : ¬ j < k := fun q => absurd z (hbj.mpr q)
        rw [show min k (j + 1) = min k j + 0 by omega]
        exact nI_add _ 0
      · have : j < k := hbj.mp z
        rw [show min k (j + 1) = min k j + 1 by omega]
        exact nI_add _ 1
  have := key 4 0 rfl
  rw [show min k 0 = 0 by omega] at this
  exact ⟨5, this⟩
theorem fl_wfind {post : St2 → Prop} {cu fi : Int32} {c f : Nat} (hc : c < 8) (hf : f ≤ 4) (hb : fl_bl a1 c f) (ho : ∀ b, b < 8 → b ≠ c → fl_bl a1 b 0 ∨ fl_bl a1 b 4)
    (hF : fl_F c a1)
    (H : ∀ c' f', c' < 8 → f' ≤ 4 → fl_bl a1 c' f' → (∀ b, b < 8 → b ≠ c' → fl_bl a1 b 0 ∨ fl_bl a1 b 4) → fl_F c' a1 → post (nI c', nI f', ns, a1, a2, a3, a4, a5, a6)) :
    wpX_findCurrent post (cu, fi, ns, a1, a2, a3, a4, a5, a6) := by
  -- only the current block may be written in part
  have hpart : ∀ b, b < 8 → a1 (4 * b) ≠ 0 → a1 (4 * b + 3) = 0 → b = c := by
    intro b hb8 h1 h2
    apply Classical.byContradiction
    intro hne
    rcases ho b hb8 hne with h | h
    · exact absurd ((h 0 (by omega)).mp h1) (by omega)
    · exact absurd h2 ((h 3 (by omega)).mpr (by omega))
  have h97 : ∀ d, d < 8 → (a1 (4 * d) ≠ 0 ∨ ∀ b, b < 8 → a1 (4 * b) = 0) → (∀ b, b < 8 → a1 (4 * b) ≠ 0 → a1 (4 * b + 3) = 0 → b = d) →
      ∃ n, wX_findCurrent_97 post (nI d) ns a1 a2 a3 a4 a5 a6 n (nI (4 * d)) 0 := by
    intro d hd hz hp
    have hfree : fl_F d a1 := by
      rcases hz with hz | hz
      · obtain ⟨b, hb8, _, hbz⟩ := hF
        exact ⟨b, hb8, fun e => hz (by rw [← e]; exact hbz), hbz⟩
      · by_cases e : d = 0
        · exact ⟨1, by omega, by omega, hz 1 (by omega)⟩
        · exact ⟨0, by omega, fun q => e q.symm, hz 0 (by omega)⟩
    have hoth : ∀ b, b < 8 → b ≠ d → fl_bl a1 b 0 ∨ fl_bl a1 b 4 := by
      intro b hb8 hbd
      by_cases e : b = c
      · subst e
        rcases Nat.eq_zero_or_pos f with e0 | e0
        · rw [e0] at hb
          exact Or.inl hb
        · rcases Nat.lt_or_ge f 4 with e4 | e4
          · refine absurd (hp b hb8 (fl_bl_at hb e0) ?_) hbd
            apply Classical.byContradiction
            intro q
            exact absurd ((hb 3 (by omega)).mp q) (by omega)
          · rw [show f = 4 by omega] at hb
            exact Or.inr hb
      · exact ho b hb8 e
    by_cases e : d = c
    · subst e
      exact fl_wf97 hd hf hb (H d f hd hf hb hoth hfree)
    · rcases ho d hd e with h | h
      · exact fl_wf97 hd (by omega) h (H d 0 hd (by omega) h hoth hfree)
      · exact fl_wf97 hd (by omega) h (H d 4 hd (by omega) h hoth hfree)
  have h49 : ∀ d, d < 8 → (a1 (4 * d) ≠ 0 ∨ ∀ b, b < 8 → a1 (4 * b) = 0) → ∃ n, wX_findCurrent_49 post 0 ns a1 a2 a3 a4 a5 a6 n 0 (nI d) := by
    intro d hd hz
    refine pk_loop (fun n i s => wX_findCurrent_49 post 0 ns a1 a2 a3 a4 a5 a6 n (nI i) s)
      (fun i s => ∃ d, d < 8 ∧ s = nI d ∧ (a1 (4 * d) ≠ 0 ∨ ∀ b, b < 8 → a1 (4 * b) = 0) ∧ ∀ b, b < i → a1 (4 * b) ≠ 0 → a1 (4 * b + 3) = 0 → b = d) 8 0 (nI d) (by omega)
      ⟨d, hd, rfl, hz, fun b hb => absurd hb (by omega)⟩ ?_ ?_
    · rintro n s ⟨d, hd, rfl, hz, hp⟩
      exact pk_le 8 8 (fun _ => nm_r (fl_e4 d) (h97 d hd hz hp)) (fun z => absurd z (by omega))
    · rintro n i s hi ⟨d, hd, rfl, hz, hp⟩ hw
      refine pk_le 8 i (fun z => absurd z (by omega)) (fun _ => ⟨pk_in (4 * i) 32 (by omega) (fl_e4 i), ?_⟩)
      rw [fl_c4 hi]
      refine br_c (fun z => nm_r (nI_1 i) (hw _ ⟨d, hd, rfl, hz, fun b hb h1 h2 => ?_⟩)) (fun z => ⟨pk_in (4 * i + 3) 32 (by omega) (fl_e43 i), ?_⟩)
      · by_cases e : b = i
        · subst e
          exact absurd z h1
        · exact hp b (by omega) h1 h2
      · rw [fl_c43 hi]
        refine br_c (fun g => nm_r (nI_1 i) (hw _ ⟨i, hi, rfl, Or.inl z, fun b hb h1 h2 => ?_⟩)) (fun g => nm_r (nI_1 i) (hw _ ⟨d, hd, rfl, hz, fun b hb h1 h2 => ?_⟩))
        · rw [hpart b (by omega) h1 h2, hpart i hi z g]
        · by_cases e : b = i
          · subst e
            exact absurd h2 g
          · exact hp b (by omega) h1 h2
  unfold wpX_findCurrent
  refine pk_loop (fun n i s => wX_findCurrent_12 post 0 ns a1 a2 a3 a4 a5 a6 n (nI i) s)
    (fun i s => ∃ d, d < 8 ∧ s = nI d ∧ (a1 (4 * d) ≠ 0 ∨ ∀ b, b < i → a1 (4 * b) = 0)) 8 0 0 (by omega) ⟨0, by omega, rfl, Or.inr (fun b hb => absurd hb (by omega))⟩ ?_ ?_
  · rintro n s ⟨d, hd, rfl, hz⟩
    exact pk_le 8 8 (fun _ => h49 d hd hz) (fun z => absurd z (by omega))
  · rintro n i s hi ⟨d, hd, rfl, hz⟩ hw
    refine pk_le 8 i (fun z => absurd z (by omega)) (fun _ => ⟨pk_in (4 * i) 32 (by omega) (fl_e4 i), ?_⟩)
    rw [fl_c4 hi]
    refine br_c (fun z => nm_r (nI_1 i) (hw _ ⟨d, hd, rfl, ?_⟩)) (fun z => nm_r (nI_1 i) (hw _ ⟨i, hi, rfl, Or.inl z⟩))
    rcases hz with hz | hz
    · exact Or.inl hz
    · refine Or.inr (fun b hb => ?_)
      by_cases e : b = i
      · rw [e]
        exact z
      · exact hz b (by omega)
/-! the map built up again -/
/-- what newest holds after the pages below i -/
def fl_M (a1 a2 : Nat → Int32) (a3 : Nat → Int64) (i : Nat) (s : Nat → Int32) : Prop :=
  ∀ x, x < 16 → (s x = -1 ∧ ∀ p, p < i → a1 p ≠ 0 → (a2 p).toNatClampNeg ≠ x) ∨
    (∃ g, g < i ∧ s x = nI g ∧ a1 g ≠ 0 ∧ (a2 g).toNatClampNeg = x ∧ ∀ p, p < i → a1 p ≠ 0 → (a2 p).toNatClampNeg = x → (a3 p).toInt ≤ (a3 g).toInt)
/-- and the next number -/
def fl_Q (a1 : Nat → Int32) (a3 : Nat → Int64) (N0 : Int) (i : Nat) (ns : Int64) : Prop := 1 ≤ ns.toInt ∧ ns.toInt ≤ N0 ∧ ∀ p, p < i → a1 p ≠ 0 → (a3 p).toInt < ns.toInt
theorem fl_M_skip {i : Nat} {s : Nat → Int32} (h : fl_M a1 a2 a3 i s) (hz : a1 i = 0) : fl_M a1 a2 a3 (i + 1) s := by
  intro x hx
  rcases h x hx with ⟨h1, h2⟩ | ⟨g, hg, h1, h2, h3, h4⟩
  · refine Or.inl ⟨h1, fun p hp hn => ?_⟩
    by_cases e : p = i
    · rw [e] at hn
      exact absurd hz hn
    · exact h2 p (by omega) hn
  · refine Or.inr ⟨g, by omega, h1, h2, h3, fun p hp hn ho => ?_⟩
    by_cases e : p = i
    · rw [e] at hn
      exact absurd hz hn
    · exact h4 p (by omega) hn ho
/-- page i is kept out: its sector's newest is no older -/
theorem fl_M_old {i g : Nat} {s : Nat → Int32} (h : fl_M a1 a2 a3 i s) (hi : i < 32) (hg : g < 32) (h6 : s (a2 i).toNatClampNeg = nI g) (hle : (a3 i).toInt ≤ (a3 g).toInt) : fl_M a1 a2 a3 (i + 1) s := by
  intro x hx
  rcases h x hx with ⟨h1, h2⟩ | ⟨g', hg', h1, h2, h3, h4⟩
  · refine Or.inl ⟨h1, fun p hp hn => ?_⟩
    by_cases e : p = i
    · intro z
      rw [e] at z
      rw [z, h1] at h6
      have := congrArg Int32.toInt h6
      rw [nI_toInt (by omega)] at this
      have : (-1 : Int) = (g : Int) := this
      omega
    · exact h2 p (by omega) hn
  · refine Or.inr ⟨g', by omega, h1, h2, h3, fun p hp hn ho => ?_⟩
    by_cases e : p = i
    · rw [e] at ho
      rw [ho, h1] at h6
      have e' : g' = g := (nI_eq (by omega) (by omega)).mp h6
      rw [e, e']
      exact hle
    · exact h4 p (by omega) hn ho
/-- page i becomes its sector's newest -/
theorem fl_M_new {i : Nat} {s : Nat → Int32} (h : fl_M a1 a2 a3 i s) (hn : a1 i ≠ 0) (hle : ∀ p, p < i → a1 p ≠ 0 → (a2 p).toNatClampNeg = (a2 i).toNatClampNeg → (a3 p).toInt ≤ (a3 i).toInt) :
    fl_M a1 a2 a3 (i + 1) (upd s (a2 i).toNatClampNeg (nI i)) := by
  intro x hx
  by_cases ex : x = (a2 i).toNatClampNeg
  · refine Or.inr ⟨i, by omega, by rw [ex, pk_us], hn, ex.symm, fun p hp hpn ho => ?_⟩
    by_cases e : p = i
    · rw [e]
      exact Int.le_refl _
    · exact hle p (by omega) hpn (by rw [ho, ex])
  · rw [pk_un ex]
    rcases h x hx with ⟨h1, h2⟩ | ⟨g', hg', h1, h2, h3, h4⟩
    · refine Or.inl ⟨h1, fun p hp hpn => ?_⟩
      by_cases e : p = i
      · rw [e]
        exact fun z => ex z.symm
      · exact h2 p (by omega) hpn
    · refine Or.inr ⟨g', by omega, h1, h2, h3, fun p hp hpn ho => ?_⟩
      by_cases e : p = i
      · rw [e] at ho
        exact absurd ho.symm ex
      · exact h4 p (by omega) hpn ho
theorem fl_Q_skip {N0 : Int} {i : Nat} (h : fl_Q a1 a3 N0 i ns) (hz : a1 i = 0) : fl_Q a1 a3 N0 (i + 1) ns := by
  refine ⟨h.1, h.2.1, fun p hp hn => ?_⟩
  by_cases e : p = i
  · rw [e] at hn
    exact absurd hz hn
  · exact h.2.2 p (by omega) hn
theorem fl_Q_small {N0 : Int} {i : Nat} (h : fl_Q a1 a3 N0 i ns) (hz : (a3 i).toInt < ns.toInt) : fl_Q a1 a3 N0 (i + 1) ns := by
  refine ⟨h.1, h.2.1, fun p hp hn => ?_⟩
  by_cases e : p = i
  · rw [e]
    exact hz
  · exact h.2.2 p (by omega) hn
theorem fl_Q_big {N0 : Int} {i : Nat} (h : fl_Q a1 a3 N0 i ns) (hN : N0 < 2 ^ 62) (hz : ¬ (a3 i).toInt < ns.toInt) (hlt : (a3 i).toInt < N0) : fl_Q a1 a3 N0 (i + 1) (a3 i + 1) := by
  have h1 := h.1
  have e1 : (a3 i + 1).toInt = (a3 i).toInt + 1 := fl_n1 (by omega) (by omega)
  refine ⟨by omega, by omega, fun p hp hn => ?_⟩
  by_cases e : p = i
  · rw [e, e1]
    omega
  · have := h.2.2 p (by omega) hn
    omega
/-- what power's map is: the newest pages -/
theorem fl_M_eq {c f : Nat} {K W T s : Nat → Int32} (hJ : fl_J c f ns a1 a2 a3 a4 a5 a6 K W T) (h : fl_M a1 a2 a3 32 s) : ∀ x, x < 16 → s x = a6 x := by
  intro x hx
  have hN := hJ.2.2.2.2.2.2 x hx
  rcases h x hx with ⟨h1, h2⟩ | ⟨g, hg, h1, h2, h3, h4⟩
  · rcases hN with ⟨_, h6, _⟩ | ⟨g', hg', _, hz, ho, _⟩
    · rw [h1, h6]
    · exact absurd ho (h2 g' hg' hz)
  · rcases hN with ⟨_, _, hno⟩ | ⟨g', hg', h6, hz, ho, _, _, _, hm⟩
    · exact absurd h3 (hno g hg h2)
    · by_cases e : g = g'
      · rw [h1, h6, e]
      · have := hm g hg h2 h3 e
        have := h4 g' hg' hz ho
        omega
end
theorem fl_wpower {post : St2 → Prop} {cu fi : Int32} {n0 ns : Int64} {c f : Nat} {a1 a2 : Nat → Int32} {a3 : Nat → Int64} {a4 a5 a6 g6 K W T : Nat → Int32} {N0 : Int}
    (hJ : fl_J c f ns a1 a2 a3 a4 a5 g6 K W T) (hF : fl_F c a1) (hns : ns.toInt ≤ N0) (hN : N0 < 2 ^ 62)
    (H : ∀ (c f : Nat) (ns : Int64) (a6 : Nat → Int32), fl_J c f ns a1 a2 a3 a4 a5 a6 K W T → fl_F c a1 → ns.toInt ≤ N0 → post (nI c, nI f, ns, a1, a2, a3, a4, a5, a6)) :
    wpX_power post (cu, fi, n0, a1, a2, a3, a4, a5, a6) := by
  have hpg := hJ.2.2.2.2.2.1
  have hn1 := hJ.2.2.1
  have h28 : ∀ s : Nat → Int32, (∀ x, x < 16 → s x = -1) → ∃ n, wX_power_28 post cu fi n 0 1 a1 a2 a3 a4 a5 s := by
    intro s hs
    refine pk_loop (fun n i (u : Int64 × (Nat → Int32)) => wX_power_28 post cu fi n (nI i) u.1 a1 a2 a3 a4 a5 u.2) (fun i u => fl_Q a1 a3 N0 i u.1 ∧ fl_M a1 a2 a3 i u.2) 32 0 (1, s) (by omega)
      ⟨⟨by show (1 : Int) ≤ (1 : Int64).toInt; decide, by show (1 : Int64).toInt ≤ N0; rw [show (1 : Int64).toInt = 1 by decide]; omega, fun p hp => absurd hp (by omega)⟩, fun x hx => Or.inl ⟨hs x hx, fun p hp => absurd hp (by omega)⟩⟩ ?_ ?_
    · rintro n ⟨m, s⟩ ⟨hQ, hM⟩
      refine pk_le 32 32 (fun _ => ?_) (fun z => absurd z (by omega))
      refine fl_wfind hJ.1 hJ.2.1 hJ.2.2.2.1 hJ.2.2.2.2.1 hF (fun c' f' hc' hf' hb' ho' hF' => ?_)
      exact H c' f' m s (fl_cong hJ hc' hf' hQ.1 hb' ho' hQ.2.2 (fl_M_eq hJ hM)) hF' hQ.2.1
    · rintro n i ⟨m, s⟩ hi ⟨hQ, hM⟩ hw
      dsimp only at hQ hM
      have ec : (nI i).toNatClampNeg = i := nI_clamp (by omega)
      have hin : vp_in (nI i) 32 := vp_in_nI hi (by omega)
      refine pk_le 32 i (fun z => absurd z (by omega)) (fun _ => ⟨hin, ?_⟩)
      rw [ec]
      refine br_c (fun z => nm_r (nI_1 i) (hw (m, s) ⟨fl_Q_skip hQ z, fl_M_skip hM z⟩)) (fun z => ⟨hin, nm_e ⟨(hpg i hi z).1, ?_⟩⟩)
      have h87 : ∀ s', fl_M a1 a2 a3 (i + 1) s' → wX_power_87 post (wX_power_28 post cu fi n) (nI i) cu fi m a1 a2 a3 a4 a5 s' := by
        intro s' hM'
        unfold wX_power_87
        rw [ec]
        refine ⟨hin, br_c (fun g => nm_r (nI_1 i) (hw (m, s') ⟨fl_Q_small hQ (Int64.lt_iff_toInt_lt.mp g), hM'⟩)) (fun g => ⟨hin, nm_e (nm_r (nI_1 i) (hw (_, s') ⟨fl_Q_big hQ hN (fun q => g (Int64.lt_iff_toInt_lt.mpr q)) ?_, hM'⟩))⟩)⟩
        have := (hpg i hi z).2
        omega
      have h80 : (∀ p, p < i → a1 p ≠ 0 → (a2 p).toNatClampNeg = (a2 i).toNatClampNeg → (a3 p).toInt ≤ (a3 i).toInt) → wX_power_80 post (wX_power_28 post cu fi n) (nI i) (a2 i) cu fi m a1 a2 a3 a4 a5 s := by
        intro hle
        unfold wX_power_80
        exact ⟨(hpg i hi z).1, nm_e (h87 _ (fl_M_new hM z hle))⟩
      have hx := (fl_in (hpg i hi z).1).1
      rcases hM _ hx with ⟨h1, h2⟩ | ⟨g, hg, h1, h2, h3, h4⟩
      · refine br_t ?_ (h80 (fun p hp hpn ho => absurd ho (h2 p hp hpn)))
        show s (a2 i).toNatClampNeg < 0
        rw [h1]
        decide
      · refine br_f ?_ ⟨hin, (hpg i hi z).1, ?_, ?_⟩
        · show ¬ s (a2 i).toNatClampNeg < 0
          rw [h1]
          exact nI_pos (by omega)
        · show vp_in (s (a2 i).toNatClampNeg) 32
          rw [h1]
          exact vp_in_nI (by omega) (by omega)
        · have eg : (s (a2 i).toNatClampNeg).toNatClampNeg = g := by rw [h1]; exact nI_clamp (by omega)
          refine br_c (fun q => ?_) (fun q => ?_)
          · have q' : a3 i ≤ a3 (s (a2 i).toNatClampNeg).toNatClampNeg := q
            rw [eg] at q'
            exact h87 s (fl_M_old hM hi (by omega) h1 (Int64.le_iff_toInt_le.mp q'))
          · have q' : ¬ a3 i ≤ a3 (s (a2 i).toNatClampNeg).toNatClampNeg := q
            rw [eg, Int64.le_iff_toInt_le] at q'
            exact h80 (fun p hp hpn ho => by have := h4 p hp hpn ho; omega)
  unfold wpX_power
  refine pk_loop (fun n i s => wX_power_7 post cu fi 1 n (nI i) a1 a2 a3 a4 a5 s) (fun i s => ∀ x, x < i → s x = -1) 16 0 a6 (by omega) (fun x hx => absurd hx (by omega)) ?_ ?_
  · intro n s hs
    exact pk_le 16 16 (fun _ => h28 s hs) (fun z => absurd z (by omega))
  · intro n i s hi hs hw
    refine pk_le 16 i (fun z => absurd z (by omega)) (fun _ => ⟨pk_in i 16 hi, nm_e (nm_r (nI_1 i) (hw _ (fun x hx => ?_)))⟩)
    rw [nI_clamp (by omega)]
    by_cases e : x = i
    · rw [e, pk_us]
    · rw [pk_un e]
      exact hs x (by omega)
theorem fl_winit {post : St2 → Prop} {u : St1} {mc ms : Nat} (hmc : 6 ≤ mc) (hms : 176 ≤ ms)
    (H : ∀ (c f : Nat) (ns : Int64) (a1 a2 : Nat → Int32) (a3 : Nat → Int64) (a4 a5 a6 : Nat → Int32), fl_J c f ns a1 a2 a3 a4 a5 a6 (fun _ => 0) (fun _ => 0) (fun _ => 0) → fl_F c a1 → ns.toInt ≤ 1 →
      post (nI c, nI f, ns, a1, a2, a3, a4, a5, a6)) : wpX_init post mc ms u := by
  obtain ⟨cu, fi, n0⟩ := u
  unfold wpX_init
  refine ⟨by omega, by omega, by omega, by omega, by omega, by omega, by omega, by omega, by omega, by omega, by omega, by omega, ?_⟩
  have hz : ∀ b, fl_bl (fun _ => 0) b 0 := fun b j hj => ⟨fun z => absurd rfl z, fun z => absurd z (by omega)⟩
  refine fl_wpower (c := 0) (f := 0) (ns := 1) (g6 := fun _ => -1) (K := fun _ => 0) (W := fun _ => 0) (T := fun _ => 0) (N0 := 1) ?_ ⟨1, by omega, by omega, rfl⟩ (by decide) (by decide) (fun c f ns a6 hJ hF hn => H c f ns _ _ _ _ _ a6 hJ hF hn)
  exact ⟨by omega, by omega, by decide, hz 0, fun b _ _ => Or.inl (hz b), fun p _ z => absurd rfl z, fun x _ => Or.inl ⟨rfl, rfl, fun p _ z => absurd rfl z⟩⟩
end
section
/-! tidy, read, turn and the rest over fl_J -/
theorem fl_cmp : ∀ f, f < 5 → ∀ l, l < 5 → (((3 : Int32) - nI f < nI l) ↔ 3 < f + l) := by decide +kernel
theorem fl_wtidy {post : St2 → Prop} {c : Nat} {st : Int32} {K W T : Nat → Int32} {N0 : Int} (hN : N0 + 16 < 2 ^ 62)
    (H : ∀ (f : Nat) (ns : Int64) (a1 a2 : Nat → Int32) (a3 : Nat → Int64) (a4 a5 a6 : Nat → Int32), fl_J c f ns a1 a2 a3 a4 a5 a6 K W T → fl_F c a1 → ns.toInt ≤ N0 + 16 →
      post (nI c, nI f, ns, a1, a2, a3, a4, a5, a6))
    {f : Nat} {ns : Int64} {a1 a2 : Nat → Int32} {a3 : Nat → Int64} {a4 a5 a6 : Nat → Int32} (hJ : fl_J c f ns a1 a2 a3 a4 a5 a6 K W T) (hF : fl_F c a1) (hns : ns.toInt ≤ N0) :
    wpX_tidy post (nI c, nI f, ns, a1, a2, a3, a4, a5, a6) st := by
  have key : ∀ (m k : Nat), k + m = 4 → ∀ (f : Nat) (ns : Int64) (a1 a2 : Nat → Int32) (a3 : Nat → Int64) (a4 a5 a6 : Nat → Int32), fl_J c f ns a1 a2 a3 a4 a5 a6 K W T → fl_F c a1 → ns.toInt ≤ N0 + 4 * (k : Int) →
      wX_tidy_2 post st (m + 1) (nI k) (nI c) (nI f) ns a1 a2 a3 a4 a5 a6 := by
    intro m
    induction m with
    | zero =>
      intro k hk f ns a1 a2 a3 a4 a5 a6 hJ hF hns
      have e : k = 4 := by omega
      subst e
      have hp := H f ns a1 a2 a3 a4 a5 a6 hJ hF (by omega)
      exact br_c (fun _ => hp) (fun _ => pk_le 4 4 (fun _ => hp) (fun z => absurd z (by omega)))
    | succ m ih =>
      intro k hk f ns a1 a2 a3 a4 a5 a6 hJ hF hns
      have hp := H f ns a1 a2 a3 a4 a5 a6 hJ hF (by omega)
      have hpg : ∀ p, p < 32 → a1 p ≠ 0 → vp_in (a2 p) 16 := fun p hp h => (hJ.2.2.2.2.2.1 p hp h).1
      have hskip : wX_tidy_2 post st (m + 1) (nI (k + 1)) (nI c) (nI f) ns a1 a2 a3 a4 a5 a6 := ih (k + 1) (by omega) f ns a1 a2 a3 a4 a5 a6 hJ hF (by omega)
      refine br_c (fun _ => hp) (fun _ => pk_le 4 k (fun z => absurd z (by omega)) (fun _ => ?_))
      refine fl_wleast hJ.1 hpg (fun b hb hbc hz => ?_) (fun _ => br_t (by decide) (nm_r (nI_1 k) hskip))
      refine br_f (nI_pos (by omega)) (fl_wlive hb hpg ?_)
      have hle := fl_lc_le a1 a2 a6 (4 * b)
      have hf4 := hJ.2.1
      have hcm := fl_cmp f (by omega) (fl_lc a1 a2 a6 (4 * b) 4) (by omega)
      refine br_c (fun _ => nm_r (nI_1 k) hskip) (fun g => ?_)
      have hl : ¬ 3 < f + fl_lc a1 a2 a6 (4 * b) 4 := fun q => g (hcm.mpr q)
      refine fl_wgather (F0 := 3) (N0 := N0 + 4 * (k : Int)) hb hbc (by omega) (by omega) (fun f' ns' b1 b2 b3 b4 b5 b6 hJ' hf' hns' hz' => nm_r (nI_1 k) ?_) hJ hns (by omega)
      exact ih (k + 1) (by omega) f' ns' b1 b2 b3 b4 b5 b6 hJ' ⟨b, hb, hbc, hz'⟩ (by omega)
  unfold wpX_tidy
  exact ⟨5, key 4 0 rfl f ns a1 a2 a3 a4 a5 a6 hJ hF (by omega)⟩
theorem fl_wsec {post : Int32 → Prop} {x : Nat} (hx : x < 16) (h : post 1) : wpX_isSector post () (nI x) :=
  br_f (nI_pos (by omega)) (br_f (nI_nlt (a := 15) (b := x) (by omega) (by omega)) h)
/-- what a read of a sector answers -/
def fl_rd (k w t : Int32) : Int32 := if k = 0 then -2 else if k = 2 then -2 else cf_de (w ^^^ t)
section
variable {c f : Nat} {ns : Int64} {a1 a2 : Nat → Int32} {a3 : Nat → Int64} {a4 a5 a6 K W T : Nat → Int32}
theorem fl_wread {post : Int32 → Prop} {cu fi : Int32} {x : Nat} (hJ : fl_J c f ns a1 a2 a3 a4 a5 a6 K W T) (hx : x < 16) (h : post (fl_rd (K x) (W x) (T x))) :
    wpX_read post (cu, fi, ns, a1, a2, a3, a4, a5, a6) (nI x) := by
  have ec : (nI x).toNatClampNeg = x := nI_clamp (by omega)
  unfold wpX_read
  refine fl_wsec hx (br_f (by decide) ⟨pk_in x 16 hx, nm_e ?_⟩)
  rw [ec]
  unfold fl_rd at h
  rcases hJ.2.2.2.2.2.2 x hx with ⟨hK, h6, _⟩ | ⟨g, hg, h6, h1, _, hK, hW, hT, _⟩
  · rw [if_pos hK] at h
    rw [h6]
    exact br_t (by decide) h
  · have eg : (nI g).toNatClampNeg = g := nI_clamp (by omega)
    have hin : vp_in (nI g) 32 := vp_in_nI hg (by omega)
    rw [if_neg (by rw [hK]; exact h1)] at h
    rw [h6, eg]
    refine br_f (nI_pos (by omega)) ⟨hin, br_c (fun z => ?_) (fun z => ⟨hin, hin, ?_⟩)⟩
    · rw [if_pos (by rw [hK]; exact z)] at h
      exact h
    · rw [if_neg (by rw [hK]; exact z), hW, hT] at h
      exact cf_deco _ h
theorem fl_wisW {post : Int32 → Prop} {cu fi : Int32} {x : Nat} (hJ : fl_J c f ns a1 a2 a3 a4 a5 a6 K W T) (hx : x < 16) (h1 : K x = 1 → post 1) (h0 : ¬ K x = 1 → post 0) :
    wpX_isWritten post (cu, fi, ns, a1, a2, a3, a4, a5, a6) (nI x) := by
  have ec : (nI x).toNatClampNeg = x := nI_clamp (by omega)
  unfold wpX_isWritten
  refine ⟨pk_in x 16 hx, ?_⟩
  rw [ec]
  rcases hJ.2.2.2.2.2.2 x hx with ⟨hK, h6, _⟩ | ⟨g, hg, h6, _, _, hK, _⟩
  · rw [h6]
    exact br_t (by decide) (h0 (by rw [hK]; decide))
  · have eg : (nI g).toNatClampNeg = g := nI_clamp (by omega)
    rw [h6, eg, ← hK]
    exact br_f (nI_pos (by omega)) ⟨pk_in x 16 hx, pk_in g 32 hg, br_c h1 h0⟩
theorem fl_wturn {post : Int32 → St2 → Prop} {cu fi : Int32} {x p n : Nat} {v : Int32} (hJ : fl_J c f ns a1 a2 a3 a4 a5 a6 K W T) (hx : x < 16) (hp : p < 22) (hK1 : K x = 1)
    (hv : T x ^^^ cf_p p = v) (hn : cf_cn v 22 = n) (hn2 : n ≤ 2)
    (H : ∀ b5, fl_J c f ns a1 a2 a3 a4 b5 a6 K W (upd T x v) → post (nI n) (cu, fi, ns, a1, a2, a3, a4, b5, a6)) :
    wpX_turn post (cu, fi, ns, a1, a2, a3, a4, a5, a6) (nI x) (nI p) := by
  have ec : (nI x).toNatClampNeg = x := nI_clamp (by omega)
  unfold wpX_turn
  refine fl_wsec hx (br_f (by decide) (br_f (nI_pos (by omega)) (pk_le p 21 (fun _ => ?_) (fun z => absurd z (by omega)))))
  refine fl_wisW hJ hx (fun _ => br_f (by decide) ⟨pk_in x 16 hx, nm_e ?_⟩) (fun z => absurd hK1 z)
  rw [ec]
  rcases hJ.2.2.2.2.2.2 x hx with ⟨hK, h6, _⟩ | ⟨g, hg, h6, h1, _, hK, hW, hT, _⟩
  · rw [hK1] at hK
    exact absurd hK (by decide)
  · have eg : (nI g).toNatClampNeg = g := nI_clamp (by omega)
    have hin : vp_in (nI g) 32 := vp_in_nI hg (by omega)
    rw [h6, eg]
    have hv' : a5 g ^^^ ((1 : Int32) <<< (nI p &&& 31)) = v := by rw [← hT]; exact hv
    refine ⟨hin, nm_r hv' (cf_ones v ?_)⟩
    rw [hn]
    exact pk_le n 2 (fun _ => ⟨hin, nm_e (H _ (fl_turn hJ hx hg h6))⟩) (fun z => absurd z (by omega))
end
/-! sums over the sectors -/
def la_sm (F : Nat → Int32) : Nat → Int32
  | 0 => 0
  | k + 1 => la_sm F k + F k
theorem la_two {F : Nat → Int32} {s t : Nat} (hs : s < 16) (ht : t < 16) (hst : s ≠ t) (h0 : ∀ x, x < 16 → x ≠ s → x ≠ t → F x = 0) : la_sm F 16 = F s + F t := by
  have key : ∀ k, k ≤ 16 → la_sm F k = (if s < k then F s else 0) + (if t < k then F t else 0) := by
    intro k
    induction k with
    | zero =>
      intro _
      rw [if_neg (by omega), if_neg (by omega)]
      rfl
    | succ k ih =>
      intro hk
      show la_sm F k + F k = _
      rw [ih (by omega)]
      by_cases es : k = s
      · subst es
        rw [if_neg (by omega), if_pos (show k < k + 1 by omega), Int32.zero_add, Int32.add_comm]
        by_cases z : t < k
        · rw [if_pos z, if_pos (by omega)]
        · rw [if_neg z, if_neg (by omega)]
      · by_cases et : k = t
        · subst et
          rw [if_neg (show ¬ k < k by omega), if_pos (show k < k + 1 by omega), Int32.add_zero]
          by_cases z : s < k
          · rw [if_pos z, if_pos (by omega)]
          · rw [if_neg z, if_neg (by omega)]
        · rw [h0 k (by omega) es et, Int32.add_zero]
          have e1 : (if s < k + 1 then F s else 0) = (if s < k then F s else 0) := by
            by_cases z : s < k
            · rw [if_pos z, if_pos (by omega)]
            · rw [if_neg z, if_neg (by omega)]
          have e2 : (if t < k + 1 then F t else 0) = (if t < k then F t else 0) := by
            by_cases z : t < k
            · rw [if_pos z, if_pos (by omega)]
            · rw [if_neg z, if_neg (by omega)]
          rw [e1, e2]
  rw [key 16 (by omega), if_pos hs, if_pos ht]
def la_po (r : Int32) : Int32 := if r ≤ 0 then 0 else r
def la_da (r : Int32) : Int32 := if r = -3 then 1 else 0
def la_wr (k : Int32) : Int32 := if k = 1 then 1 else 0
/-! the law's picture: sectors s and t hold (kind, word, turned), no other sector has a page; the next number is at most B -/
def la_A (s t : Nat) (B : Int) (ks ws ts kt wt tt : Int32) (u : St2) : Prop := match u with
  | (cu, fi, ns, a1, a2, a3, a4, a5, a6) => ∃ (c f : Nat) (K W T : Nat → Int32), cu = nI c ∧ fi = nI f ∧ fl_J c f ns a1 a2 a3 a4 a5 a6 K W T ∧ fl_F c a1 ∧ ns.toInt ≤ B ∧
    (K s = ks ∧ W s = ws ∧ T s = ts) ∧ (K t = kt ∧ W t = wt ∧ T t = tt) ∧ ∀ x, x < 16 → x ≠ s → x ≠ t → K x = 0
section
variable {s t : Nat} {B : Int} {ks ws ts kt wt tt : Int32} {u : St2}
theorem la_sym (hA : la_A s t B ks ws ts kt wt tt u) : la_A t s B kt wt tt ks ws ts u := by
  obtain ⟨cu, fi, ns, a1, a2, a3, a4, a5, a6⟩ := u
  obtain ⟨c, f, K, W, T, hc, hf, hJ, hF, hB, h1, h2, h0⟩ := hA
  exact ⟨c, f, K, W, T, hc, hf, hJ, hF, hB, h2, h1, fun x hx ht hs => h0 x hx hs ht⟩
theorem la_read {post : Int32 → Prop} (hA : la_A s t B ks ws ts kt wt tt u) (hs : s < 16) {r : Int32} (hr : fl_rd ks ws ts = r) (h : post r) : wpX_read post u (nI s) := by
  obtain ⟨cu, fi, ns, a1, a2, a3, a4, a5, a6⟩ := u
  obtain ⟨c, f, K, W, T, hc, hf, hJ, hF, hB, ⟨h1, h2, h3⟩, _, h0⟩ := hA
  exact fl_wread hJ hs (by rw [h1, h2, h3, hr]; exact h)
theorem la_turn {post : Int32 → St2 → Prop} {p n : Nat} {v : Int32} (hA : la_A s t B 1 ws ts kt wt tt u) (hs : s < 16) (hst : s ≠ t) (hp : p < 22) (hv : ts ^^^ cf_p p = v) (hn : cf_cn v 22 = n) (hn2 : n ≤ 2)
    (H : ∀ u', la_A s t B 1 ws v kt wt tt u' → post (nI n) u') : wpX_turn post u (nI s) (nI p) := by
  obtain ⟨cu, fi, ns, a1, a2, a3, a4, a5, a6⟩ := u
  obtain ⟨c, f, K, W, T, hc, hf, hJ, hF, hB, ⟨h1, h2, h3⟩, ⟨g1, g2, g3⟩, h0⟩ := hA
  refine fl_wturn hJ hs hp h1 (by rw [h3]; exact hv) hn hn2 (fun b5 hJ' => H _ ?_)
  exact ⟨c, f, K, W, upd T s v, hc, hf, hJ', hF, hB, ⟨h1, h2, pk_us⟩, ⟨g1, g2, by rw [pk_un (fun z => hst z.symm)]; exact g3⟩, h0⟩
theorem la_prog {post : St2 → Prop} {kd w v : Int32} (hA : la_A s t B ks ws ts kt wt tt u) (hs : s < 16) (hst : s ≠ t) (hk : kd ≠ 0) (hB : B + 5 < 2 ^ 62)
    (H : ∀ u', la_A s t (B + 5) kd w v kt wt tt u' → post u') : wpX_program post u (nI s) kd w v := by
  obtain ⟨cu, fi, ns, a1, a2, a3, a4, a5, a6⟩ := u
  obtain ⟨c, f, K, W, T, rfl, rfl, hJ, hF, hB', ⟨h1, h2, h3⟩, ⟨g1, g2, g3⟩, h0⟩ := hA
  have hts : t ≠ s := fun z => hst z.symm
  refine fl_wprog hJ hF h0 hs hk hB' hB (fun c' f' ns' b1 b2 b3 b4 b5 b6 hJ' hF' hns' => H _ ?_)
  exact ⟨c', f', _, _, _, rfl, rfl, hJ', hF', hns', ⟨pk_us, pk_us, pk_us⟩, ⟨by rw [pk_un hts]; exact g1, by rw [pk_un hts]; exact g2, by rw [pk_un hts]; exact g3⟩, fun x hx xs xt => by rw [pk_un xs]; exact h0 x hx xs xt⟩
theorem la_write {post : Int32 → St2 → Prop} {v : Int32} (hA : la_A s t B ks ws ts kt wt tt u) (hs : s < 16) (hst : s ≠ t) (hB : B + 5 < 2 ^ 62)
    (H : ∀ u', la_A s t (B + 5) 1 (cf_en (v &&& 65535)) 0 kt wt tt u' → post 0 u') : wpX_write post u (nI s) v := by
  obtain ⟨cu, fi, ns, a1, a2, a3, a4, a5, a6⟩ := u
  unfold wpX_write
  refine fl_wsec hs (br_f (by decide) (cf_enco _ (la_prog hA hs hst (by decide) hB ?_)))
  rintro ⟨cu', fi', ns', b1, b2, b3, b4, b5, b6⟩ hA'
  exact H _ hA'
theorem la_trim {post : Int32 → St2 → Prop} (hA : la_A s t B 1 ws ts kt wt tt u) (hs : s < 16) (hst : s ≠ t) (hB : B + 5 < 2 ^ 62)
    (H : ∀ u', la_A s t (B + 5) 2 0 0 kt wt tt u' → post 0 u') : wpX_trim post u (nI s) := by
  obtain ⟨cu, fi, ns, a1, a2, a3, a4, a5, a6⟩ := u
  unfold wpX_trim
  have hA0 := hA
  obtain ⟨c, f, K, W, T, hc, hf, hJ, hF, hB', ⟨h1, h2, h3⟩, _, h0⟩ := hA
  refine fl_wsec hs (br_f (by decide) (fl_wisW hJ hs (fun _ => br_f (by decide) (la_prog hA0 hs hst (by decide) hB ?_)) (fun z => absurd h1 z)))
  rintro ⟨cu', fi', ns', b1, b2, b3, b4, b5, b6⟩ hA'
  exact H _ hA'
theorem la_trim2 {post : Int32 → St2 → Prop} (hA : la_A s t B 2 ws ts kt wt tt u) (hs : s < 16) (h : post (-2) u) : wpX_trim post u (nI s) := by
  obtain ⟨cu, fi, ns, a1, a2, a3, a4, a5, a6⟩ := u
  unfold wpX_trim
  obtain ⟨c, f, K, W, T, hc, hf, hJ, hF, hB', ⟨h1, h2, h3⟩, _, h0⟩ := hA
  refine fl_wsec hs (br_f (by decide) (fl_wisW hJ hs (fun z => ?_) (fun _ => br_t rfl h)))
  rw [h1] at z
  exact absurd z (by decide)
theorem la_tidy {post : St2 → Prop} {st : Int32} (hA : la_A s t B ks ws ts kt wt tt u) (hB : B + 16 < 2 ^ 62) (H : ∀ u', la_A s t (B + 16) ks ws ts kt wt tt u' → post u') : wpX_tidy post u st := by
  obtain ⟨cu, fi, ns, a1, a2, a3, a4, a5, a6⟩ := u
  obtain ⟨c, f, K, W, T, rfl, rfl, hJ, hF, hB', h1, h2, h0⟩ := hA
  exact fl_wtidy hB (fun f' ns' b1 b2 b3 b4 b5 b6 hJ' hF' hns' => H _ ⟨c, f', K, W, T, rfl, rfl, hJ', hF', hns', h1, h2, h0⟩) hJ hF hB'
theorem la_power {post : St2 → Prop} (hA : la_A s t B ks ws ts kt wt tt u) (hB : B < 2 ^ 62) (H : ∀ u', la_A s t B ks ws ts kt wt tt u' → post u') : wpX_power post u := by
  obtain ⟨cu, fi, ns, a1, a2, a3, a4, a5, a6⟩ := u
  obtain ⟨c, f, K, W, T, rfl, rfl, hJ, hF, hB', h1, h2, h0⟩ := hA
  exact fl_wpower hJ hF hB' hB (fun c' f' ns' b6 hJ' hF' hns' => H _ ⟨c', f', K, W, T, rfl, rfl, hJ', hF', hns', h1, h2, h0⟩)
theorem la_and2 (v : Int32) : v &&& 65535 &&& 65535 = v &&& 65535 := by
  apply cb_ext
  intro i hi
  rw [cb_and, cb_and]
  cases cb_t v i <;> cases cb_t 65535 i <;> rfl
theorem la_repW {post : Int32 → St2 → Prop} {v : Int32} (hA : la_A s t B ks ws ts kt wt tt u) (hs : s < 16) (hst : s ≠ t) (hB : B + 5 < 2 ^ 62) (hr : fl_rd ks ws ts = v &&& 65535)
    (H : ∀ u', la_A s t (B + 5) 1 (cf_en (v &&& 65535)) 0 kt wt tt u' → post (v &&& 65535) u') : wpX_repair post u (nI s) := by
  obtain ⟨cu, fi, ns, a1, a2, a3, a4, a5, a6⟩ := u
  unfold wpX_repair
  refine la_read hA hs hr (br_f ?_ (la_write hA hs hst hB ?_))
  · obtain ⟨j, hj, e⟩ := pk_andE v (m := 65535) 16 (by decide)
    rw [e]
    exact nI_pos (by omega)
  · rw [la_and2]
    rintro ⟨cu', fi', ns', b1, b2, b3, b4, b5, b6⟩ hA'
    exact H _ hA'
theorem la_repD {post : Int32 → St2 → Prop} (hA : la_A s t B ks ws ts kt wt tt u) (hs : s < 16) (hr : fl_rd ks ws ts = -3) (h : post (-3) u) : wpX_repair post u (nI s) := by
  obtain ⟨cu, fi, ns, a1, a2, a3, a4, a5, a6⟩ := u
  unfold wpX_repair
  exact la_read hA hs hr (br_t (by decide) h)
theorem la_sum {post : Int32 → Prop} (hA : la_A s t B ks ws ts kt wt tt u) (hs : s < 16) (ht : t < 16) (hst : s ≠ t) {r r' v : Int32} (hr : fl_rd ks ws ts = r) (hr' : fl_rd kt wt tt = r') (hv : la_po r + la_po r' = v) (h : post v) : wpX_sum post u := by
  obtain ⟨cu, fi, ns, a1, a2, a3, a4, a5, a6⟩ := u
  obtain ⟨c, f, K, W, T, hc, hf, hJ, hF, hB', ⟨h1, h2, h3⟩, ⟨g1, g2, g3⟩, h0⟩ := hA
  have e : la_sm (fun x => la_po (fl_rd (K x) (W x) (T x))) 16 = v := by
    rw [la_two hs ht hst (fun x hx xs xt => by rw [h0 x hx xs xt]; rfl)]
    rw [h1, h2, h3, g1, g2, g3, hr, hr', hv]
  refine pk_loop (fun n i z => wX_sum_4 post cu fi ns a1 a2 a3 a4 a5 a6 n z (nI i)) (fun i z => z = la_sm (fun x => la_po (fl_rd (K x) (W x) (T x))) i) 16 0 0 (by omega) rfl ?_ ?_
  · intro n z hz
    refine pk_le 16 16 (fun _ => ?_) (fun z => absurd z (by omega))
    rw [hz, e]
    exact h
  · intro n i z hi hz hw
    refine pk_le 16 i (fun z => absurd z (by omega)) (fun _ => fl_wread hJ hi (br_c (fun q => nm_e (nm_r (nI_1 i) (hw _ ?_))) (fun q => nm_e (nm_r (nI_1 i) (hw _ ?_)))))
    · rw [hz]
      show _ = la_sm _ i + la_po _
      unfold la_po
      rw [if_pos q]
    · rw [hz]
      show _ = la_sm _ i + la_po _
      unfold la_po
      rw [if_neg q]
theorem la_dam {post : Int32 → Prop} (hA : la_A s t B ks ws ts kt wt tt u) (hs : s < 16) (ht : t < 16) (hst : s ≠ t) {r r' v : Int32} (hr : fl_rd ks ws ts = r) (hr' : fl_rd kt wt tt = r') (hv : la_da r + la_da r' = v) (h : post v) : wpX_damaged post u := by
  obtain ⟨cu, fi, ns, a1, a2, a3, a4, a5, a6⟩ := u
  obtain ⟨c, f, K, W, T, hc, hf, hJ, hF, hB', ⟨h1, h2, h3⟩, ⟨g1, g2, g3⟩, h0⟩ := hA
  have e : la_sm (fun x => la_da (fl_rd (K x) (W x) (T x))) 16 = v := by
    rw [la_two hs ht hst (fun x hx xs xt => by rw [h0 x hx xs xt]; rfl)]
    rw [h1, h2, h3, g1, g2, g3, hr, hr', hv]
  refine pk_loop (fun n i z => wX_damaged_4 post cu fi ns a1 a2 a3 a4 a5 a6 n z (nI i)) (fun i z => z = la_sm (fun x => la_da (fl_rd (K x) (W x) (T x))) i) 16 0 0 (by omega) rfl ?_ ?_
  · intro n z hz
    refine pk_le 16 16 (fun _ => ?_) (fun z => absurd z (by omega))
    rw [hz, e]
    exact h
  · intro n i z hi hz hw
    refine pk_le 16 i (fun z => absurd z (by omega)) (fun _ => fl_wread hJ hi (br_c (fun q => nm_e (nm_r (nI_1 i) (hw _ ?_))) (fun q => nm_e (nm_r (nI_1 i) (hw _ ?_)))))
    · rw [hz]
      show _ = la_sm _ i + la_da _
      unfold la_da
      rw [if_pos q]
    · rw [hz]
      show _ = la_sm _ i + la_da _
      unfold la_da
      rw [if_neg q]
theorem la_writ {post : Int32 → Prop} (hA : la_A s t B ks ws ts kt wt tt u) (hs : s < 16) (ht : t < 16) (hst : s ≠ t) {v : Int32} (hv : la_wr ks + la_wr kt = v) (h : post v) : wpX_written post u := by
  obtain ⟨cu, fi, ns, a1, a2, a3, a4, a5, a6⟩ := u
  obtain ⟨c, f, K, W, T, hc, hf, hJ, hF, hB', ⟨h1, h2, h3⟩, ⟨g1, g2, g3⟩, h0⟩ := hA
  have e : la_sm (fun x => la_wr (K x)) 16 = v := by
    rw [la_two hs ht hst (fun x hx xs xt => by rw [h0 x hx xs xt]; rfl)]
    rw [h1, g1, hv]
  refine pk_loop (fun n i z => wX_written_4 post cu fi ns a1 a2 a3 a4 a5 a6 n z (nI i)) (fun i z => z = la_sm (fun x => la_wr (K x)) i) 16 0 0 (by omega) rfl ?_ ?_
  · intro n z hz
    refine pk_le 16 16 (fun _ => ?_) (fun z => absurd z (by omega))
    rw [hz, e]
    exact h
  · intro n i z hi hz hw
    refine pk_le 16 i (fun z => absurd z (by omega)) (fun _ => fl_wisW hJ hi (fun q => br_f (by decide) (nm_e (nm_r (nI_1 i) (hw _ ?_)))) (fun q => br_t rfl (nm_e (nm_r (nI_1 i) (hw _ ?_)))))
    · rw [hz]
      show _ = la_sm _ i + la_wr _
      unfold la_wr
      rw [if_pos q]
    · rw [hz]
      show _ = la_sm _ i + la_wr _
      unfold la_wr
      rw [if_neg q]
end
end
section
/-! the law -/
theorem la_rd0 (w : Int32) : fl_rd 1 (cf_en (w &&& 65535)) 0 = w &&& 65535 := by
  unfold fl_rd
  rw [if_neg (by decide), if_neg (by decide)]
  exact cf_d0 w
theorem la_rd1 (w : Int32) {p : Nat} (hp : p < 22) : fl_rd 1 (cf_en (w &&& 65535)) (cf_p p) = w &&& 65535 := by
  unfold fl_rd
  rw [if_neg (by decide), if_neg (by decide)]
  exact cf_d1 w hp
theorem la_rd2 (w : Int32) {p q : Nat} (hp : p < 22) (hq : q < 22) (h : p ≠ q) : fl_rd 1 (cf_en (w &&& 65535)) (cf_p p ^^^ cf_p q) = -3 := by
  unfold fl_rd
  rw [if_neg (by decide), if_neg (by decide)]
  exact cf_d2 w hp hq h
theorem la_rdg (w t : Int32) : fl_rd 2 w t = -2 := by
  unfold fl_rd
  rw [if_neg (by decide), if_pos rfl]
theorem la_pov (w : Int32) : la_po (w &&& 65535) = w &&& 65535 := by
  obtain ⟨j, hj, e⟩ := pk_andE w (m := 65535) 16 (by decide)
  rw [e]
  unfold la_po
  by_cases z : nI j ≤ 0
  · rw [if_pos z]
    have : ¬ 0 < j := fun q => nI_nle q (by omega) z
    rw [show j = 0 by omega]
    rfl
  · rw [if_neg z]
theorem la_dav (w : Int32) : la_da (w &&& 65535) = 0 := by
  obtain ⟨j, hj, e⟩ := pk_andE w (m := 65535) 16 (by decide)
  rw [e]
  unfold la_da
  refine if_neg (fun z => ?_)
  have := congrArg Int32.toInt z
  rw [nI_toInt (by omega)] at this
  have : (j : Int) = -3 := this
  omega
theorem la_po3 : la_po (-3) = 0 := by decide
theorem la_po2 : la_po (-2) = 0 := by decide
theorem la_da3 : la_da (-3) = 1 := by decide
theorem la_da2 : la_da (-2) = 0 := by decide
/-- after the loop -/
theorem la_tail {post : Int32 → St0 → Prop} {mc ms kc ks n : Nat} {a b st : Int32} {s t p q : Nat} (hs : s < 16) (ht : t < 16) (hst : s ≠ t) (hp : p < 22) (hq : q < 22) (hpq : p ≠ q) (H : post 1 ())
    {B : Int} (hB : B < 1000) {cu fi : Int32} {ns : Int64} {a1 a2 : Nat → Int32} {a3 : Nat → Int64} {a4 a5 a6 : Nat → Int32}
    (hA : la_A s t B 1 (cf_en ((a + 7) &&& 65535)) (cf_p q) 1 (cf_en ((b - 7) &&& 65535)) 0 (cu, fi, ns, a1, a2, a3, a4, a5, a6)) :
    wL_lawOf_88 post mc ms a b st (nI s) (nI t) (nI p) (nI q) kc ks (n + 1) 8 cu fi ns a1 a2 a3 a4 a5 a6 := by
  have hts : t ≠ s := fun z => hst z.symm
  have hqp : q ≠ p := fun z => hpq z.symm
  refine pk_le 8 8 (fun _ => ?_) (fun z => absurd z (by omega))
  -- turn(t, q)
  refine la_turn (la_sym hA) ht hts hq Int32.zero_xor (cf_p_c q hq) (by omega) ?_
  clear hA
  rintro ⟨cu, fi, ns, a1, a2, a3, a4, a5, a6⟩ hA
  refine br_t rfl ?_
  -- turn(t, p)
  refine la_turn hA ht hts hp rfl (cf_pq_c q hq p hp hqp) (by omega) ?_
  clear hA
  rintro ⟨cu, fi, ns, a1, a2, a3, a4, a5, a6⟩ hA
  refine br_t rfl ?_
  replace hA := la_sym hA
  -- damaged, sum
  refine la_dam hA hs ht hst (la_rd1 (a + 7) hq) (la_rd2 (b - 7) hq hp hqp) (by rw [la_dav, la_da3]; rfl) (br_t rfl ?_)
  refine la_sum hA hs ht hst (la_rd1 (a + 7) hq) (la_rd2 (b - 7) hq hp hqp) (by rw [la_pov, la_po3]; exact Int32.add_zero _) (br_t rfl ?_)
  -- power
  refine la_power hA (by omega) ?_
  clear hA
  rintro ⟨cu, fi, ns, a1, a2, a3, a4, a5, a6⟩ hA
  -- repair(t), damaged
  refine la_repD (la_sym hA) ht (la_rd2 (b - 7) hq hp hqp) (br_t rfl ?_)
  refine la_dam hA hs ht hst (la_rd1 (a + 7) hq) (la_rd2 (b - 7) hq hp hqp) (by rw [la_dav, la_da3]; rfl) (br_t rfl ?_)
  -- repair(s)
  refine la_repW hA hs hst (by omega) (la_rd1 (a + 7) hq) ?_
  clear hA
  rintro ⟨cu, fi, ns, a1, a2, a3, a4, a5, a6⟩ hA
  refine br_t rfl ?_
  -- turn(s, q)
  refine la_turn hA hs hst hq Int32.zero_xor (cf_p_c q hq) (by omega) ?_
  clear hA
  rintro ⟨cu, fi, ns, a1, a2, a3, a4, a5, a6⟩ hA
  refine br_t rfl ?_
  -- tidy, written
  refine la_tidy hA (by omega) ?_
  clear hA
  rintro ⟨cu, fi, ns, a1, a2, a3, a4, a5, a6⟩ hA
  refine la_writ hA hs ht hst (v := 2) (by decide) (br_t rfl ?_)
  -- trim(s), read(s), sum
  refine la_trim hA hs hst (by omega) ?_
  clear hA
  rintro ⟨cu, fi, ns, a1, a2, a3, a4, a5, a6⟩ hA
  refine br_t rfl ?_
  refine la_read hA hs (la_rdg _ _) (br_t rfl ?_)
  refine la_sum hA hs ht hst (la_rdg _ _) (la_rd2 (b - 7) hq hp hqp) (v := 0) (by rw [la_po2, la_po3]; rfl) (br_t rfl ?_)
  -- power, read(s), trim(s), written
  refine la_power hA (by omega) ?_
  clear hA
  rintro ⟨cu, fi, ns, a1, a2, a3, a4, a5, a6⟩ hA
  refine la_read hA hs (la_rdg _ _) (br_t rfl ?_)
  refine la_trim2 hA hs (br_t rfl ?_)
  refine la_writ hA hs ht hst (v := 1) (by decide) (br_t rfl ?_)
  replace hA := la_sym hA
  -- turn(t, p)
  refine la_turn hA ht hts hp (cb_xx _ _) (cf_p_c q hq) (by omega) ?_
  clear hA
  rintro ⟨cu, fi, ns, a1, a2, a3, a4, a5, a6⟩ hA
  refine br_t rfl ?_
  -- read(t), repair(t)
  refine la_read hA ht (la_rd1 (b - 7) hq) (br_t rfl ?_)
  refine la_repW hA ht hts (by omega) (la_rd1 (b - 7) hq) ?_
  clear hA
  rintro ⟨cu, fi, ns, a1, a2, a3, a4, a5, a6⟩ hA
  refine br_t rfl ?_
  -- turn(t, p), damaged
  refine la_turn hA ht hts hp Int32.zero_xor (cf_p_c p hp) (by omega) ?_
  clear hA
  rintro ⟨cu, fi, ns, a1, a2, a3, a4, a5, a6⟩ hA
  refine br_t rfl ?_
  refine la_dam hA ht hs hts (la_rd1 (b - 7) hp) (la_rdg _ _) (v := 0) (by rw [la_dav, la_da2]; rfl) (br_t rfl ?_)
  -- write(t, a), turn(t, q), read(t), read(16)
  refine la_write hA ht hts (by omega) ?_
  clear hA
  rintro ⟨cu, fi, ns, a1, a2, a3, a4, a5, a6⟩ hA
  refine br_t rfl ?_
  refine la_turn hA ht hts hq Int32.zero_xor (cf_p_c q hq) (by omega) ?_
  clear hA
  rintro ⟨cu, fi, ns, a1, a2, a3, a4, a5, a6⟩ hA
  refine br_t rfl ?_
  refine la_read hA ht (la_rd1 a hq) (br_t rfl ?_)
  unfold wpX_read wpX_isSector
  exact br_f (by decide) (br_t (by decide) (br_t rfl (br_t rfl H)))
/-- the loop -/
theorem la_loop {post : Int32 → St0 → Prop} {mc ms kc ks : Nat} {a b st : Int32} {s t p q : Nat} (hs : s < 16) (ht : t < 16) (hst : s ≠ t) (hp : p < 22) (hq : q < 22) (hpq : p ≠ q) (H : post 1 ())
    {ws ts wt tt cu fi : Int32} {ns : Int64} {a1 a2 : Nat → Int32} {a3 : Nat → Int64} {a4 a5 a6 : Nat → Int32}
    (hA : la_A s t 11 1 ws ts 1 wt tt (cu, fi, ns, a1, a2, a3, a4, a5, a6)) :
    ∃ n, wL_lawOf_88 post mc ms a b st (nI s) (nI t) (nI p) (nI q) kc ks n 0 cu fi ns a1 a2 a3 a4 a5 a6 := by
  have hts : t ≠ s := fun z => hst z.symm
  refine pk_loop (fun n i (u : St2) => wL_lawOf_88 post mc ms a b st (nI s) (nI t) (nI p) (nI q) kc ks n (nI i) u.1 u.2.1 u.2.2.1 u.2.2.2.1 u.2.2.2.2.1 u.2.2.2.2.2.1 u.2.2.2.2.2.2.1 u.2.2.2.2.2.2.2.1 u.2.2.2.2.2.2.2.2)
    (fun i u => ∃ ws ts wt tt, la_A s t (11 + 26 * (i : Int)) 1 ws ts 1 wt tt u ∧ (i = 8 → ws = cf_en ((a + 7) &&& 65535) ∧ ts = cf_p q ∧ wt = cf_en ((b - 7) &&& 65535) ∧ tt = 0))
    8 0 (cu, fi, ns, a1, a2, a3, a4, a5, a6) (by omega) ⟨ws, ts, wt, tt, by rw [show (11 : Int) + 26 * ((0 : Nat) : Int) = 11 by decide]; exact hA, fun z => absurd z (by omega)⟩ ?_ ?_
  · clear hA
    rintro n ⟨cu, fi, ns, a1, a2, a3, a4, a5, a6⟩ ⟨ws, ts, wt, tt, hA, he⟩
    obtain ⟨rfl, rfl, rfl, rfl⟩ := he rfl
    exact la_tail hs ht hst hp hq hpq H (by omega) hA
  · clear hA
    rintro n i ⟨cu, fi, ns, a1, a2, a3, a4, a5, a6⟩ hi ⟨ws, ts, wt, tt, hA, he⟩ hw
    dsimp only at hw ⊢
    refine pk_le 8 i (fun z => absurd z (by omega)) (fun _ => ?_)
    -- write(s, a + i), write(t, b - i)
    refine la_write hA hs hst (by omega) ?_
    clear hA he
    rintro ⟨cu, fi, ns, a1, a2, a3, a4, a5, a6⟩ hA
    refine br_t rfl ?_
    refine la_write (la_sym hA) ht hts (by omega) ?_
    clear hA
    rintro ⟨cu, fi, ns, a1, a2, a3, a4, a5, a6⟩ hA
    refine br_t rfl ?_
    -- turn(s, p)
    refine la_turn (la_sym hA) hs hst hp Int32.zero_xor (cf_p_c p hp) (by omega) ?_
    clear hA
    rintro ⟨cu, fi, ns, a1, a2, a3, a4, a5, a6⟩ hA
    refine br_t rfl ?_
    -- tidy, read(s), read(t)
    refine la_tidy hA (by omega) ?_
    clear hA
    rintro ⟨cu, fi, ns, a1, a2, a3, a4, a5, a6⟩ hA
    refine la_read hA hs (la_rd1 _ hp) (br_t rfl ?_)
    refine la_read (la_sym hA) ht (la_rd0 _) (br_t rfl ?_)
    -- power, turn(s, q), read(s)
    refine la_power hA (by omega) ?_
    clear hA
    rintro ⟨cu, fi, ns, a1, a2, a3, a4, a5, a6⟩ hA
    refine la_turn hA hs hst hq rfl (cf_pq_c p hp q hq hpq) (by omega) ?_
    clear hA
    rintro ⟨cu, fi, ns, a1, a2, a3, a4, a5, a6⟩ hA
    refine br_t rfl ?_
    refine la_read hA hs (la_rd2 _ hp hq hpq) (br_t rfl ?_)
    -- turn(s, p), read(s)
    refine la_turn hA hs hst hp (cb_xy _ _) (cf_p_c q hq) (by omega) ?_
    clear hA
    rintro ⟨cu, fi, ns, a1, a2, a3, a4, a5, a6⟩ hA
    refine br_t rfl ?_
    refine la_read hA hs (la_rd1 _ hq) (br_t rfl (nm_r (nI_1 i) ?_))
    refine hw (cu, fi, ns, a1, a2, a3, a4, a5, a6) ⟨cf_en ((a + nI i) &&& 65535), cf_p q, cf_en ((b - nI i) &&& 65535), 0, ?_, fun e => ⟨?_, rfl, ?_, rfl⟩⟩
    · have e : (11 : Int) + 26 * (i : Int) + 5 + 5 + 16 = 11 + 26 * ((i + 1 : Nat) : Int) := by omega
      rw [← e]
      exact hA
    · rw [show i = 7 by omega]
      rfl
    · rw [show i = 7 by omega]
      rfl
theorem la_lawOf {post : Int32 → St0 → Prop} {mc ms : Nat} {p0 a b p3 st : Int32} (hmc : 7 ≤ mc) (hms : 185 ≤ ms) (H : post 1 ()) : wpL_lawOf post mc ms () p0 a b p3 st := by
  unfold wpL_lawOf
  refine ⟨by omega, by omega, 6, 176, by omega, by omega, fl_winit (by omega) (by omega) ?_⟩
  intro c f ns a1 a2 a3 a4 a5 a6 hJ hF hn
  obtain ⟨s, hs, es⟩ := pk_andE p0 (m := 15) 4 (by decide)
  obtain ⟨k, hk, ek⟩ := pk_andE p3 (m := 255) 8 (by decide)
  have hs : s < 16 := hs
  have hk : k < 256 := hk
  have ht : (s + 5) % 16 < 16 := Nat.mod_lt _ (by omega)
  have hst : s ≠ (s + 5) % 16 := by omega
  have hp : k % 22 < 22 := Nat.mod_lt _ (by omega)
  have hq : (k % 22 + 7) % 22 < 22 := Nat.mod_lt _ (by omega)
  have hpq : k % 22 ≠ (k % 22 + 7) % 22 := by omega
  have et : (nI s + 5) &&& 15 = nI ((s + 5) % 16) := by
    rw [show nI s + 5 = nI (s + 5) from nI_add s 5]
    exact pk_andN (by omega) 4 (by decide)
  have ep : (p3 &&& 255) - (p3 &&& 255) / 22 * 22 = nI (k % 22) := by
    rw [ek]
    exact pk_rem (d := 22) (by omega) (by omega) (by omega)
  have eq : (nI (k % 22) + 7) - (nI (k % 22) + 7) / 22 * 22 = nI ((k % 22 + 7) % 22) := by
    rw [show nI (k % 22) + 7 = nI (k % 22 + 7) from nI_add _ 7]
    exact pk_rem (d := 22) (by omega) (by omega) (by omega)
  refine nm_r es (nm_r et ⟨by decide, nm_r ep ⟨by decide, nm_r eq ?_⟩⟩)
  generalize (s + 5) % 16 = t at ht hst ⊢
  generalize (k % 22 + 7) % 22 = q at hq hpq ⊢
  generalize k % 22 = p at hp hpq ⊢
  have hts : t ≠ s := fun z => hst z.symm
  have hA : la_A s t 1 0 0 0 0 0 0 (nI c, nI f, ns, a1, a2, a3, a4, a5, a6) := ⟨c, f, _, _, _, rfl, rfl, hJ, hF, hn, ⟨rfl, rfl, rfl⟩, ⟨rfl, rfl, rfl⟩, fun _ _ _ _ => rfl⟩
  refine la_write hA hs hst (by omega) ?_
  clear hA hJ hF hn
  rintro ⟨cu, fi, ns, a1, a2, a3, a4, a5, a6⟩ hA
  refine br_t rfl ?_
  refine la_write (la_sym hA) ht hts (by omega) ?_
  clear hA
  rintro ⟨cu, fi, ns, a1, a2, a3, a4, a5, a6⟩ hA
  refine br_t rfl ?_
  replace hA := la_sym hA
  refine la_sum hA hs ht hst (la_rd0 a) (la_rd0 b) (by rw [la_pov, la_pov]) (br_t rfl ?_)
  exact la_loop hs ht hst hp hq hpq H hA
theorem la_cell {post : Int32 → Prop} {L : Nat} {xs : Nat → Int32} (hL : L ≤ 5) (k : Nat) (hk : k < 5) (h : ∀ r, post r) : wpL_cellAt post L xs () (nI k) :=
  pk_le L k (fun _ => h 0) (fun z => ⟨pk_in k L z, h _⟩)
theorem i_vc (xs : Nat → Int32) (L : Nat) (hL : L ≤ 5) : wpL_law (fun r => r = 1) L xs :=
  la_cell hL 0 (by omega) (fun r1 => la_cell hL 1 (by omega) (fun r2 => la_cell hL 2 (by omega) (fun r3 => la_cell hL 3 (by omega) (fun r4 => la_cell hL 4 (by omega) (fun r5 =>
    ⟨124, 1968, by omega, by omega, la_lawOf (by omega) (by omega) rfl⟩)))))
end
