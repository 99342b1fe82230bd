section
/-! ===== sets of small numbers as the bits of a long ===== -/
/-- the bits of x are the numbers of l -/
def bv_S (x : Int64) (l : List Nat) : Prop := ∀ i, i < 64 → (x.toBitVec.getLsbD i = true ↔ i ∈ l)
theorem bv_sm : ∀ n, n < 64 → (((nI n).toInt64 &&& 63).toBitVec.smod 64).toNat = n := by decide +kernel
theorem bv_tp : ∀ n, n < 64 → ((1 : Int64) <<< ((nI n).toInt64 &&& 63)).toBitVec = BitVec.twoPow 64 n := by decide +kernel
theorem bv_shr0 (x : Int64) {v : Nat} (hv : v < 64) : (x >>> ((nI v).toInt64 &&& 63)).toBitVec.getLsbD 0 = x.toBitVec.getLsbD v := by
  rw [Int64.toBitVec_shiftRight]
  show (x.toBitVec.sshiftRight (((nI v).toInt64 &&& 63).toBitVec.smod 64).toNat).getLsbD 0 = _
  rw [bv_sm v hv, BitVec.getLsbD_sshiftRight]
  simp [hv]
theorem bv_one (x : Int64) : x &&& 1 = if x.toBitVec.getLsbD 0 = true then 1 else 0 := by
  apply Int64.toBitVec_inj.mp
  rw [Int64.toBitVec_and]
  show x.toBitVec &&& 1#64 = _
  rw [BitVec.and_one_eq_setWidth_ofBool_getLsbD]
  cases x.toBitVec.getLsbD 0 <;> decide
theorem bv_bit (x : Int64) {v : Nat} (hv : v < 64) : (x >>> ((nI v).toInt64 &&& 63)) &&& 1 = if x.toBitVec.getLsbD v = true then 1 else 0 := by
  rw [bv_one, bv_shr0 x hv]
theorem bv_bit1 (x : Int64) {v : Nat} (hv : v < 64) : ((x >>> ((nI v).toInt64 &&& 63)) &&& 1) = 1 ↔ x.toBitVec.getLsbD v = true := by
  rw [bv_bit x hv]
  cases x.toBitVec.getLsbD v <;> decide
theorem bv_bitI (x : Int64) {v : Nat} (hv : v < 64) : ((x >>> ((nI v).toInt64 &&& 63)) &&& 1).toInt32 = nI (if x.toBitVec.getLsbD v = true then 1 else 0) := by
  rw [bv_bit x hv]
  cases x.toBitVec.getLsbD v <;> decide
theorem bv_congr {x : Int64} {l l' : List Nat} (hx : bv_S x l) (h : ∀ i, i ∈ l ↔ i ∈ l') : bv_S x l' :=
  fun i hi => (hx i hi).trans (h i)
theorem bv_zero : bv_S 0 [] := by
  intro i hi
  have e : (0 : Int64).toBitVec.getLsbD i = false := BitVec.getLsbD_zero
  rw [e]
  simp
theorem bv_or {x y : Int64} {l k : List Nat} (hx : bv_S x l) (hy : bv_S y k) : bv_S (x ||| y) (l ++ k) := by
  intro i hi
  rw [Int64.toBitVec_or, BitVec.getLsbD_or, Bool.or_eq_true, hx i hi, hy i hi, List.mem_append]
theorem bv_add {x : Int64} {l : List Nat} {v : Nat} (hv : v < 64) (hx : bv_S x l) : bv_S (x ||| ((1 : Int64) <<< ((nI v).toInt64 &&& 63))) (v :: l) := by
  intro i hi
  rw [Int64.toBitVec_or, bv_tp v hv, BitVec.getLsbD_or, BitVec.getLsbD_twoPow, Bool.or_eq_true, hx i hi, List.mem_cons]
  have e : (decide (v < 64) && decide (v = i)) = true ↔ i = v := by
    simp [hv, eq_comm]
  rw [e, or_comm]
theorem bv_del {x : Int64} {l l' : List Nat} {v : Nat} (hv : v < 64) (hx : bv_S x l) (h : ∀ i, i ∈ l' ↔ i ∈ l ∧ i ≠ v) : bv_S (x &&& (((1 : Int64) <<< ((nI v).toInt64 &&& 63)) ^^^ (-1))) l' := by
  intro i hi
  have ha : (-1 : Int64).toBitVec = BitVec.allOnes 64 := by decide
  rw [Int64.toBitVec_and, Int64.toBitVec_xor, bv_tp v hv, ha, BitVec.getLsbD_and, BitVec.getLsbD_xor, BitVec.getLsbD_twoPow, BitVec.getLsbD_allOnes, Bool.and_eq_true, hx i hi, h i]
  have e : ((decide (v < 64) && decide (v = i)) ^^ decide (i < 64)) = true ↔ i ≠ v := by
    by_cases z : v = i
    · subst z
      simp [hi]
    · rw [decide_eq_false z, decide_eq_true hi, Bool.and_false, Bool.false_xor]
      exact ⟨fun _ q => z q.symm, fun _ => rfl⟩
  rw [e]
theorem bv_and0 {x y : Int64} {l : List Nat} (hx : bv_S x l) (hl : ∀ i, i ∈ l → i < 64) : x &&& y = 0 ↔ ∀ i, i ∈ l → y.toBitVec.getLsbD i = false := by
  rw [← Int64.toBitVec_inj, Int64.toBitVec_and]
  constructor
  · intro h i hi
    have t := congrArg (fun z => z.getLsbD i) h
    have t' : (x.toBitVec &&& y.toBitVec).getLsbD i = false := t.trans BitVec.getLsbD_zero
    rw [BitVec.getLsbD_and, (hx i (hl i hi)).mpr hi, Bool.true_and] at t'
    exact t'
  · intro h
    apply BitVec.eq_of_getLsbD_eq
    intro i hi
    show (x.toBitVec &&& y.toBitVec).getLsbD i = (0#64).getLsbD i
    rw [BitVec.getLsbD_and, BitVec.getLsbD_zero]
    by_cases e : i ∈ l
    · rw [h i e, Bool.and_false]
    · have e2 : x.toBitVec.getLsbD i = false := by
        cases hb : x.toBitVec.getLsbD i
        · rfl
        · exact absurd ((hx i hi).mp hb) e
      rw [e2, Bool.false_and]
theorem bv_low1 : ∀ a, a < 64 → (BitVec.twoPow 64 a - 1#64).getLsbD a = false := by decide +kernel
theorem bv_low2 (x : BitVec 64) {i j : Nat} (hij : i < j) (hi : x.getLsbD i = true) (hj : x.getLsbD j = true) : (x - 1#64).getLsbD j = true := by
  have hi' : x.toNat.testBit i = true := hi
  have hj' : x.toNat.testBit j = true := hj
  have hx := x.isLt
  have hr : x.toNat % 2 ^ j ≠ 0 := by
    intro z
    have t := Nat.testBit_mod_two_pow x.toNat j i
    rw [z, Nat.zero_testBit, hi', decide_eq_true hij] at t
    exact absurd t (by decide)
  have hm := Nat.div_add_mod x.toNat (2 ^ j)
  have h0 : 1 ≤ x.toNat := Nat.le_trans (Nat.pos_of_ne_zero hr) (Nat.mod_le _ _)
  have hs : (x - 1#64).toNat = x.toNat - 1 := by
    rw [BitVec.toNat_sub]
    have : (1#64).toNat = 1 := rfl
    omega
  show (x - 1#64).toNat.testBit j = true
  rw [hs, Nat.testBit_eq_decide_div_mod_eq]
  rw [Nat.testBit_eq_decide_div_mod_eq] at hj'
  have hd : (x.toNat - 1) / 2 ^ j = x.toNat / 2 ^ j := by
    have hlt := Nat.mod_lt x.toNat (Nat.two_pow_pos j)
    apply Nat.div_eq_of_lt_le
    · rw [Nat.mul_comm]; omega
    · rw [Nat.mul_comm, Nat.mul_add, Nat.mul_one]; omega
  rw [hd]
  exact hj'
/-- at most one bit -/
theorem bv_lone {x : Int64} {l : List Nat} (hx : bv_S x l) (hn : l.Nodup) (hl : ∀ i, i ∈ l → i < 64) : (x &&& (x - 1)) = 0 ↔ l.length ≤ 1 := by
  have hs : (x - 1).toBitVec = x.toBitVec - 1#64 := Int64.toBitVec_sub
  rw [bv_and0 hx hl, hs]
  match l, hx, hn, hl with
  | [], _, _, _ => simp
  | [a], hx, _, hl =>
    have ha := hl a (List.mem_singleton.mpr rfl)
    have e : x.toBitVec = BitVec.twoPow 64 a := by
      apply BitVec.eq_of_getLsbD_eq
      intro i hi
      have := hx i hi
      rw [List.mem_singleton] at this
      rw [BitVec.getLsbD_twoPow, decide_eq_true ha, Bool.true_and]
      by_cases z : i = a
      · rw [this.mpr z, decide_eq_true z.symm]
      · rw [decide_eq_false (fun q => z q.symm)]
        cases hb : x.toBitVec.getLsbD i
        · rfl
        · exact absurd (this.mp hb) z
    constructor
    · intro _; simp
    · intro _ i hi
      rw [List.mem_singleton] at hi
      rw [hi, e]
      exact bv_low1 a ha
  | a :: b :: l', hx, hn, hl =>
    have ha := hl a (by simp)
    have hb := hl b (by simp)
    have xa : x.toBitVec.getLsbD a = true := (hx a ha).mpr (by simp)
    have xb : x.toBitVec.getLsbD b = true := (hx b hb).mpr (by simp)
    have hab : a ≠ b := by
      intro z
      rw [List.nodup_cons] at hn
      exact hn.1 (by simp [z])
    constructor
    · intro h
      rcases Nat.lt_or_gt_of_ne hab with z | z
      · have t := bv_low2 x.toBitVec z xa xb
        rw [h b (by simp)] at t
        exact absurd t (by decide)
      · have t := bv_low2 x.toBitVec z xb xa
        rw [h a (by simp)] at t
        exact absurd t (by decide)
    · intro h
      simp at h
/-! ===== counting ===== -/
def bv_cnt (p : Nat → Bool) : Nat → Nat
  | 0 => 0
  | n + 1 => bv_cnt p n + (if p n = true then 1 else 0)
theorem bv_cntL {p : Nat → Bool} : ∀ (N : Nat) (l : List Nat), (∀ i, i < N → (p i = true ↔ i ∈ l)) → l.Nodup → (∀ i, i ∈ l → i < N) → bv_cnt p N = l.length := by
  intro N
  induction N with
  | zero =>
    intro l _ _ hl
    cases l with
    | nil => rfl
    | cons a l => exact absurd (hl a (by simp)) (by omega)
  | succ N ih =>
    intro l hp hn hl
    by_cases h : N ∈ l
    · have t := ih (l.erase N) (fun i hi => by
        rw [hp i (by omega), hn.mem_erase_iff]
        constructor
        · intro z; exact ⟨by omega, z⟩
        · intro z; exact z.2) (hn.erase N) (fun i hi => by
        have t2 := hn.mem_erase_iff.mp hi
        have t3 := hl i t2.2
        have t4 := t2.1
        omega)
      have h0 : 0 < l.length := List.length_pos_of_mem h
      rw [bv_cnt, t, if_pos ((hp N (by omega)).mpr h), List.length_erase_of_mem h]
      omega
    · have t := ih l (fun i hi => hp i (by omega)) hn (fun i hi => by
        have t3 := hl i hi
        have : i ≠ N := fun z => h (z ▸ hi)
        omega)
      rw [bv_cnt, t, if_neg (fun z => h ((hp N (by omega)).mp z))]
      rfl
end
section
/-! ===== the law's own methods over sets: size, newest, expired ===== -/
theorem bv_size {post : Int32 → Prop} {x : Int64} {l : List Nat} (hx : bv_S x l) (hn : l.Nodup) (hl : ∀ i, i ∈ l → i < 62) (hp : post (nI l.length)) : wpL_size post () x :=
  pk_loop (σ := Unit) (fun n i _ => wL_size_4 post x n (nI (bv_cnt (fun j => x.toBitVec.getLsbD j) i)) (nI i)) (fun _ _ => True) 62 0 () (by omega) trivial
    (fun n _ _ => pk_le 62 62 (fun _ => by
      rw [bv_cntL 62 l (fun i hi => hx i (by omega)) hn hl]
      exact hp) (fun z => absurd z (by omega)))
    (fun n i _ hi _ hw => pk_le 62 i (fun z => absurd z (by omega)) (fun _ => nm_r (e' := nI (bv_cnt (fun j => x.toBitVec.getLsbD j) (i + 1))) (by
      rw [bv_bitI x (by omega), nI_add]
      rfl) (nm_r (nI_1 i) (hw () trivial))))
/-- what newest answers: the j-th of the numbers, n of them passed already -/
def bv_nv (fo : Int32) (n j : Nat) (l : List Nat) : Int32 := if n ≤ j then (match l[j - n]? with | some v => nI v | none => fo) else fo
theorem bv_nv_nil (fo : Int32) (n j : Nat) : bv_nv fo n j [] = fo := by
  unfold bv_nv
  split <;> simp
theorem bv_nv_eq (fo : Int32) (n : Nat) (c : Nat) (l : List Nat) : bv_nv fo n n (c :: l) = bv_nv (nI c) (n + 1) n l := by
  unfold bv_nv
  rw [if_pos (Nat.le_refl n), if_neg (by omega), Nat.sub_self]
  rfl
theorem bv_nv_ne (fo : Int32) {n j : Nat} (h : n ≠ j) (c : Nat) (l : List Nat) : bv_nv fo n j (c :: l) = bv_nv fo (n + 1) j l := by
  unfold bv_nv
  by_cases z : n ≤ j
  · rw [if_pos z, if_pos (by omega), show j - n = (j - (n + 1)) + 1 by omega, List.getElem?_cons_succ]
  · rw [if_neg z, if_neg (by omega)]
/-- a descending list's greatest number stands first -/
theorem bv_head {c : Nat} {l : List Nat} (hd : l.Pairwise (fun a b => b < a)) (hl : ∀ i, i ∈ l → i < c + 1) (hc : c ∈ l) : ∃ l', l = c :: l' ∧ l'.Pairwise (fun a b => b < a) ∧ (∀ i, i ∈ l' → i < c) := by
  cases l with
  | nil => cases hc
  | cons h l' =>
    rw [List.pairwise_cons] at hd
    have h1 := hl h (by simp)
    have e : h = c := by
      rcases List.mem_cons.mp hc with z | z
      · exact z.symm
      · have := hd.1 c z
        omega
    subst e
    exact ⟨l', rfl, hd.2, hd.1⟩
theorem bv_newL {post : Int32 → Prop} {x : Int64} {j : Nat} (hj : j < 100) : ∀ (c : Nat) (l : List Nat) (fo : Int32) (n : Nat), c ≤ 62 → n + c ≤ 62 → l.Pairwise (fun a b => b < a) → (∀ i, i < c → (x.toBitVec.getLsbD i = true ↔ i ∈ l)) → (∀ i, i ∈ l → i < c) → post (bv_nv fo n j l) → wL_newest_10 post x (nI j) (c + 1) fo (nI n) (nI c + (-1)) := by
  intro c
  induction c with
  | zero =>
    intro l fo n _ _ _ _ hl hp
    rw [wL_newest_10]
    refine br_t (by decide) ?_
    cases l with
    | nil => rw [bv_nv_nil] at hp; exact hp
    | cons a l => exact absurd (hl a (by simp)) (by omega)
  | succ c ih =>
    intro l fo n hc hn hd hx hl hp
    rw [wL_newest_10, pk_m1]
    refine br_f (nI_pos (by omega)) ?_
    by_cases h : c ∈ l
    · refine br_t ((bv_bit1 x (by omega)).mpr ((hx c (by omega)).mpr h)) ?_
      obtain ⟨l', e, hd', hl'⟩ := bv_head hd hl h
      have hx' : ∀ i, i < c → (x.toBitVec.getLsbD i = true ↔ i ∈ l') := by
        intro i hi
        rw [hx i (by omega), e, List.mem_cons]
        constructor
        · intro z
          rcases z with z | z
          · omega
          · exact z
        · exact fun z => Or.inr z
      rw [e] at hp
      refine pk_eq n j (fun z => ?_) (fun z => ?_)
      · rw [← z, bv_nv_eq] at hp
        refine nm_r (nI_1 n) (nm_e (ih l' (nI c) (n + 1) (by omega) (by omega) hd' hx' hl' ?_))
        rw [← z]
        exact hp
      · rw [bv_nv_ne fo z] at hp
        exact nm_r (nI_1 n) (nm_e (ih l' fo (n + 1) (by omega) (by omega) hd' hx' hl' hp))
    · refine br_f (fun z => h ((hx c (by omega)).mp ((bv_bit1 x (by omega)).mp z))) ?_
      refine nm_e (ih l fo n (by omega) (by omega) hd (fun i hi => hx i (by omega)) (fun i hi => ?_) hp)
      have t := hl i hi
      have : i ≠ c := fun z => h (z ▸ hi)
      omega
theorem bv_newest {post : Int32 → Prop} {x : Int64} {l : List Nat} {j : Nat} (hj : j < 100) (hx : bv_S x l) (hd : l.Pairwise (fun a b => b < a)) (hl : ∀ i, i ∈ l → i < 62) (hp : post (bv_nv (-7) 0 j l)) : wpL_newest post () x (nI j) :=
  ⟨63, bv_newL hj 62 l (-7) 0 (by omega) (by omega) hd (fun i hi => hx i (by omega)) hl hp⟩
/-- what stays of the numbers of a key that is cut to k: none, if what is left is a marker alone -/
def bv_ex (ob : Nat → Bool) (k : Nat) (l : List Nat) : List Nat := if (l.take k).length ≤ 1 ∧ (l.take k).all (fun i => !ob i) = true then [] else l.take k
theorem bv_expX {post : Int64 → Prop} {o z : Int64} {T : List Nat} (hz : bv_S z T) (hn : T.Nodup) (hl : ∀ i, i ∈ T → i < 62)
    (hp : ∀ r, bv_S r (if T.length ≤ 1 ∧ T.all (fun i => !o.toBitVec.getLsbD i) = true then [] else T) → post r) :
    (((z &&& (z - 1)) = 0 → ((((z &&& o) = 0 → (wL_expired_82 post z 1)) ∧ (¬ (z &&& o) = 0 → (wL_expired_81 post z))))) ∧ (¬ (z &&& (z - 1)) = 0 → (wL_expired_81 post z))) := by
  have hl' : ∀ i, i ∈ T → i < 64 := fun i hi => Nat.lt_trans (hl i hi) (by decide)
  have e2 : T.all (fun i => !o.toBitVec.getLsbD i) = true ↔ ∀ i, i ∈ T → o.toBitVec.getLsbD i = false := by
    rw [List.all_eq_true]
    simp only [Bool.not_eq_true']
  have keep : ¬ (T.length ≤ 1 ∧ T.all (fun i => !o.toBitVec.getLsbD i) = true) → wL_expired_81 post z := by
    intro h
    rw [if_neg h] at hp
    exact br_t rfl (hp z hz)
  refine br_c (fun h1 => br_c (fun h2 => ?_) (fun h2 => keep (fun q => ?_))) (fun h1 => keep (fun q => ?_))
  · have h1' := (bv_lone hz hn hl').mp h1
    have h2' := (bv_and0 hz hl').mp h2
    rw [if_pos ⟨h1', e2.mpr h2'⟩] at hp
    exact br_f (by decide) (hp 0 bv_zero)
  · exact h2 ((bv_and0 hz hl').mpr (e2.mp q.2))
  · exact h1 ((bv_lone hz hn hl').mpr q.1)
theorem bv_expL {post : Int64 → Prop} {x o : Int64} {k : Nat} (hk : k < 100)
    : ∀ (c : Nat) (l acc : List Nat) (y : Int64) (n : Nat), c ≤ 62 → n + c ≤ 62 → l.Pairwise (fun a b => b < a) → (∀ i, i < c → (x.toBitVec.getLsbD i = true ↔ i ∈ l)) → (∀ i, i ∈ l → i < c) → bv_S y acc →
    (∀ z, bv_S z (acc ++ l.take (k + 1 - n)) → (((z &&& (z - 1)) = 0 → ((((z &&& o) = 0 → (wL_expired_82 post z 1)) ∧ (¬ (z &&& o) = 0 → (wL_expired_81 post z))))) ∧ (¬ (z &&& (z - 1)) = 0 → (wL_expired_81 post z)))) →
    wL_expired_10 post x o (nI k) (c + 1) y (nI n) (nI c + (-1)) := by
  intro c
  induction c with
  | zero =>
    intro l acc y n _ _ _ _ hl hy hp
    rw [wL_expired_10]
    refine br_t (by decide) (hp y ?_)
    cases l with
    | nil => exact bv_congr hy (fun i => by simp)
    | cons a l => exact absurd (hl a (by simp)) (by omega)
  | succ c ih =>
    intro l acc y n hc hn hd hx hl hy hp
    rw [wL_expired_10, pk_m1]
    refine br_f (nI_pos (by omega)) ?_
    by_cases h : c ∈ l
    · refine br_t ((bv_bit1 x (by omega)).mpr ((hx c (by omega)).mpr h)) ?_
      obtain ⟨l', e, hd', hl'⟩ := bv_head hd hl h
      have hx' : ∀ i, i < c → (x.toBitVec.getLsbD i = true ↔ i ∈ l') := by
        intro i hi
        rw [hx i (by omega), e, List.mem_cons]
        constructor
        · intro z
          rcases z with z | z
          · omega
          · exact z
        · exact fun z => Or.inr z
      refine pk_lt k n (fun z => ?_) (fun z => ?_)
      · refine nm_r (nI_1 n) (nm_e (ih l' acc y (n + 1) (by omega) (by omega) hd' hx' hl' hy (fun r hr => hp r ?_)))
        rw [show k + 1 - n = 0 by omega]
        rw [show k + 1 - (n + 1) = 0 by omega] at hr
        exact bv_congr hr (fun i => by simp)
      · refine nm_e (nm_r (nI_1 n) (nm_e (ih l' (c :: acc) _ (n + 1) (by omega) (by omega) hd' hx' hl' (bv_add (by omega) hy) (fun r hr => hp r ?_))))
        rw [e, show k + 1 - n = (k + 1 - (n + 1)) + 1 by omega, List.take_succ_cons]
        refine bv_congr hr (fun i => ?_)
        simp only [List.mem_append, List.mem_cons]
        constructor
        · intro q
          rcases q with (q | q) | q
          · exact Or.inr (Or.inl q)
          · exact Or.inl q
          · exact Or.inr (Or.inr q)
        · intro q
          rcases q with q | q | q
          · exact Or.inl (Or.inr q)
          · exact Or.inl (Or.inl q)
          · exact Or.inr q
    · refine br_f (fun z => h ((hx c (by omega)).mp ((bv_bit1 x (by omega)).mp z))) ?_
      refine nm_e (ih l acc y n (by omega) (by omega) hd (fun i hi => hx i (by omega)) (fun i hi => ?_) hy hp)
      have t := hl i hi
      have : i ≠ c := fun z => h (z ▸ hi)
      omega
theorem bv_desc_nodup {l : List Nat} (hd : l.Pairwise (fun a b => b < a)) : l.Nodup := by
  refine List.Pairwise.imp ?_ hd
  intro a b h
  omega
theorem bv_expired {post : Int64 → Prop} {x o : Int64} {l : List Nat} {k : Nat} (hk : k < 100) (hx : bv_S x l) (hd : l.Pairwise (fun a b => b < a)) (hl : ∀ i, i ∈ l → i < 62)
    (hp : ∀ r, bv_S r (bv_ex (fun i => o.toBitVec.getLsbD i) (k + 1) l) → post r) : wpL_expired post () x o (nI k) := by
  refine ⟨63, bv_expL hk 62 l [] 0 0 (by omega) (by omega) hd (fun i hi => hx i (by omega)) hl bv_zero (fun z hz => ?_)⟩
  refine bv_expX (T := l.take (k + 1)) (by simpa using hz) (bv_desc_nodup (hd.sublist (List.take_sublist _ _))) (fun i hi => hl i (List.mem_of_mem_take hi)) hp
end
section
/-! ===== the directory's picture: which keys are there (a mask), their chains of slots ===== -/
def bk_kv (w : Nat) : Nat := if w = 0 then 343 else if w = 1 then 2058 else if w = 2 then 637 else 2303
def bk_dir (m : Nat) : List Nat := [0, 2, 1, 3].filter (fun w => m.testBit w)
def bk_n (m : Nat) : Nat := (bk_dir m).length
def bk_at (m i : Nat) : Nat := (bk_dir m).getD i 4
def bk_pos (m w : Nat) : Nat := ((bk_dir m).filter (fun u => decide (bk_kv u < bk_kv w))).length
theorem bk_kv_lt (w : Nat) : bk_kv w ≤ 2303 := by
  unfold bk_kv
  (repeat' split) <;> omega
theorem bk_f0 : ∀ m, m < 16 → bk_n m ≤ 4 := by decide +kernel
theorem bk_f1 : ∀ m, m < 16 → ∀ i, i < bk_n m → bk_at m i < 4 ∧ m.testBit (bk_at m i) = true := by decide +kernel
theorem bk_f2 : ∀ m, m < 16 → ∀ w, w < 4 → m.testBit w = true → bk_pos m w < bk_n m ∧ bk_at m (bk_pos m w) = w := by decide +kernel
theorem bk_f3 : ∀ m, m < 16 → ∀ w, w < 4 → bk_pos m w ≤ bk_n m ∧ (∀ i, i < bk_pos m w → bk_kv (bk_at m i) < bk_kv w) ∧ (∀ i, i < bk_n m → bk_pos m w ≤ i → bk_kv w ≤ bk_kv (bk_at m i)) := by decide +kernel
theorem bk_f4 : ∀ m, m < 16 → ∀ w, w < 4 → m.testBit w = false → m + 2 ^ w < 16 ∧ bk_n (m + 2 ^ w) = bk_n m + 1 ∧ (∀ i, i < bk_n m + 1 → bk_at (m + 2 ^ w) i = if i < bk_pos m w then bk_at m i else if i = bk_pos m w then w else bk_at m (i - 1)) ∧ (∀ u, u < 4 → (m + 2 ^ w).testBit u = (decide (u = w) || m.testBit u)) := by decide +kernel
theorem bk_f5 : ∀ m, m < 16 → ∀ p, p < bk_n m → m - 2 ^ (bk_at m p) < 16 ∧ bk_n (m - 2 ^ (bk_at m p)) + 1 = bk_n m ∧ (∀ i, i < bk_n (m - 2 ^ (bk_at m p)) → bk_at (m - 2 ^ (bk_at m p)) i = if i < p then bk_at m i else bk_at m (i + 1)) ∧ (∀ u, u < 4 → (m - 2 ^ (bk_at m p)).testBit u = (!decide (u = bk_at m p) && m.testBit u)) := by decide +kernel
theorem bk_f6 : ∀ m, m < 16 → ∀ i, i < bk_n m → ∀ j, j < bk_n m → bk_at m i = bk_at m j → i = j := by decide +kernel
theorem bk_f7 : ∀ m, m < 16 → ∀ w, w < 4 → m.testBit w = false → bk_pos m w < bk_n m → bk_kv (bk_at m (bk_pos m w)) ≠ bk_kv w := by decide +kernel
/-! chains -/
def bk_ch (f : Nat → Int32) : List Nat → Int32 → Prop
  | [], x => x = -1
  | v :: l, x => x = nI v ∧ bk_ch f l (f v)
theorem bk_ch_fr {f g : Nat → Int32} : ∀ {l : List Nat} {x : Int32}, (∀ v, v ∈ l → g v = f v) → bk_ch f l x → bk_ch g l x := by
  intro l
  induction l with
  | nil => exact fun _ h => h
  | cons v l ih =>
    intro x hv h
    refine ⟨h.1, ?_⟩
    rw [hv v (by simp)]
    exact ih (fun u hu => hv u (List.mem_cons_of_mem _ hu)) h.2
/-- a slot behind another is taken out of a chain -/
theorem bk_ch_del {f : Nat → Int32} {u v : Nat} {l2 : List Nat} : ∀ {l0 : List Nat} {x : Int32}, (l0 ++ u :: v :: l2).Nodup → bk_ch f (l0 ++ u :: v :: l2) x → bk_ch (upd f u (f v)) (l0 ++ u :: l2) x := by
  intro l0
  induction l0 with
  | nil =>
    intro x hn h
    have hn' : (u :: v :: l2).Nodup := hn
    rw [List.nodup_cons] at hn'
    obtain ⟨h1, h2, h3⟩ := h
    refine ⟨h1, ?_⟩
    rw [pk_us]
    refine bk_ch_fr (fun y hy => pk_un ?_) h3
    intro e
    exact hn'.1 (by rw [← e]; exact List.mem_cons_of_mem _ hy)
  | cons a l0 ih =>
    intro x hn h
    have hn' : (a :: (l0 ++ u :: v :: l2)).Nodup := hn
    rw [List.nodup_cons] at hn'
    obtain ⟨h1, h2⟩ := h
    refine ⟨h1, ?_⟩
    rw [pk_un (fun e => hn'.1 (by rw [e]; simp))]
    exact ih hn'.2 h2
/-- a chain is cut behind a slot -/
theorem bk_ch_cut {f : Nat → Int32} {u : Nat} {l2 : List Nat} : ∀ {l0 : List Nat} {x : Int32}, (l0 ++ u :: l2).Nodup → bk_ch f (l0 ++ u :: l2) x → bk_ch (upd f u (-1)) (l0 ++ [u]) x := by
  intro l0
  induction l0 with
  | nil =>
    intro x hn h
    exact ⟨h.1, pk_us⟩
  | cons a l0 ih =>
    intro x hn h
    have hn' : (a :: (l0 ++ u :: l2)).Nodup := hn
    rw [List.nodup_cons] at hn'
    obtain ⟨h1, h2⟩ := h
    refine ⟨h1, ?_⟩
    rw [pk_un (fun e => hn'.1 (by rw [e]; simp))]
    exact ih hn'.2 h2
/-- the chain from a slot on -/
theorem bk_ch_tail {f : Nat → Int32} {u : Nat} {l2 : List Nat} : ∀ {l0 : List Nat} {x : Int32}, bk_ch f (l0 ++ u :: l2) x → bk_ch f l2 (f u) := by
  intro l0
  induction l0 with
  | nil => exact fun h => h.2
  | cons a l0 ih => exact fun h => ih h.2
/-! the chains together -/
def bk_G (C : Nat → List Nat) : Prop := (∀ w, w < 4 → (C w).Nodup) ∧ (∀ w, w < 4 → ∀ v, v ∈ C w → v < 24) ∧ (∀ w u v, w < 4 → u < 4 → v ∈ C w → v ∈ C u → w = u)
def bk_tl (C : Nat → List Nat) : Nat := (C 0).length + (C 1).length + (C 2).length + (C 3).length
def bk_U (C : Nat → List Nat) (a3 : Nat → Int32) : Prop := ∀ v, v < 24 → ((∃ w, w < 4 ∧ v ∈ C w) → a3 v = 1) ∧ ((∀ w, w < 4 → v ∉ C w) → a3 v = 0)
def bk_R (m : Nat) (C : Nat → List Nat) (a1 a2 a7 : Nat → Int32) : Prop := ∀ i, i < bk_n m → a1 i = nI (bk_kv (bk_at m i)) ∧ bk_ch a7 (C (bk_at m i)) (a2 i)
/-- the directory's invariant -/
def bk_K (m : Nat) (C : Nat → List Nat) (ke th : Int32) (a1 a2 a3 a7 : Nat → Int32) : Prop :=
  m < 16 ∧ (∀ w, w < 4 → (m.testBit w = true ↔ C w ≠ [])) ∧ bk_G C ∧ bk_tl C ≤ 24 ∧ ke = nI (bk_n m) ∧ th = nI (bk_tl C) ∧ bk_R m C a1 a2 a7 ∧ bk_U C a3
def bk_cu (C : Nat → List Nat) (w : Nat) (l : List Nat) : Nat → List Nat := fun u => if u = w then l else C u
theorem bk_cu_s {C : Nat → List Nat} {w : Nat} {l : List Nat} : bk_cu C w l w = l := if_pos rfl
theorem bk_cu_n {C : Nat → List Nat} {w u : Nat} {l : List Nat} (h : u ≠ w) : bk_cu C w l u = C u := if_neg h
theorem bk_cu_id {C : Nat → List Nat} {w : Nat} : bk_cu C w (C w) = C := by
  funext u
  unfold bk_cu
  split
  · rename_i h; rw [h]
  · rfl
theorem bk_4 {w : Nat} (h : w < 4) : w = 0 ∨ w = 1 ∨ w = 2 ∨ w = 3 := by omega
theorem bk_tl_cu {C : Nat → List Nat} {w : Nat} {l : List Nat} (hw : w < 4) : bk_tl (bk_cu C w l) + (C w).length = bk_tl C + l.length := by
  unfold bk_tl
  rcases bk_4 hw with e | e | e | e
  · subst e
    rw [bk_cu_s, bk_cu_n (by omega), bk_cu_n (by omega), bk_cu_n (by omega)]; omega
  · subst e
    rw [bk_cu_s, bk_cu_n (by omega), bk_cu_n (by omega), bk_cu_n (by omega)]; omega
  · subst e
    rw [bk_cu_s, bk_cu_n (by omega), bk_cu_n (by omega), bk_cu_n (by omega)]; omega
  · subst e
    rw [bk_cu_s, bk_cu_n (by omega), bk_cu_n (by omega), bk_cu_n (by omega)]; omega
theorem bk_len_tl {C : Nat → List Nat} {w : Nat} (hw : w < 4) : (C w).length ≤ bk_tl C := by
  unfold bk_tl
  rcases bk_4 hw with e | e | e | e <;> subst e <;> omega
theorem bk_G_sub {C : Nat → List Nat} {w : Nat} {l : List Nat} (hw : w < 4) (g : bk_G C) (hs : l.Sublist (C w)) : bk_G (bk_cu C w l) := by
  obtain ⟨g1, g2, g3⟩ := g
  have hsub : ∀ u v, v ∈ bk_cu C w l u → v ∈ C u := by
    intro u v hv
    by_cases e : u = w
    · subst e; rw [bk_cu_s] at hv; exact hs.subset hv
    · rw [bk_cu_n e] at hv; exact hv
  refine ⟨fun u hu => ?_, fun u hu v hv => g2 u hu v (hsub u v hv), fun u u' v hu hu' h h' => g3 u u' v hu hu' (hsub u v h) (hsub u' v h')⟩
  by_cases e : u = w
  · subst e; rw [bk_cu_s]; exact (g1 u hu).sublist hs
  · rw [bk_cu_n e]; exact g1 u hu
theorem bk_G_cons {C : Nat → List Nat} {w v : Nat} (hw : w < 4) (g : bk_G C) (hv : v < 24) (hf : ∀ u, u < 4 → v ∉ C u) : bk_G (bk_cu C w (v :: C w)) := by
  obtain ⟨g1, g2, g3⟩ := g
  have hsub : ∀ u y, y ∈ bk_cu C w (v :: C w) u → (u = w ∧ y = v) ∨ y ∈ C u := by
    intro u y hy
    by_cases e : u = w
    · subst e
      rw [bk_cu_s] at hy
      rcases List.mem_cons.mp hy with z | z
      · exact Or.inl ⟨rfl, z⟩
      · exact Or.inr z
    · rw [bk_cu_n e] at hy; exact Or.inr hy
  refine ⟨fun u hu => ?_, fun u hu y hy => ?_, fun u u' y hu hu' h h' => ?_⟩
  · by_cases e : u = w
    · subst e; rw [bk_cu_s]; exact List.nodup_cons.mpr ⟨hf u hu, g1 u hu⟩
    · rw [bk_cu_n e]; exact g1 u hu
  · rcases hsub u y hy with z | z
    · rw [z.2]; exact hv
    · exact g2 u hu y z
  · rcases hsub u y h with z | z
    · rcases hsub u' y h' with z' | z'
      · rw [z.1, z'.1]
      · exact absurd (z.2 ▸ z') (hf u' hu')
    · rcases hsub u' y h' with z' | z'
      · exact absurd (z'.2 ▸ z) (hf u hu)
      · exact g3 u u' y hu hu' z z'
theorem bk_U_cons {C : Nat → List Nat} {a3 : Nat → Int32} {w v : Nat} (hw : w < 4) (h : bk_U C a3) : bk_U (bk_cu C w (v :: C w)) (upd a3 v 1) := by
  intro y hy
  constructor
  · intro ⟨u, hu, hm⟩
    by_cases e : y = v
    · rw [e, pk_us]
    · rw [pk_un e]
      refine (h y hy).1 ⟨u, hu, ?_⟩
      by_cases e2 : u = w
      · subst e2
        rw [bk_cu_s] at hm
        rcases List.mem_cons.mp hm with z | z
        · exact absurd z e
        · exact z
      · rw [bk_cu_n e2] at hm; exact hm
  · intro hn
    have e : y ≠ v := by
      intro e
      apply hn w hw
      rw [bk_cu_s, e]
      simp
    rw [pk_un e]
    refine (h y hy).2 (fun u hu hm => hn u hu ?_)
    by_cases e2 : u = w
    · subst e2
      rw [bk_cu_s]
      exact List.mem_cons_of_mem _ hm
    · rw [bk_cu_n e2]; exact hm
theorem bk_U_cut {C : Nat → List Nat} {a3 c3 : Nat → Int32} {w : Nat} {l D : List Nat} (hw : w < 4) (g : bk_G C) (h : bk_U C a3) (hs : ∀ v, v ∈ C w ↔ v ∈ l ∨ v ∈ D) (hd : ∀ v, v ∈ l → v ∉ D)
    (h0 : ∀ j, j < 24 → j ∈ D → c3 j = 0) (h1 : ∀ j, j < 24 → j ∉ D → c3 j = a3 j) : bk_U (bk_cu C w l) c3 := by
  intro y hy
  constructor
  · intro ⟨u, hu, hm⟩
    by_cases e2 : u = w
    · subst e2
      rw [bk_cu_s] at hm
      rw [h1 y hy (hd y hm)]
      exact (h y hy).1 ⟨u, hu, (hs y).mpr (Or.inl hm)⟩
    · rw [bk_cu_n e2] at hm
      rw [h1 y hy (fun z => e2 (g.2.2 u w y hu hw hm ((hs y).mpr (Or.inr z))))]
      exact (h y hy).1 ⟨u, hu, hm⟩
  · intro hn
    by_cases e : y ∈ D
    · exact h0 y hy e
    · rw [h1 y hy e]
      refine (h y hy).2 (fun u hu hm => hn u hu ?_)
      by_cases e2 : u = w
      · subst e2
        rw [bk_cu_s]
        rcases (hs y).mp hm with z | z
        · exact z
        · exact absurd z e
      · rw [bk_cu_n e2]; exact hm
/-- some slot is free -/
theorem bk_free {C : Nat → List Nat} (g : bk_G C) (ht : bk_tl C < 24) : ∃ v, v < 24 ∧ ∀ u, u < 4 → v ∉ C u := by
  apply Classical.byContradiction
  intro hc
  have hall : ∀ v, v < 24 → v ∈ C 0 ++ C 1 ++ C 2 ++ C 3 := by
    intro v hv
    apply Classical.byContradiction
    intro hn
    refine hc ⟨v, hv, fun u hu hm => hn ?_⟩
    rcases bk_4 hu with e | e | e | e <;> subst e <;> simp [hm]
  have t := List.Nodup.length_le_of_subset (l₁ := List.range 24) (l₂ := C 0 ++ C 1 ++ C 2 ++ C 3) List.nodup_range (fun v hv => hall v (List.mem_range.mp hv))
  simp only [List.length_range, List.length_append] at t
  unfold bk_tl at ht
  omega
/-- a key that isn't there gets its first version -/
theorem bk_K_ins {m : Nat} {C : Nat → List Nat} {ke th : Int32} {a1 a2 a3 a7 c1 c2 : Nat → Int32} {w v : Nat} (k : bk_K m C ke th a1 a2 a3 a7) (hw : w < 4) (hb : m.testBit w = false) (hv : v < 24) (hf : ∀ u, u < 4 → v ∉ C u) (ht : bk_tl C < 24)
    (p1 : ∀ j, j < bk_pos m w → c1 j = a1 j ∧ c2 j = a2 j) (p2 : c1 (bk_pos m w) = nI (bk_kv w) ∧ c2 (bk_pos m w) = nI v) (p3 : ∀ j, bk_pos m w < j → j ≤ bk_n m → c1 j = a1 (j - 1) ∧ c2 j = a2 (j - 1)) :
    bk_K (m + 2 ^ w) (bk_cu C w (v :: C w)) (ke + 1) (th + 1) c1 c2 (upd a3 v 1) (upd a7 v (-1)) := by
  obtain ⟨k1, k2, k3, k4, k5, k6, k7, k8⟩ := k
  obtain ⟨f1, f2, f3, f4⟩ := bk_f4 m k1 w hw hb
  have hC : C w = [] := by
    apply Classical.byContradiction
    intro z
    have := (k2 w hw).mpr z
    rw [hb] at this
    exact absurd this (by decide)
  have tl := bk_tl_cu (C := C) (l := v :: C w) hw
  have tl' : bk_tl (bk_cu C w (v :: C w)) = bk_tl C + 1 := by
    rw [List.length_cons] at tl
    omega
  have hrow : ∀ j, j < bk_n m → bk_at m j ≠ w := by
    intro j hj e
    have := (bk_f1 m k1 j hj).2
    rw [e, hb] at this
    exact absurd this (by decide)
  have old : ∀ j, j < bk_n m → a1 j = nI (bk_kv (bk_at m j)) ∧ bk_ch (upd a7 v (-1)) (bk_cu C w (v :: C w) (bk_at m j)) (a2 j) := by
    intro j hj
    obtain ⟨r1, r2⟩ := k7 j hj
    refine ⟨r1, ?_⟩
    rw [bk_cu_n (hrow j hj)]
    refine bk_ch_fr (fun y hy => pk_un ?_) r2
    intro e
    exact hf _ (bk_f1 m k1 j hj).1 (e ▸ hy)
  refine ⟨f1, ?_, bk_G_cons hw k3 hv hf, by omega, ?_, ?_, ?_, bk_U_cons hw k8⟩
  · intro u hu
    rw [f4 u hu]
    by_cases e : u = w
    · subst e
      rw [bk_cu_s]
      simp
    · rw [bk_cu_n e, decide_eq_false e, Bool.false_or]
      exact k2 u hu
  · rw [k5, f2, nI_1]
  · rw [k6, tl', nI_1]
  · intro i hi
    rw [f2] at hi
    rw [f3 i hi]
    by_cases e1 : i < bk_pos m w
    · rw [if_pos e1, (p1 i e1).1, (p1 i e1).2]
      have := (bk_f3 m k1 w hw).1
      exact old i (by omega)
    · rw [if_neg e1]
      by_cases e2 : i = bk_pos m w
      · rw [if_pos e2, e2, p2.1, p2.2, bk_cu_s, hC]
        exact ⟨rfl, rfl, pk_us⟩
      · rw [if_neg e2, (p3 i (by omega) (by omega)).1, (p3 i (by omega) (by omega)).2]
        exact old (i - 1) (by omega)
/-- a key that is there gets a newer version -/
theorem bk_K_add {m : Nat} {C : Nat → List Nat} {ke th : Int32} {a1 a2 a3 a7 : Nat → Int32} {w v : Nat} (k : bk_K m C ke th a1 a2 a3 a7) (hw : w < 4) (hb : m.testBit w = true) (hv : v < 24) (hf : ∀ u, u < 4 → v ∉ C u) (ht : bk_tl C < 24) :
    bk_K m (bk_cu C w (v :: C w)) ke (th + 1) a1 (upd a2 (bk_pos m w) (nI v)) (upd a3 v 1) (upd a7 v (a2 (bk_pos m w))) := by
  obtain ⟨k1, k2, k3, k4, k5, k6, k7, k8⟩ := k
  obtain ⟨f1, f2⟩ := bk_f2 m k1 w hw hb
  have tl := bk_tl_cu (C := C) (l := v :: C w) hw
  have tl' : bk_tl (bk_cu C w (v :: C w)) = bk_tl C + 1 := by
    rw [List.length_cons] at tl
    omega
  refine ⟨k1, ?_, bk_G_cons hw k3 hv hf, by omega, k5, ?_, ?_, bk_U_cons hw k8⟩
  · intro u hu
    by_cases e : u = w
    · subst e
      rw [bk_cu_s, hb]
      simp
    · rw [bk_cu_n e]
      exact k2 u hu
  · rw [k6, tl', nI_1]
  · intro i hi
    obtain ⟨r1, r2⟩ := k7 i hi
    refine ⟨r1, ?_⟩
    have fr : ∀ u, u < 4 → ∀ y, y ∈ C u → upd a7 v (a2 (bk_pos m w)) y = a7 y := by
      intro u hu y hy
      refine pk_un ?_
      intro e
      exact hf u hu (e ▸ hy)
    by_cases e : i = bk_pos m w
    · rw [e, f2, pk_us, bk_cu_s]
      refine ⟨rfl, ?_⟩
      rw [pk_us]
      rw [e, f2] at r2
      exact bk_ch_fr (fr w hw) r2
    · rw [pk_un e, bk_cu_n (fun z => e (bk_f6 m k1 i hi _ f1 (z.trans f2.symm)))]
      exact bk_ch_fr (fr _ (bk_f1 m k1 i hi).1) r2
/-- a chain loses slots, but not all -/
theorem bk_K_cut {m : Nat} {C : Nat → List Nat} {ke th : Int32} {a1 a2 a3 a7 c2 c3 c7 : Nat → Int32} {p : Nat} {l D : List Nat} (k : bk_K m C ke th a1 a2 a3 a7) (hp : p < bk_n m) (hl : l ≠ []) (hs : l.Sublist (C (bk_at m p)))
    (hD : ∀ v, v ∈ C (bk_at m p) ↔ v ∈ l ∨ v ∈ D) (hd : ∀ v, v ∈ l → v ∉ D) (h0 : ∀ j, j < 24 → j ∈ D → c3 j = 0) (h1 : ∀ j, j < 24 → j ∉ D → c3 j = a3 j)
    (hc : bk_ch c7 l (c2 p)) (h2 : ∀ i, i < bk_n m → i ≠ p → c2 i = a2 i) (h7 : ∀ v, v ∉ C (bk_at m p) → c7 v = a7 v) :
    bk_K m (bk_cu C (bk_at m p) l) ke (nI (bk_tl (bk_cu C (bk_at m p) l))) a1 c2 c3 c7 := by
  obtain ⟨k1, k2, k3, k4, k5, k6, k7, k8⟩ := k
  obtain ⟨f1, f2⟩ := bk_f1 m k1 p hp
  have tl := bk_tl_cu (C := C) (l := l) f1
  have tl2 := hs.length_le
  refine ⟨k1, ?_, bk_G_sub f1 k3 hs, by omega, k5, rfl, ?_, bk_U_cut f1 k3 k8 hD hd h0 h1⟩
  · intro u hu
    by_cases e : u = bk_at m p
    · subst e
      rw [bk_cu_s, f2]
      exact ⟨fun _ => hl, fun _ => rfl⟩
    · rw [bk_cu_n e]
      exact k2 u hu
  · intro i hi
    obtain ⟨r1, r2⟩ := k7 i hi
    refine ⟨r1, ?_⟩
    by_cases e : i = p
    · subst e
      rw [bk_cu_s]
      exact hc
    · have e2 : bk_at m i ≠ bk_at m p := fun z => e (bk_f6 m k1 i hi p hp z)
      rw [bk_cu_n e2, h2 i hi e]
      refine bk_ch_fr (fun v hv => h7 v (fun z => e2 ?_)) r2
      exact k3.2.2 _ _ v (bk_f1 m k1 i hi).1 f1 hv z
/-- a key goes with its chain -/
theorem bk_K_drop {m : Nat} {C : Nat → List Nat} {ke th : Int32} {a1 a2 a3 a7 c1 c2 c3 c7 : Nat → Int32} {p : Nat} (k : bk_K m C ke th a1 a2 a3 a7) (hp : p < bk_n m)
    (h0 : ∀ j, j < 24 → j ∈ C (bk_at m p) → c3 j = 0) (h1 : ∀ j, j < 24 → j ∉ C (bk_at m p) → c3 j = a3 j)
    (p1 : ∀ j, j < p → c1 j = a1 j ∧ c2 j = a2 j) (p2 : ∀ j, p ≤ j → j + 1 < bk_n m → c1 j = a1 (j + 1) ∧ c2 j = a2 (j + 1)) (h7 : ∀ v, v ∉ C (bk_at m p) → c7 v = a7 v) :
    bk_K (m - 2 ^ (bk_at m p)) (bk_cu C (bk_at m p) []) (nI (bk_n m - 1)) (nI (bk_tl (bk_cu C (bk_at m p) []))) c1 c2 c3 c7 := by
  obtain ⟨k1, k2, k3, k4, k5, k6, k7, k8⟩ := k
  obtain ⟨f1, f2⟩ := bk_f1 m k1 p hp
  obtain ⟨q1, q2, q3, q4⟩ := bk_f5 m k1 p hp
  have tl := bk_tl_cu (C := C) (l := []) f1
  rw [List.length_nil] at tl
  have row : ∀ j, j < bk_n m → j ≠ p → a1 j = nI (bk_kv (bk_at m j)) ∧ bk_ch c7 (bk_cu C (bk_at m p) [] (bk_at m j)) (a2 j) := by
    intro i hi e
    obtain ⟨r1, r2⟩ := k7 i hi
    have e2 : bk_at m i ≠ bk_at m p := fun z => e (bk_f6 m k1 i hi p hp z)
    rw [bk_cu_n e2]
    refine ⟨r1, bk_ch_fr (fun v hv => h7 v (fun z => e2 ?_)) r2⟩
    exact k3.2.2 _ _ v (bk_f1 m k1 i hi).1 f1 hv z
  refine ⟨q1, ?_, bk_G_sub f1 k3 (List.nil_sublist _), by omega, ?_, rfl, ?_, bk_U_cut (D := C (bk_at m p)) f1 k3 k8 (fun v => by simp) (fun v hv => by cases hv) h0 h1⟩
  · intro u hu
    rw [q4 u hu]
    by_cases e : u = bk_at m p
    · rw [e, bk_cu_s]
      simp
    · rw [bk_cu_n e, decide_eq_false e, Bool.not_false, Bool.true_and]
      exact k2 u hu
  · rw [show bk_n m - 1 = bk_n (m - 2 ^ (bk_at m p)) by omega]
  · intro i hi
    rw [q3 i hi]
    by_cases e : i < p
    · rw [if_pos e, (p1 i e).1, (p1 i e).2]
      exact row i (by omega) (by omega)
    · rw [if_neg e, (p2 i (by omega) (by omega)).1, (p2 i (by omega) (by omega)).2]
      exact row (i + 1) (by omega) (by omega)
end
section
/-! ===== seek, placeOf, freeVersion, addVersion ===== -/
section
variable {ty bu ke ma th : Int32} {a1 a2 a3 a4 a5 a6 a7 a8 a9 a10 : Nat → Int32}
theorem bk_seek {post : Int32 → Prop} {g : Nat → Nat} {n q k : Nat} (hn : n ≤ 24) (hg : ∀ i, i < n → a1 i = nI (g i)) (hb : ∀ i, i < n → g i < 2 ^ 31) (hk : k < 2 ^ 31) (hq : q ≤ n) (h1 : ∀ i, i < q → g i < k) (h2 : ∀ i, i < n → q ≤ i → k ≤ g i) (hp : post (nI q)) :
    wpX_seek post (ty, bu, nI n, ma, th, a1, a2, a3, a4, a5, a6, a7, a8, a9, a10) (nI k) := by
  have L : ∀ d lo hi, hi - lo ≤ d → lo ≤ q → q ≤ hi → hi ≤ n → wX_seek_7 post (nI k) ty bu (nI n) ma th a1 a2 a3 a4 a5 a6 a7 a8 a9 a10 (d + 1) (nI lo) (nI hi) := by
    intro d
    induction d with
    | zero =>
      intro lo hi hd h3 h4 h5
      rw [wX_seek_7]
      refine br_t (nI_le (by omega) (by omega)) ?_
      rw [show lo = q by omega]
      exact hp
    | succ d ih =>
      intro lo hi hd h3 h4 h5
      rw [wX_seek_7]
      refine pk_le hi lo (fun z => ?_) (fun z => ⟨by decide, nm_r (e' := nI ((lo + hi) / 2)) (by rw [nI_add]; exact pk_div (d := 2) (by omega) (by omega) (by omega)) ⟨pk_in ((lo + hi) / 2) 24 (by omega), ?_⟩⟩)
      · rw [show lo = q by omega]
        exact hp
      · rw [nI_clamp (show (lo + hi) / 2 < 2 ^ 31 by omega), hg _ (show (lo + hi) / 2 < n by omega)]
        have hbb := hb ((lo + hi) / 2) (by omega)
        refine pk_le k (g ((lo + hi) / 2)) (fun z2 => ih _ _ (by omega) h3 ?_ (by omega)) (fun z2 => nm_r (nI_1 _) (ih _ _ (by omega) ?_ h4 h5))
        · rcases Nat.lt_or_ge ((lo + hi) / 2) q with z3 | z3
          · have := h1 _ z3
            omega
          · exact z3
        · rcases Nat.lt_or_ge ((lo + hi) / 2) q with z3 | z3
          · exact z3
          · have := h2 _ (by omega) z3
            omega
  exact ⟨n + 1, L n 0 n (by omega) (by omega) hq (by omega)⟩
theorem bk_seekM {post : Int32 → Prop} {m q k : Nat} (hm : m < 16) (hke : ke = nI (bk_n m)) (ha : ∀ i, i < bk_n m → a1 i = nI (bk_kv (bk_at m i))) (hk : k < 2 ^ 31) (hq : q ≤ bk_n m) (h1 : ∀ i, i < q → bk_kv (bk_at m i) < k) (h2 : ∀ i, i < bk_n m → q ≤ i → k ≤ bk_kv (bk_at m i)) (hp : post (nI q)) :
    wpX_seek post (ty, bu, ke, ma, th, a1, a2, a3, a4, a5, a6, a7, a8, a9, a10) (nI k) := by
  have h4 := bk_f0 m hm
  rw [hke]
  exact bk_seek (g := fun i => bk_kv (bk_at m i)) (by omega) ha (fun i _ => Nat.lt_of_le_of_lt (bk_kv_lt _) (by decide)) hk hq h1 h2 hp
theorem bk_seekW {post : Int32 → Prop} {m w : Nat} (hm : m < 16) (hw : w < 4) (hke : ke = nI (bk_n m)) (ha : ∀ i, i < bk_n m → a1 i = nI (bk_kv (bk_at m i))) (hp : post (nI (bk_pos m w))) :
    wpX_seek post (ty, bu, ke, ma, th, a1, a2, a3, a4, a5, a6, a7, a8, a9, a10) (nI (bk_kv w)) := by
  obtain ⟨f1, f2, f3⟩ := bk_f3 m hm w hw
  exact bk_seekM hm hke ha (Nat.lt_of_le_of_lt (bk_kv_lt _) (by decide)) f1 f2 f3 hp
theorem bk_kv_eq {x y : Nat} : nI (bk_kv x) = nI (bk_kv y) ↔ bk_kv x = bk_kv y := nI_eq (Nat.lt_of_le_of_lt (bk_kv_lt _) (by decide)) (Nat.lt_of_le_of_lt (bk_kv_lt _) (by decide))
theorem bk_place {post : Int32 → Prop} {m w : Nat} {C : Nat → List Nat} (k : bk_K m C ke th a1 a2 a3 a7) (hw : w < 4) (h1 : m.testBit w = true → post (nI (bk_pos m w))) (h0 : m.testBit w = false → post (-1)) :
    wpX_placeOf post (ty, bu, ke, ma, th, a1, a2, a3, a4, a5, a6, a7, a8, a9, a10) (nI (bk_kv w)) := by
  obtain ⟨k1, k2, k3, k4, k5, k6, k7, k8⟩ := k
  have h4 := bk_f0 m k1
  have h5 := (bk_f3 m k1 w hw).1
  unfold wpX_placeOf
  refine bk_seekW k1 hw k5 (fun i hi => (k7 i hi).1) ?_
  subst k5
  cases hb : m.testBit w
  · refine pk_le (bk_n m) (bk_pos m w) (fun z => h0 hb) (fun z => ⟨pk_in (bk_pos m w) 24 (by omega), br_f ?_ (h0 hb)⟩)
    rw [nI_clamp (show bk_pos m w < 2 ^ 31 by omega), (k7 _ z).1, bk_kv_eq]
    exact bk_f7 m k1 w hw hb z
  · obtain ⟨f1, f2⟩ := bk_f2 m k1 w hw hb
    refine pk_le (bk_n m) (bk_pos m w) (fun z => absurd z (by omega)) (fun z => ⟨pk_in (bk_pos m w) 24 (by omega), br_t ?_ (h1 hb)⟩)
    rw [nI_clamp (show bk_pos m w < 2 ^ 31 by omega), (k7 _ z).1, f2]
theorem bk_freeV {post : Int32 → Prop} (hu : ∃ v, v < 24 ∧ a3 v = 0) (hp : ∀ v, v < 24 → a3 v = 0 → post (nI v)) :
    wpX_freeVersion post (ty, bu, ke, ma, th, a1, a2, a3, a4, a5, a6, a7, a8, a9, a10) := by
  have L : ∀ d i, i + d = 23 → (∀ j, j < i → ¬ a3 j = 0) → wX_freeVersion_2 post ty bu ke ma th a1 a2 a3 a4 a5 a6 a7 a8 a9 a10 (d + 1) (nI i) := by
    intro d
    induction d with
    | zero =>
      intro i hi hz
      rw [wX_freeVersion_2]
      obtain ⟨v, hv, h0⟩ := hu
      have e : v = i := by
        rcases Nat.lt_or_ge v i with z | z
        · exact absurd h0 (hz v z)
        · omega
      refine br_t (nI_le (a := 23) (by omega) (by omega)) (hp i (by omega) (by rw [← e]; exact h0))
    | succ d ih =>
      intro i hi hz
      rw [wX_freeVersion_2]
      refine pk_le 23 i (fun z => absurd z (by omega)) (fun z => ⟨pk_in i 24 (by omega), ?_⟩)
      rw [nI_clamp (show i < 2 ^ 31 by omega)]
      refine br_c (fun e => hp i (by omega) e) (fun e => nm_r (nI_1 i) (ih (i + 1) (by omega) (fun j hj => ?_)))
      by_cases e2 : j = i
      · rw [e2]; exact e
      · exact hz j (by omega)
  exact ⟨24, L 23 0 (by omega) (fun j hj => absurd hj (by omega))⟩
theorem bk_shiftR {post : Int32 → St1 → Prop} {x1 : Int32} {n q v : Nat} (hn : n < 24) (hq : q ≤ n) (hv : v < 24)
    (H : ∀ c1 c2, (∀ j, j < q → c1 j = a1 j ∧ c2 j = a2 j) → (c1 q = x1 ∧ c2 q = nI v) → (∀ j, q < j → j ≤ n → c1 j = a1 (j - 1) ∧ c2 j = a2 (j - 1)) → post (a4 v) (ty, bu, ke + 1, ma, th, c1, c2, a3, a4, a5, a6, upd a7 v (-1), a8, a9, a10)) :
    ∃ fu, wX_addVersion_111 post x1 (nI v) (nI q) ty bu ke ma th fu (nI n) a1 a2 a3 a4 a5 a6 a7 a8 a9 a10 := by
  have L : ∀ d i b1 b2, i = q + d → i ≤ n → (∀ j, j ≤ i → b1 j = a1 j ∧ b2 j = a2 j) → (∀ j, i < j → j ≤ n → b1 j = a1 (j - 1) ∧ b2 j = a2 (j - 1)) → wX_addVersion_111 post x1 (nI v) (nI q) ty bu ke ma th (d + 1) (nI i) b1 b2 a3 a4 a5 a6 a7 a8 a9 a10 := by
    intro d
    induction d with
    | zero =>
      intro i b1 b2 hi hin h1 h2
      obtain rfl : i = q := by omega
      rw [wX_addVersion_111]
      refine br_t (nI_le (by omega) (by omega)) ⟨pk_in i 24 (by omega), nm_r (e' := upd b1 i x1) (by rw [nI_clamp (show i < 2 ^ 31 by omega)]) (nm_e ⟨pk_in v 24 hv, nm_r (e' := upd a7 v (-1)) (by rw [nI_clamp (show v < 2 ^ 31 by omega)]) ?_⟩)⟩
      refine ⟨pk_in i 24 (by omega), nm_r (e' := upd b2 i (nI v)) (by rw [nI_clamp (show i < 2 ^ 31 by omega)]) ⟨pk_in v 24 hv, ?_⟩⟩
      rw [nI_clamp (show v < 2 ^ 31 by omega)]
      refine H _ _ (fun j hj => ?_) ⟨pk_us, pk_us⟩ (fun j hj hj2 => ?_)
      · rw [pk_un (by omega), pk_un (by omega)]
        exact h1 j (by omega)
      · rw [pk_un (by omega), pk_un (by omega)]
        exact h2 j hj hj2
    | succ d ih =>
      intro i b1 b2 hi hin h1 h2
      obtain ⟨t, rfl⟩ : ∃ t, i = t + 1 := ⟨i - 1, by omega⟩
      rw [wX_addVersion_111]
      refine br_f (nI_ge (by omega) (by omega)) ⟨pk_in t 24 (by omega) (nI_pred t), pk_in (t + 1) 24 (by omega), nm_r (e' := upd b1 (t + 1) (b1 t)) (by rw [nI_pred, nI_clamp (show t < 2 ^ 31 by omega), nI_clamp (show t + 1 < 2 ^ 31 by omega)]) ⟨pk_in t 24 (by omega) (nI_pred t), pk_in (t + 1) 24 (by omega), nm_r (e' := upd b2 (t + 1) (b2 t)) (by rw [nI_pred, nI_clamp (show t < 2 ^ 31 by omega), nI_clamp (show t + 1 < 2 ^ 31 by omega)]) (nm_r (pk_m1 t) (ih t _ _ (by omega) (by omega) (fun j hj => ?_) (fun j hj hj2 => ?_)))⟩⟩
      · rw [pk_un (by omega), pk_un (by omega)]
        exact h1 j (by omega)
      · by_cases e : j = t + 1
        · rw [e, pk_us, pk_us]
          exact h1 t (by omega)
        · rw [pk_un e, pk_un e]
          exact h2 j (by omega) hj2
  exact ⟨n - q + 1, L (n - q) n a1 a2 (by omega) (by omega) (fun j _ => ⟨rfl, rfl⟩) (fun j hj hj2 => absurd hj2 (by omega))⟩
theorem bk_addV {post : Int32 → St1 → Prop} {m w : Nat} {C : Nat → List Nat} {p1 p2 : Int32} (k : bk_K m C ke th a1 a2 a3 a7) (hw : w < 4) (ht : bk_tl C < 24)
    (H : ∀ m' v ke' th' c1 c2 c7, v < 24 → (∀ u, u < 4 → v ∉ C u) → bk_K m' (bk_cu C w (v :: C w)) ke' th' c1 c2 (upd a3 v 1) c7 → post ma (ty, bu, ke', ma + 1, th', c1, c2, upd a3 v 1, upd a4 v ma, upd a5 v p1, upd a6 v (vp_nar .boolean p2), c7, a8, a9, a10)) :
    wpX_addVersion post (ty, bu, ke, ma, th, a1, a2, a3, a4, a5, a6, a7, a8, a9, a10) (nI (bk_kv w)) p1 p2 := by
  have kk := k
  obtain ⟨k1, k2, k3, k4, k5, k6, k7, k8⟩ := k
  have h4 := bk_f0 m k1
  have h5 := (bk_f3 m k1 w hw).1
  unfold wpX_addVersion
  refine bk_freeV ?_ (fun v hv h0 => ?_)
  · obtain ⟨v, hv, hf⟩ := bk_free k3 ht
    exact ⟨v, hv, (k8 v hv).2 hf⟩
  have hf : ∀ u, u < 4 → v ∉ C u := by
    intro u hu hm
    have := (k8 v hv).1 ⟨u, hu, hm⟩
    rw [h0] at this
    exact absurd this (by decide)
  have ecl : (nI v).toNatClampNeg = v := nI_clamp (by omega)
  refine ⟨pk_in v 24 hv, nm_r (e' := upd a3 v 1) (by rw [ecl]) ⟨pk_in v 24 hv, nm_r (e' := upd a4 v ma) (by rw [ecl]) ⟨pk_in v 24 hv, nm_r (e' := upd a5 v p1) (by rw [ecl]) ⟨pk_in v 24 hv, nm_r (e' := upd a6 v (vp_nar .boolean p2)) (by rw [ecl]) (nm_e (nm_e ?_))⟩⟩⟩⟩
  refine bk_seekW k1 hw k5 (fun i hi => (k7 i hi).1) ?_
  have ecq : (nI (bk_pos m w)).toNatClampNeg = bk_pos m w := nI_clamp (by omega)
  cases hb : m.testBit w
  · have hl : ∃ fu, wX_addVersion_111 post (nI (bk_kv w)) (nI v) (nI (bk_pos m w)) ty bu ke (ma + 1) (th + 1) fu ke a1 a2 (upd a3 v 1) (upd a4 v ma) (upd a5 v p1) (upd a6 v (vp_nar .boolean p2)) a7 a8 a9 a10 := by
      have t := bk_shiftR (post := post) (x1 := nI (bk_kv w)) (ty := ty) (bu := bu) (ke := ke) (ma := ma + 1) (th := th + 1) (a1 := a1) (a2 := a2) (a3 := upd a3 v 1) (a4 := upd a4 v ma) (a5 := upd a5 v p1) (a6 := upd a6 v (vp_nar .boolean p2)) (a7 := a7) (a8 := a8) (a9 := a9) (a10 := a10) (n := bk_n m) (q := bk_pos m w) (v := v) (by omega) h5 hv (fun c1 c2 q1 q2 q3 => by
        rw [pk_us]
        exact H _ v _ _ c1 c2 _ hv hf (bk_K_ins kk hw hb hv hf ht q1 q2 q3))
      rw [← k5] at t
      exact t
    have e2 : bk_pos m w < bk_n m → ¬ a1 (nI (bk_pos m w)).toNatClampNeg = nI (bk_kv w) := by
      intro z
      rw [ecq, (k7 _ z).1, bk_kv_eq]
      exact bk_f7 m k1 w hw hb z
    exact pk_le (bk_n m) (bk_pos m w) (fun z => hl) (fun z => ⟨pk_in (bk_pos m w) 24 (by omega), br_f (e2 z) hl⟩) k5
  · obtain ⟨f1, f2⟩ := bk_f2 m k1 w hw hb
    refine pk_le (bk_n m) (bk_pos m w) (fun z => absurd z (by omega)) (fun z => ⟨pk_in (bk_pos m w) 24 (by omega), br_t ?_ ⟨pk_in (bk_pos m w) 24 (by omega), pk_in v 24 hv, nm_r (e' := upd a7 v (a2 (bk_pos m w))) (by rw [ecl, ecq]) ?_⟩⟩) k5
    · rw [ecq, (k7 _ z).1, f2]
    · refine ⟨pk_in (bk_pos m w) 24 (by omega), nm_r (e' := upd a2 (bk_pos m w) (nI v)) (by rw [ecq]) ⟨pk_in v 24 hv, ?_⟩⟩
      rw [ecl, pk_us]
      exact H _ v _ _ _ _ _ hv hf (bk_K_add kk hw hb hv hf ht)
end
end
section
/-! ===== dropKey, unchain, slotOf, destroy ===== -/
section
variable {ty bu ke ma th : Int32} {a1 a2 a3 a4 a5 a6 a7 a8 a9 a10 : Nat → Int32}
theorem bk_drop {post : St1 → Prop} {n p : Nat} (hn : n ≤ 24) (hp : p < n)
    (H : ∀ c1 c2, (∀ j, j < p → c1 j = a1 j ∧ c2 j = a2 j) → (∀ j, p ≤ j → j + 1 < n → c1 j = a1 (j + 1) ∧ c2 j = a2 (j + 1)) → post (ty, bu, nI (n - 1), ma, th, c1, c2, a3, a4, a5, a6, a7, a8, a9, a10)) :
    wpX_dropKey post (ty, bu, nI n, ma, th, a1, a2, a3, a4, a5, a6, a7, a8, a9, a10) (nI p) := by
  have L : ∀ d i b1 b2, i + d = n - 1 → p ≤ i → (∀ j, j < p → b1 j = a1 j ∧ b2 j = a2 j) → (∀ j, p ≤ j → j < i → b1 j = a1 (j + 1) ∧ b2 j = a2 (j + 1)) → (∀ j, i ≤ j → b1 j = a1 j ∧ b2 j = a2 j) → wX_dropKey_12 post ty bu (nI (n - 1)) ma th (d + 1) (nI i) b1 b2 a3 a4 a5 a6 a7 a8 a9 a10 := by
    intro d
    induction d with
    | zero =>
      intro i b1 b2 hi hpi h1 h2 h3
      rw [wX_dropKey_12]
      exact br_t (nI_le (by omega) (by omega)) (H b1 b2 h1 (fun j hj hj2 => h2 j hj (by omega)))
    | succ d ih =>
      intro i b1 b2 hi hpi h1 h2 h3
      have e1 : (nI i).toNatClampNeg = i := nI_clamp (by omega)
      have e2 : (nI i + 1).toNatClampNeg = i + 1 := by rw [nI_1]; exact nI_clamp (by omega)
      rw [wX_dropKey_12]
      refine br_f (nI_ge (by omega) (by omega)) ⟨pk_in (i + 1) 24 (by omega) (nI_1 i), pk_in i 24 (by omega), nm_r (e' := upd b1 i (b1 (i + 1))) (by rw [e1, e2]) ⟨pk_in (i + 1) 24 (by omega) (nI_1 i), pk_in i 24 (by omega), nm_r (e' := upd b2 i (b2 (i + 1))) (by rw [e1, e2]) (nm_r (nI_1 i) (ih (i + 1) _ _ (by omega) (by omega) (fun j hj => ?_) (fun j hj hj2 => ?_) (fun j hj => ?_)))⟩⟩
      · rw [pk_un (by omega), pk_un (by omega)]
        exact h1 j hj
      · by_cases e : j = i
        · rw [e, pk_us, pk_us]
          exact h3 (i + 1) (by omega)
        · rw [pk_un e, pk_un e]
          exact h2 j hj (by omega)
      · rw [pk_un (by omega), pk_un (by omega)]
        exact h3 j (by omega)
  exact nm_r (e' := nI (n - 1)) (show nI n - nI 1 = nI (n - 1) from pk_sub (by omega)) ⟨_, L (n - 1 - p) p a1 a2 (by omega) (by omega) (fun j _ => ⟨rfl, rfl⟩) (fun j hj hj2 => absurd hj2 (by omega)) (fun j _ => ⟨rfl, rfl⟩)⟩
def bk_bef (b : Int32) : List Nat → Int32
  | [] => b
  | u :: l => bk_bef (nI u) l
theorem bk_bef_snoc {u : Nat} : ∀ (l : List Nat) (b : Int32), bk_bef b (l ++ [u]) = nI u := by
  intro l
  induction l with
  | nil => exact fun _ => rfl
  | cons a l ih => exact fun _ => ih _
theorem bk_neg (v : Nat) (hv : v < 2 ^ 31) : ¬ (-1 : Int32) = nI v := by
  intro z
  have := nI_pos hv
  rw [← z] at this
  exact this (by decide)
theorem bk_walkIn {post : Int32 → St1 → Prop} {x1 : Int32} {v : Nat} {l2 : List Nat} (hv : v < 24) : ∀ (l1 : List Nat) (b x : Int32) (i : Nat), (∀ u, u ∈ l1 → u < 24) → v ∉ l1 → bk_ch a7 (l1 ++ v :: l2) x → i + l1.length ≤ 23 → wX_unchain_49 post x1 (nI v) (bk_bef b l1) (nI v) ty bu ke ma th a1 a2 a3 a4 a5 a6 a7 a8 a9 a10 → wX_unchain_13 post x1 (nI v) ty bu ke ma th a1 a2 a3 a4 a5 a6 a7 a8 a9 a10 (l1.length + 1) b x (nI i) := by
  intro l1
  induction l1 with
  | nil =>
    intro b x i hu hn hc hi h
    have hi' : i ≤ 23 := hi
    obtain ⟨e, -⟩ := hc
    rw [wX_unchain_13, e]
    exact br_f (nI_ge (b := 24) (by omega) (by decide)) (br_f (nI_pos (by omega)) (br_t rfl h))
  | cons u l1 ih =>
    intro b x i hu hn hc hi h
    obtain ⟨e, hc2⟩ := hc
    rw [List.length_cons] at hi
    have hu24 := hu u (by simp)
    have huv : u ≠ v := fun z => hn (by simp [z])
    rw [List.length_cons, wX_unchain_13, e]
    refine br_f (nI_ge (b := 24) (by omega) (by decide)) (br_f (nI_pos (by omega)) (br_f (fun z => huv ((nI_eq (by omega) (by omega)).mp z)) ⟨pk_in u 24 hu24, nm_r (e' := a7 u) (by rw [nI_clamp (show u < 2 ^ 31 by omega)]) (nm_r (nI_1 i) ?_)⟩))
    exact ih _ _ _ (fun y hy => hu y (List.mem_cons_of_mem _ hy)) (fun z => hn (List.mem_cons_of_mem _ z)) hc2 (by omega) h
theorem bk_walkOut {post : Int32 → St1 → Prop} {x1 : Int32} {v : Nat} (hv : v < 24) : ∀ (l : List Nat) (b x : Int32) (i : Nat), (∀ u, u ∈ l → u < 24) → v ∉ l → bk_ch a7 l x → i + l.length ≤ 24 → post 0 (ty, bu, ke, ma, th, a1, a2, a3, a4, a5, a6, a7, a8, a9, a10) → wX_unchain_13 post x1 (nI v) ty bu ke ma th a1 a2 a3 a4 a5 a6 a7 a8 a9 a10 (l.length + 1) b x (nI i) := by
  intro l
  induction l with
  | nil =>
    intro b x i hu hn hc hi h
    have e : x = -1 := hc
    rw [wX_unchain_13, e]
    have t : wX_unchain_49 post x1 (nI v) b (-1) ty bu ke ma th a1 a2 a3 a4 a5 a6 a7 a8 a9 a10 := br_f (bk_neg v (by omega)) h
    exact br_c (fun _ => t) (fun _ => br_t (by decide) t)
  | cons u l ih =>
    intro b x i hu hn hc hi h
    obtain ⟨e, hc2⟩ := hc
    rw [List.length_cons] at hi
    have hu24 := hu u (by simp)
    have huv : u ≠ v := fun z => hn (by simp [z])
    rw [List.length_cons, wX_unchain_13, e]
    refine br_f (nI_ge (b := 24) (by omega) (by decide)) (br_f (nI_pos (by omega)) (br_f (fun z => huv ((nI_eq (by omega) (by omega)).mp z)) ⟨pk_in u 24 hu24, nm_r (e' := a7 u) (by rw [nI_clamp (show u < 2 ^ 31 by omega)]) (nm_r (nI_1 i) ?_)⟩))
    exact ih _ _ _ (fun y hy => hu y (List.mem_cons_of_mem _ hy)) (fun z => hn (List.mem_cons_of_mem _ z)) hc2 (by omega) h
theorem bk_unchainOut {post : Int32 → St1 → Prop} {m p v : Nat} {C : Nat → List Nat} (k : bk_K m C ke th a1 a2 a3 a7) (hp : p < bk_n m) (hv24 : v < 24) (hv : v ∉ C (bk_at m p)) (H : post 0 (ty, bu, ke, ma, th, a1, a2, a3, a4, a5, a6, a7, a8, a9, a10)) :
    wpX_unchain post (ty, bu, ke, ma, th, a1, a2, a3, a4, a5, a6, a7, a8, a9, a10) (nI p) (nI v) := by
  obtain ⟨k1, k2, k3, k4, k5, k6, k7, k8⟩ := k
  have h4 := bk_f0 m k1
  obtain ⟨f1, f2⟩ := bk_f1 m k1 p hp
  have hl := bk_len_tl (C := C) f1
  refine ⟨pk_in p 24 (by omega), nm_r (e' := a2 p) (by rw [nI_clamp (show p < 2 ^ 31 by omega)]) ⟨_, bk_walkOut hv24 (C (bk_at m p)) (-1) (a2 p) 0 (k3.2.1 _ f1) hv (k7 p hp).2 (by omega) H⟩⟩
theorem bk_ch_head {f : Nat → Int32} {l : List Nat} {x : Int32} (h : bk_ch f l x) (hl : l ≠ []) : ∃ v, v ∈ l ∧ x = nI v := by
  cases l with
  | nil => exact absurd rfl hl
  | cons v l => exact ⟨v, by simp, h.1⟩
theorem bk_split {v : Nat} {l : List Nat} (h : v ∈ l) (hn : l.Nodup) : ∃ l1 l2, l = l1 ++ v :: l2 ∧ v ∉ l1 ∧ l.erase v = l1 ++ l2 := by
  obtain ⟨l1, l2, e⟩ := List.append_of_mem h
  subst e
  have h1 : v ∉ l1 := by
    rw [List.nodup_append] at hn
    intro z
    exact hn.2.2 v z v (by simp) rfl
  refine ⟨l1, l2, rfl, h1, ?_⟩
  rw [List.erase_append_right _ h1, List.erase_cons_head]
theorem bk_unchainIn {post : Int32 → St1 → Prop} {m p v : Nat} {C : Nat → List Nat} (k : bk_K m C ke th a1 a2 a3 a7) (hp : p < bk_n m) (hv : v ∈ C (bk_at m p))
    (H : ∀ m' c1 c2 c3 c7, bk_K m' (bk_cu C (bk_at m p) ((C (bk_at m p)).erase v)) (nI (bk_n m')) (nI (bk_tl C - 1)) c1 c2 c3 c7 → p ≤ bk_n m' → (∀ j, j < p → bk_at m' j = bk_at m j) → post 1 (ty, bu, nI (bk_n m'), ma, nI (bk_tl C - 1), c1, c2, c3, a4, a5, a6, c7, a8, a9, a10)) :
    wpX_unchain post (ty, bu, ke, ma, th, a1, a2, a3, a4, a5, a6, a7, a8, a9, a10) (nI p) (nI v) := by
  have kk := k
  obtain ⟨k1, k2, k3, k4, k5, k6, k7, k8⟩ := k
  have h4 := bk_f0 m k1
  obtain ⟨f1, f2⟩ := bk_f1 m k1 p hp
  have hl := bk_len_tl (C := C) f1
  have hv24 := k3.2.1 _ f1 v hv
  have hnd := k3.1 _ f1
  have hch := (k7 p hp).2
  obtain ⟨l1, l2, e, hn1, ee⟩ := bk_split hv hnd
  have tl := bk_tl_cu (C := C) (l := (C (bk_at m p)).erase v) f1
  have elen : (C (bk_at m p)).length = l1.length + l2.length + 1 := by
    rw [e, List.length_append, List.length_cons]
    omega
  have elen2 : ((C (bk_at m p)).erase v).length = l1.length + l2.length := by rw [ee, List.length_append]
  have etl : bk_tl (bk_cu C (bk_at m p) ((C (bk_at m p)).erase v)) = bk_tl C - 1 := by omega
  have h0 : ∀ j, j < 24 → j ∈ [v] → upd a3 v 0 j = 0 := by
    intro j _ hj
    rw [List.mem_singleton.mp hj, pk_us]
  have h1 : ∀ j, j < 24 → j ∉ [v] → upd a3 v 0 j = a3 j := by
    intro j _ hj
    exact pk_un (fun z => hj (List.mem_singleton.mpr z))
  have hD : ∀ y, y ∈ C (bk_at m p) ↔ y ∈ (C (bk_at m p)).erase v ∨ y ∈ [v] := by
    intro y
    rw [ee, e]
    simp only [List.mem_append, List.mem_cons, List.not_mem_nil, or_false]
    constructor
    · rintro (q | q | q)
      · exact Or.inl (Or.inl q)
      · exact Or.inr q
      · exact Or.inl (Or.inr q)
    · rintro ((q | q) | q)
      · exact Or.inl q
      · exact Or.inr (Or.inr q)
      · exact Or.inr (Or.inl q)
  have hd : ∀ y, y ∈ (C (bk_at m p)).erase v → y ∉ [v] := by
    intro y hy hy2
    rw [List.mem_singleton.mp hy2] at hy
    exact hnd.not_mem_erase hy
  have ecp : (nI p).toNatClampNeg = p := nI_clamp (by omega)
  have ecv : (nI v).toNatClampNeg = v := nI_clamp (by omega)
  have eth : th - 1 = nI (bk_tl C - 1) := by
    rw [k6]
    exact pk_sub (b := 1) (by omega)
  rw [e] at hch hnd
  refine ⟨pk_in p 24 (by omega), nm_r (e' := a2 p) (by rw [ecp]) ⟨_, bk_walkIn hv24 l1 (-1) (a2 p) 0 (fun u hu => k3.2.1 _ f1 u (by rw [e]; simp [hu])) hn1 hch (by omega) ?_⟩⟩
  refine br_t rfl ?_
  rcases List.eq_nil_or_concat l1 with z | ⟨l0, u, z⟩
  · subst z
    have ee' : (C (bk_at m p)).erase v = l2 := ee
    have e' : C (bk_at m p) = v :: l2 := e
    have hc2 : bk_ch a7 l2 (a7 v) := hch.2
    refine br_t (show (-1 : Int32) < 0 by decide) ⟨pk_in v 24 hv24, pk_in p 24 (by omega), nm_r (e' := upd a2 p (a7 v)) (by rw [ecp, ecv]) ⟨pk_in v 24 hv24, nm_r (e' := upd a3 v 0) (by rw [ecv]) (nm_r eth ⟨pk_in p 24 (by omega), ?_⟩)⟩⟩
    rw [ecp, pk_us]
    cases l2 with
    | nil =>
      have ec : a7 v = -1 := hc2
      rw [ec, k5]
      refine br_f (by decide) ?_
      refine bk_drop (by omega) hp (fun c1 c2 q1 q2 => ?_)
      obtain ⟨g1, g2, g3, g4⟩ := bk_f5 m k1 p hp
      have t := bk_K_drop (c1 := c1) (c2 := c2) (c3 := upd a3 v 0) (c7 := a7) kk hp (fun j hj hm => h0 j hj (by rw [e'] at hm; exact hm)) (fun j hj hm => h1 j hj (by rw [e'] at hm; exact hm)) (fun j hj => ?_) (fun j hj hj2 => ?_) (fun _ _ => rfl)
      · rw [ee'] at H etl
        rw [etl, show bk_n m - 1 = bk_n (m - 2 ^ bk_at m p) by omega] at t
        have t2 := H _ _ _ _ _ t (by omega) (fun j hj => by rw [g3 j (by omega), if_pos hj])
        rw [show bk_n m - 1 = bk_n (m - 2 ^ bk_at m p) by omega]
        exact t2
      · refine ⟨(q1 j hj).1, ?_⟩
        rw [(q1 j hj).2, pk_un (by omega)]
      · refine ⟨(q2 j hj hj2).1, ?_⟩
        rw [(q2 j hj hj2).2, pk_un (by omega)]
    | cons y l3 =>
      have ec : a7 v = nI y := hc2.1
      have hy24 : y < 24 := k3.2.1 _ f1 y (by rw [e']; simp)
      rw [ec]
      refine br_t (nI_pos' (by omega)) ?_
      have t := bk_K_cut (c2 := upd a2 p (nI y)) (c3 := upd a3 v 0) (c7 := a7) kk hp (l := (C (bk_at m p)).erase v) (by rw [ee']; simp) List.erase_sublist hD hd h0 h1 (by rw [ee', pk_us, ← ec]; exact hc2) (fun i hi hne => pk_un hne) (fun _ _ => rfl)
      rw [etl, k5] at t
      have t2 := H _ _ _ _ _ t (by omega) (fun _ _ => rfl)
      rw [← k5] at t2
      exact t2
  · have z' : l1 = l0 ++ [u] := by rw [z, List.concat_eq_append]
    subst z'
    rw [bk_bef_snoc]
    have hu24 : u < 24 := k3.2.1 _ f1 u (by rw [e]; simp)
    have ecu : (nI u).toNatClampNeg = u := nI_clamp (by omega)
    obtain ⟨y, hy, ey⟩ := bk_ch_head hch (by simp)
    have hy24 : y < 24 := k3.2.1 _ f1 y (by rw [e]; exact hy)
    refine br_f (nI_pos (by omega)) ⟨pk_in v 24 hv24, pk_in u 24 hu24, nm_r (e' := upd a7 u (a7 v)) (by rw [ecu, ecv]) ⟨pk_in v 24 hv24, nm_r (e' := upd a3 v 0) (by rw [ecv]) (nm_r eth ⟨pk_in p 24 (by omega), ?_⟩)⟩⟩
    rw [ecp, ey]
    refine br_t (nI_pos' (by omega)) ?_
    have hch2 : bk_ch a7 (l0 ++ u :: v :: l2) (a2 p) := by simpa using hch
    have hnd2 : (l0 ++ u :: v :: l2).Nodup := by simpa using hnd
    have t := bk_K_cut (c2 := a2) (c3 := upd a3 v 0) (c7 := upd a7 u (a7 v)) kk hp (l := (C (bk_at m p)).erase v) (by rw [ee]; simp) List.erase_sublist hD hd h0 h1 (by
        rw [ee]
        have t9 := bk_ch_del hnd2 hch2
        simpa using t9) (fun i hi hne => rfl) (fun y hy => pk_un (fun q => hy (by rw [e, q]; simp)))
    rw [etl, k5] at t
    have t2 := H _ _ _ _ _ t (by omega) (fun _ _ => rfl)
    rw [← k5] at t2
    exact t2
theorem bk_slot {post : Int32 → Prop} {x1 : Int32} (h1 : ∀ v, v < 24 → ¬ a3 v = 0 → a4 v = x1 → post (nI v)) (h0 : (∀ v, v < 24 → ¬ a3 v = 0 → ¬ a4 v = x1) → post (-1)) :
    wpX_slotOf post (ty, bu, ke, ma, th, a1, a2, a3, a4, a5, a6, a7, a8, a9, a10) x1 := by
  have L : ∀ d i, i + d = 24 → (∀ j, j < i → ¬ a3 j = 0 → ¬ a4 j = x1) → wX_slotOf_2 post x1 ty bu ke ma th a1 a2 a3 a4 a5 a6 a7 a8 a9 a10 (d + 1) (nI i) := by
    intro d
    induction d with
    | zero =>
      intro i hi hz
      rw [wX_slotOf_2]
      exact br_t (nI_le (a := 24) (by omega) (by omega)) (h0 (fun v hv => hz v (by omega)))
    | succ d ih =>
      intro i hi hz
      have ec : (nI i).toNatClampNeg = i := nI_clamp (by omega)
      rw [wX_slotOf_2]
      refine br_f (nI_ge (b := 24) (by omega) (by decide)) ⟨pk_in i 24 (by omega), ?_⟩
      rw [ec]
      refine br_c (fun e => nm_r (nI_1 i) (ih (i + 1) (by omega) (fun j hj => ?_))) (fun e => ⟨pk_in i 24 (by omega), br_c (fun e2 => h1 i (by omega) e e2) (fun e2 => nm_r (nI_1 i) (ih (i + 1) (by omega) (fun j hj => ?_)))⟩)
      · by_cases e3 : j = i
        · rw [e3]; exact fun z => absurd e z
        · exact hz j (by omega)
      · by_cases e3 : j = i
        · rw [e3]; exact fun _ => e2
        · exact hz j (by omega)
  exact ⟨25, L 24 0 (by omega) (fun j hj => absurd hj (by omega))⟩
theorem bk_destroyL {post : Int32 → St1 → Prop} {m p v : Nat} {C : Nat → List Nat} (k : bk_K m C ke th a1 a2 a3 a7) (hp : p < bk_n m) (hv : v ∈ C (bk_at m p))
    (H : ∀ m' c1 c2 c3 c7, bk_K m' (bk_cu C (bk_at m p) ((C (bk_at m p)).erase v)) (nI (bk_n m')) (nI (bk_tl C - 1)) c1 c2 c3 c7 → post (nI (bk_tl C - 1)) (ty, bu, nI (bk_n m'), ma, nI (bk_tl C - 1), c1, c2, c3, a4, a5, a6, c7, a8, a9, a10)) :
    ∃ fu, wX_destroy_18 post (nI v) fu 0 0 ty bu ke ma th a1 a2 a3 a4 a5 a6 a7 a8 a9 a10 := by
  have kk := k
  obtain ⟨k1, k2, k3, k4, k5, k6, k7, k8⟩ := k
  have h4 := bk_f0 m k1
  obtain ⟨f1, f2⟩ := bk_f1 m k1 p hp
  have hv24 := k3.2.1 _ f1 v hv
  have L : ∀ d i, i + d = p → wX_destroy_18 post (nI v) (d + 2) 0 (nI i) ty bu ke ma th a1 a2 a3 a4 a5 a6 a7 a8 a9 a10 := by
    intro d
    induction d with
    | zero =>
      intro i hi
      obtain rfl : i = p := by omega
      rw [wX_destroy_18]
      refine pk_le (bk_n m) i (fun z => absurd z (by omega)) (fun _ => br_t rfl (bk_unchainIn kk hp hv (fun m' c1 c2 c3 c7 t _ _ => nm_e ?_))) k5
      rw [wX_destroy_18]
      exact br_c (fun _ => H _ _ _ _ _ t) (fun _ => br_f (by decide) (H _ _ _ _ _ t))
    | succ d ih =>
      intro i hi
      rw [wX_destroy_18]
      refine pk_le (bk_n m) i (fun z => absurd z (by omega)) (fun _ => br_t rfl (bk_unchainOut kk (p := i) (by omega) hv24 (fun z => ?_) (nm_r (nI_1 i) (ih (i + 1) (by omega))))) k5
      have := bk_f6 m k1 i (by omega) p hp (k3.2.2 _ _ v (bk_f1 m k1 i (by omega)).1 f1 z hv)
      omega
  exact ⟨p + 2, L p 0 (by omega)⟩
end
end
section
/-! ===== cutChain, expire ===== -/
section
variable {ty bu ke ma th : Int32} {a1 a2 a3 a4 a5 a6 a7 a8 a9 a10 : Nat → Int32}
theorem bk_clr {post : Int32 → St1 → Prop} : ∀ (l : List Nat) (x : Int32) (i c t : Nat) (b3 : Nat → Int32), (∀ u, u ∈ l → u < 24) → bk_ch a7 l x → i + l.length ≤ 24 → l.length ≤ t →
    (∀ c3, (∀ j, j ∈ l → c3 j = 0) → (∀ j, j ∉ l → c3 j = b3 j) → post (nI (c + l.length)) (ty, bu, ke, ma, nI (t - l.length), a1, a2, c3, a4, a5, a6, a7, a8, a9, a10)) →
    wX_cutChain_60 post ty bu ke ma (l.length + 1) (nI c) x (nI i) (nI t) a1 a2 b3 a4 a5 a6 a7 a8 a9 a10 := by
  intro l
  induction l with
  | nil =>
    intro x i c t b3 hu hc hi ht H
    have e : x = -1 := hc
    rw [wX_cutChain_60, e]
    have P : post (nI c) (ty, bu, ke, ma, nI t, a1, a2, b3, a4, a5, a6, a7, a8, a9, a10) := H b3 (fun j hj => by cases hj) (fun _ _ => rfl)
    exact br_c (fun _ => P) (fun _ => br_t (by decide) P)
  | cons u l ih =>
    intro x i c t b3 hu hc hi ht H
    obtain ⟨e, hc2⟩ := hc
    have hu24 := hu u (by simp)
    rw [List.length_cons] at hi ht
    have ec : (nI u).toNatClampNeg = u := nI_clamp (by omega)
    rw [List.length_cons, wX_cutChain_60, e]
    refine br_f (nI_ge (b := 24) (by omega) (by decide)) (br_f (nI_pos (by omega)) ⟨pk_in u 24 hu24, nm_r (e' := upd b3 u 0) (by rw [ec]) (nm_r (e' := nI (t - 1)) (pk_sub (b := 1) (by omega)) (nm_r (nI_1 c) ⟨pk_in u 24 hu24, nm_r (e' := a7 u) (by rw [ec]) (nm_r (nI_1 i) ?_)⟩))⟩)
    refine ih _ _ _ _ _ (fun y hy => hu y (List.mem_cons_of_mem _ hy)) hc2 (by omega) (by omega) (fun c3 h0 h1 => ?_)
    have t2 := H c3 (fun j hj => ?_) (fun j hj => ?_)
    · rw [List.length_cons] at t2
      rw [show c + 1 + l.length = c + (l.length + 1) by omega, show t - 1 - l.length = t - (l.length + 1) by omega]
      exact t2
    · by_cases z : j ∈ l
      · exact h0 j z
      · rcases List.mem_cons.mp hj with q | q
        · rw [h1 j z, q, pk_us]
        · exact absurd q z
    · rw [h1 j (fun z => hj (List.mem_cons_of_mem _ z)), pk_un (fun z => hj (by simp [z]))]
theorem bk_cutWalk {post : Int32 → St1 → Prop} {s : Nat} (hs : s ≤ 25) : ∀ (l : List Nat) (x : Int32) (i : Nat), (∀ u, u ∈ l → u < 24) → bk_ch a7 l x → i ≤ s →
    (l.length + i ≤ s → wX_cutChain_33 post (-1) ty bu ke ma th a1 a2 a3 a4 a5 a6 a7 a8 a9 a10) →
    (∀ l1 u l2, l = l1 ++ u :: l2 → l1.length + i = s → wX_cutChain_33 post (nI u) ty bu ke ma th a1 a2 a3 a4 a5 a6 a7 a8 a9 a10) →
    wX_cutChain_10 post (nI s) ty bu ke ma th a1 a2 a3 a4 a5 a6 a7 a8 a9 a10 (l.length + 1) x (nI i) := by
  intro l
  induction l with
  | nil =>
    intro x i hu hc hi Hs Hf
    have e : x = -1 := hc
    rw [wX_cutChain_10, e]
    have P := Hs (by rw [List.length_nil]; omega)
    exact br_c (fun _ => P) (fun _ => br_t (by decide) P)
  | cons u l ih =>
    intro x i hu hc hi Hs Hf
    obtain ⟨e, hc2⟩ := hc
    have hu24 := hu u (by simp)
    have ec : (nI u).toNatClampNeg = u := nI_clamp (by omega)
    rw [List.length_cons, wX_cutChain_10, e]
    refine pk_le s i (fun z => Hf [] u l rfl (by rw [List.length_nil]; omega)) (fun z => br_f (nI_pos (by omega)) ⟨pk_in u 24 hu24, nm_r (e' := a7 u) (by rw [ec]) (nm_r (nI_1 i) (ih _ _ (fun y hy => hu y (List.mem_cons_of_mem _ hy)) hc2 (by omega) (fun h => Hs ?_) (fun l1 y l2 h h' => Hf (u :: l1) y l2 ?_ ?_)))⟩)
    · rw [List.length_cons]; omega
    · rw [h]; rfl
    · rw [List.length_cons]; omega
theorem bk_cut {post : Int32 → St1 → Prop} {m p s : Nat} {C : Nat → List Nat} (k : bk_K m C ke th a1 a2 a3 a7) (hp : p < bk_n m) (hs1 : 1 ≤ s) (hs : s ≤ 25)
    (H : ∀ c3 c7, bk_K m (bk_cu C (bk_at m p) ((C (bk_at m p)).take s)) ke (nI (bk_tl (bk_cu C (bk_at m p) ((C (bk_at m p)).take s)))) a1 a2 c3 c7 →
      post (nI (bk_tl C - bk_tl (bk_cu C (bk_at m p) ((C (bk_at m p)).take s)))) (ty, bu, ke, ma, nI (bk_tl (bk_cu C (bk_at m p) ((C (bk_at m p)).take s))), a1, a2, c3, a4, a5, a6, c7, a8, a9, a10)) :
    wpX_cutChain post (ty, bu, ke, ma, th, a1, a2, a3, a4, a5, a6, a7, a8, a9, a10) (nI p) (nI s) := by
  have kk := k
  obtain ⟨k1, k2, k3, k4, k5, k6, k7, k8⟩ := k
  have h4 := bk_f0 m k1
  obtain ⟨f1, f2⟩ := bk_f1 m k1 p hp
  have hlen := bk_len_tl (C := C) f1
  have hnd := k3.1 _ f1
  have hch := (k7 p hp).2
  have ecp : (nI p).toNatClampNeg = p := nI_clamp (by omega)
  refine ⟨pk_in p 24 (by omega), nm_r (e' := a2 p) (by rw [ecp]) ⟨_, bk_cutWalk hs (C (bk_at m p)) (a2 p) 1 (k3.2.1 _ f1) hch hs1 (fun h => ?_) (fun l1 u l2 e h => ?_)⟩⟩
  · refine br_f (by decide) ?_
    rw [List.take_of_length_le (by omega), bk_cu_id] at H
    have t := H a3 a7 (by rw [← k6]; exact kk)
    rw [Nat.sub_self, ← k6] at t
    exact t
  · have hu24 : u < 24 := k3.2.1 _ f1 u (by rw [e]; simp)
    have ecu : (nI u).toNatClampNeg = u := nI_clamp (by omega)
    have etake : (C (bk_at m p)).take s = l1 ++ [u] := by
      rw [e, show l1 ++ u :: l2 = (l1 ++ [u]) ++ l2 by simp]
      exact List.take_left' (by rw [List.length_append, List.length_singleton]; omega)
    have elen : (C (bk_at m p)).length = l1.length + 1 + l2.length := by
      rw [e, List.length_append, List.length_cons]
      omega
    have tl := bk_tl_cu (C := C) (l := l1 ++ [u]) f1
    rw [List.length_append, List.length_singleton] at tl
    rw [etake] at H
    rw [e] at hch hnd
    have hul2 : u ∉ l2 := by
      have t := (List.nodup_append.mp hnd).2.1
      rw [List.nodup_cons] at t
      exact t.1
    have hsub : (l1 ++ [u]).Sublist (C (bk_at m p)) := by
      rw [← etake]
      exact List.take_sublist _ _
    have etl : bk_tl C - l2.length = bk_tl (bk_cu C (bk_at m p) (l1 ++ [u])) := by omega
    refine br_t (nI_pos' (by omega)) ⟨pk_in u 24 hu24, nm_r (e' := a7 u) (by rw [ecu]) ⟨pk_in u 24 hu24, nm_r (e' := upd a7 u (-1)) (by rw [ecu]) ⟨l2.length + 1, ?_⟩⟩⟩
    rw [k6]
    refine bk_clr l2 (a7 u) 0 0 (bk_tl C) a3 (fun y hy => k3.2.1 _ f1 y (by rw [e]; simp [hy])) (bk_ch_fr (fun y hy => pk_un (fun z => hul2 (z ▸ hy))) (bk_ch_tail hch)) (by omega) (by omega) (fun c3 h0 h1 => ?_)
    have t := H c3 (upd a7 u (-1)) (bk_K_cut kk hp (D := l2) (by simp) hsub (fun y => by rw [e]; simp [or_assoc]) (fun y hy hy2 => ?_) (fun j _ hj => h0 j hj) (fun j _ hj => h1 j hj) (bk_ch_cut hnd hch) (fun _ _ _ => rfl) (fun y hy => pk_un (fun z => hy (by rw [e, z]; simp))))
    · rw [Nat.zero_add, etl]
      rw [show l2.length = bk_tl C - bk_tl (bk_cu C (bk_at m p) (l1 ++ [u])) by omega]
      exact t
    · have hnd2 : ((l1 ++ [u]) ++ l2).Nodup := by simpa using hnd
      exact (List.nodup_append.mp hnd2).2.2 y hy y hy2 rfl
/-- what stays of a chain that is cut to s: nothing, if a marker alone is left -/
def bk_ex (a6 : Nat → Int32) (s : Nat) (l : List Nat) : List Nat := match l.take s with
  | [v] => if a6 v = 0 then [v] else []
  | t => t
theorem bk_ex_obj {s v : Nat} {l t : List Nat} (h : l.take s = v :: t) (h6 : a6 v = 0) : bk_ex a6 s l = v :: t := by
  unfold bk_ex
  rw [h]
  cases t with
  | nil => exact if_pos h6
  | cons y t => rfl
theorem bk_ex_two {s v y : Nat} {l t : List Nat} (h : l.take s = v :: y :: t) : bk_ex a6 s l = v :: y :: t := by
  unfold bk_ex
  rw [h]
theorem bk_ex_lone {s v : Nat} {l : List Nat} (h : l.take s = [v]) (h6 : ¬ a6 v = 0) : bk_ex a6 s l = [] := by
  unfold bk_ex
  rw [h]
  exact if_neg h6
theorem bk_ex_nil {s : Nat} : bk_ex a6 s [] = [] := by
  unfold bk_ex
  rw [List.take_nil]
theorem bk_expL {post : Int32 → St1 → Prop} {s T0 : Nat} (hs1 : 1 ≤ s) (hs : s ≤ 25) (hT : T0 ≤ 24) : ∀ (j m : Nat) (C : Nat → List Nat) (ke th : Int32) (a1 a2 a3 a7 : Nat → Int32) (n : Nat), bk_K m C ke th a1 a2 a3 a7 → j ≤ bk_n m → n + bk_tl C = T0 →
    (∀ m' C' c1 c2 c3 c7, bk_K m' C' (nI (bk_n m')) (nI (bk_tl C')) c1 c2 c3 c7 → (∀ i, i < j → C' (bk_at m i) = bk_ex a6 s (C (bk_at m i))) → (∀ u, u < 4 → (∀ i, i < j → bk_at m i ≠ u) → C' u = C u) → post (nI (T0 - bk_tl C')) (ty, bu, nI (bk_n m'), ma, nI (bk_tl C'), c1, c2, c3, a4, a5, a6, c7, a8, a9, a10)) →
    wX_expire_33 post (nI s) (j + 1) (nI n) (nI j + (-1)) ty bu ke ma th a1 a2 a3 a4 a5 a6 a7 a8 a9 a10 := by
  intro j
  induction j with
  | zero =>
    intro m C ke th a1 a2 a3 a7 n k hj hn H
    have kk := k
    obtain ⟨k1, k2, k3, k4, k5, k6, k7, k8⟩ := k
    rw [wX_expire_33]
    refine br_t (by decide) ?_
    have t := H m C a1 a2 a3 a7 (by rw [← k5, ← k6]; exact kk) (fun i hi => absurd hi (by omega)) (fun _ _ _ => rfl)
    rw [← k5, ← k6, show T0 - bk_tl C = n by omega] at t
    exact t
  | succ j ih =>
    intro m C ke th a1 a2 a3 a7 n k hj hn H
    have kk := k
    obtain ⟨k1, k2, k3, k4, k5, k6, k7, k8⟩ := k
    have h4 := bk_f0 m k1
    obtain ⟨f1, f2⟩ := bk_f1 m k1 j (by omega)
    have ecj : (nI j).toNatClampNeg = j := nI_clamp (by omega)
    rw [wX_expire_33, pk_m1]
    refine br_f (nI_pos (by omega)) (bk_cut kk (by omega) hs1 hs (fun c3 c7 kc => ?_))
    have kc' := kc
    obtain ⟨q1, q2, q3, q4, q5, q6, q7, q8⟩ := kc'
    have tl := bk_tl_cu (C := C) (l := (C (bk_at m j)).take s) f1
    have tl2 : ((C (bk_at m j)).take s).length ≤ (C (bk_at m j)).length := (List.take_sublist _ _).length_le
    have hne : C (bk_at m j) ≠ [] := (k2 _ f1).mp f2
    obtain ⟨v, T, eT⟩ : ∃ v T, (C (bk_at m j)).take s = v :: T := by
      cases hc : C (bk_at m j) with
      | nil => exact absurd hc hne
      | cons v l =>
        obtain ⟨s', rfl⟩ : ∃ s', s = s' + 1 := ⟨s - 1, by omega⟩
        exact ⟨v, l.take s', rfl⟩
    have row := (q7 j (by omega)).2
    rw [bk_cu_s, eT] at row
    obtain ⟨r1, r2⟩ := row
    have hv24 : v < 24 := q3.2.1 _ f1 v (by rw [bk_cu_s, eT]; simp)
    have ecv : (nI v).toNatClampNeg = v := nI_clamp (by omega)
    have cont : ∀ (m' : Nat) (C2 : Nat → List Nat) (ke2 th2 : Int32) (c1 c2 c3 c7 : Nat → Int32) (n2 : Nat), bk_K m' C2 ke2 th2 c1 c2 c3 c7 → j ≤ bk_n m' → (∀ i, i < j → bk_at m' i = bk_at m i) → n2 + bk_tl C2 = T0 → C2 (bk_at m j) = bk_ex a6 s (C (bk_at m j)) → (∀ u, u ≠ bk_at m j → C2 u = C u) → wX_expire_33 post (nI s) (j + 1) (nI n2) (nI j + (-1)) ty bu ke2 ma th2 c1 c2 c3 a4 a5 a6 c7 a8 a9 a10 := by
      intro m' C2 ke2 th2 c1 c2 c3 c7 n2 kd g1 g2 g3 g4 g5
      refine ih m' C2 ke2 th2 c1 c2 c3 c7 n2 kd g1 g3 (fun m3 C3 d1 d2 d3 d7 ke3 h1 h2 => H m3 C3 d1 d2 d3 d7 ke3 (fun i hi => ?_) (fun u hu h => ?_))
      · by_cases z : i = j
        · rw [z, h2 _ f1 (fun i' hi' z' => ?_), g4]
          rw [g2 i' hi'] at z'
          have := bk_f6 m k1 i' (by omega) j (by omega) z'
          omega
        · have t := h1 i (by omega)
          rw [g2 i (by omega), g5 (bk_at m i) (fun z' => z (bk_f6 m k1 i (by omega) j (by omega) z'))] at t
          exact t
      · rw [h2 u hu (fun i hi z => h i (by omega) (by rw [← g2 i hi]; exact z)), g5 u (fun z => h j (by omega) z.symm)]
    refine nm_r (nI_add _ _) ⟨pk_in j 24 (by omega), nm_r (e' := nI v) (by rw [ecj, r1]) ⟨pk_in v 24 hv24, ?_⟩⟩
    rw [ecv]
    refine br_c (fun h6 => nm_e (cont m _ _ _ _ _ _ _ _ kc (by omega) (fun _ _ => rfl) (by omega) ?_ (fun u hu => bk_cu_n hu))) (fun h6 => ⟨pk_in v 24 hv24, ?_⟩)
    · rw [bk_cu_s, bk_ex_obj eT h6, eT]
    · cases T with
      | cons y T =>
        have hy24 : y < 24 := q3.2.1 _ f1 y (by rw [bk_cu_s, eT]; simp)
        rw [r2.1]
        refine br_t (nI_pos' (by omega)) (nm_e (cont m _ _ _ _ _ _ _ _ kc (by omega) (fun _ _ => rfl) (by omega) ?_ (fun u hu => bk_cu_n hu)))
        rw [bk_cu_s, bk_ex_two eT, eT]
      | nil =>
        have e7 : c7 v = -1 := r2
        rw [e7]
        have hlen := bk_len_tl (C := bk_cu C (bk_at m j) ((C (bk_at m j)).take s)) f1
        rw [bk_cu_s, eT, List.length_singleton] at hlen
        have tl3 := bk_tl_cu (C := bk_cu C (bk_at m j) ((C (bk_at m j)).take s)) (l := []) f1
        rw [bk_cu_s, List.length_nil] at tl3
        rw [eT] at tl tl2 tl3
        refine br_f (by decide) (bk_unchainIn kc (by omega) (by rw [bk_cu_s, eT]; simp) (fun m' c1 c2 c3 c7 kd g1 g2 => ?_))
        rw [bk_cu_s, eT, List.erase_cons_head] at kd
        rw [eT]
        simp only [List.length_singleton] at tl tl2 tl3
        refine nm_r (nI_1 _) (nm_e (cont m' _ _ _ _ _ _ _ _ kd g1 g2 (by omega) ?_ (fun u hu => ?_)))
        · rw [bk_cu_s, bk_ex_lone eT h6]
        · rw [bk_cu_n hu, bk_cu_n hu]
theorem bk_expire {post : Int32 → St1 → Prop} {m kp : Nat} {C : Nat → List Nat} (k : bk_K m C ke th a1 a2 a3 a7) (hk : kp ≤ 24)
    (H : ∀ m' C' c1 c2 c3 c7, bk_K m' C' (nI (bk_n m')) (nI (bk_tl C')) c1 c2 c3 c7 → (∀ w, w < 4 → C' w = bk_ex a6 (kp + 1) (C w)) → post (nI (bk_tl C - bk_tl C')) (ty, bu, nI (bk_n m'), ma, nI (bk_tl C'), c1, c2, c3, a4, a5, a6, c7, a8, a9, a10)) :
    wpX_expire post (ty, bu, ke, ma, th, a1, a2, a3, a4, a5, a6, a7, a8, a9, a10) (nI kp) := by
  have kk := k
  obtain ⟨k1, k2, k3, k4, k5, k6, k7, k8⟩ := k
  refine br_t (nI_pos' (by omega)) (br_t (nI_le (b := 24) hk (by decide)) ?_)
  rw [nI_1]
  refine nm_r (e' := nI (bk_n m) + (-1)) (by rw [k5]; exact Int32.sub_eq_add_neg _ _) ⟨bk_n m + 1, ?_⟩
  refine bk_expL (T0 := bk_tl C) (by omega) (by omega) k4 (bk_n m) m C ke th a1 a2 a3 a7 0 kk (Nat.le_refl _) (by omega) (fun m' C' c1 c2 c3 c7 kd h1 h2 => H m' C' c1 c2 c3 c7 kd (fun w hw => ?_))
  cases hb : m.testBit w
  · have hC : C w = [] := by
      apply Classical.byContradiction
      intro z
      have := (k2 w hw).mpr z
      rw [hb] at this
      exact absurd this (by decide)
    rw [h2 w hw (fun i hi z => ?_), hC, bk_ex_nil]
    have := (bk_f1 m k1 i hi).2
    rw [z, hb] at this
    exact absurd this (by decide)
  · obtain ⟨g1, g2⟩ := bk_f2 m k1 w hw hb
    have t := h1 _ g1
    rw [g2] at t
    exact t
end
end
section
/-! ===== the calls: key, type, put, remove, destroy, present, get, versionAt ===== -/
section
variable {ty bu ke ma th : Int32} {a1 a2 a3 a4 a5 a6 a7 a8 a9 a10 : Nat → Int32}
def bk_un (t : Nat) : Nat := if t = 0 then 343 else if t = 1 then 49 else if t = 2 then 7 else 1
theorem bk_unit {post : Int32 → Prop} {t : Nat} (ht : t < 100) (hp : post (nI (bk_un t))) : wpX_unit post () (nI t) := by
  unfold bk_un at hp
  refine br_f (nI_pos (by omega)) (pk_lt 2 t (fun z => ?_) (fun z => pk_eq t 0 (fun z0 => ?_) (fun z0 => pk_eq t 1 (fun z1 => ?_) (fun z1 => pk_eq t 2 (fun z2 => ?_) (fun z2 => ?_)))))
  · rw [if_neg (by omega), if_neg (by omega), if_neg (by omega)] at hp
    exact hp
  · rw [if_pos z0] at hp
    exact hp
  · rw [if_neg z0, if_pos z1] at hp
    exact hp
  · rw [if_neg z0, if_neg z1, if_pos z2] at hp
    exact hp
  · omega
theorem bk_type {post : Int32 → St1 → Prop} {l t b : Nat} (hl : l ≤ 5) (ht : t < 4) (hp : post (nI (t + 1)) (nI (t + 1), nI (b + (l + 1) * bk_un t), ke, ma, th, a1, a2, a3, a4, a5, a6, a7, a8, a9, a10)) :
    wpX_type post (nI t, nI b, ke, ma, th, a1, a2, a3, a4, a5, a6, a7, a8, a9, a10) (nI l) := by
  refine br_f (nI_pos (by omega)) (br_t (nI_le (b := 5) hl (by decide)) (br_t (nI_lt (b := 4) ht (by decide)) ?_))
  refine bk_unit (by omega) (nm_r (e' := nI (b + (l + 1) * bk_un t)) (by rw [nI_1, pk_mul, nI_add]) (nm_r (nI_1 t) hp))
theorem bk_typeF {post : Int32 → St1 → Prop} {l t : Nat} (hl : l ≤ 5) (ht : 4 ≤ t) (ht2 : t < 100) (hp : post (-2) (nI t, bu, ke, ma, th, a1, a2, a3, a4, a5, a6, a7, a8, a9, a10)) :
    wpX_type post (nI t, bu, ke, ma, th, a1, a2, a3, a4, a5, a6, a7, a8, a9, a10) (nI l) :=
  br_f (nI_pos (by omega)) (br_t (nI_le (b := 5) hl (by decide)) (br_f (nI_nlt (b := 4) ht (by omega)) hp))
theorem bk_key {post : St1 → Prop} {w : Nat} (hw : w < 4) (hp : post (nI (if w < 2 then 1 else 2), nI (bk_kv w), ke, ma, th, a1, a2, a3, a4, a5, a6, a7, a8, a9, a10)) :
    wpL_key post (ty, bu, ke, ma, th, a1, a2, a3, a4, a5, a6, a7, a8, a9, a10) (nI w) := by
  have step : ∀ (z : Nat), z ≤ 5 → (w < 2 → post (nI 1, nI ((z + 1) * 343), ke, ma, th, a1, a2, a3, a4, a5, a6, a7, a8, a9, a10)) → (w = 2 → post (nI 2, nI ((z + 1) * 343 + 294), ke, ma, th, a1, a2, a3, a4, a5, a6, a7, a8, a9, a10)) → (w = 3 → post (nI 2, nI ((z + 1) * 343 + 245), ke, ma, th, a1, a2, a3, a4, a5, a6, a7, a8, a9, a10)) → wL_key_16 post (nI w) (nI z) 0 0 ke ma th a1 a2 a3 a4 a5 a6 a7 a8 a9 a10 := by
    intro z hz h1 h2 h3
    refine bk_type (t := 0) (b := 0) hz (by omega) ?_
    have e0 : 0 + (z + 1) * bk_un 0 = (z + 1) * 343 := by rw [Nat.zero_add]; rfl
    rw [e0]
    refine pk_le w 1 (fun q => h1 (by omega)) (fun q => pk_eq w 2 (fun q2 => ?_) (fun q2 => ?_))
    · exact bk_type (l := 5) (t := 1) (by omega) (by omega) (h2 q2)
    · exact bk_type (l := 4) (t := 1) (by omega) (by omega) (h3 (by omega))
  rcases bk_4 hw with e | e | e | e
  · subst e
    exact br_t (by decide) (step 0 (by omega) (fun _ => hp) (fun z => absurd z (by omega)) (fun z => absurd z (by omega)))
  · subst e
    exact br_f (by decide) (step 5 (by omega) (fun _ => hp) (fun z => absurd z (by omega)) (fun z => absurd z (by omega)))
  · subst e
    exact br_t (by decide) (step 0 (by omega) (fun z => absurd z (by omega)) (fun _ => hp) (fun z => absurd z (by omega)))
  · subst e
    exact br_f (by decide) (step 5 (by omega) (fun z => absurd z (by omega)) (fun z => absurd z (by omega)) (fun _ => hp))
theorem bk_ty0 {w : Nat} : ¬ nI (if w < 2 then 1 else 2) = 0 := by
  split <;> decide
theorem bk_row {m w v : Nat} {l : List Nat} {C : Nat → List Nat} (k : bk_K m C ke th a1 a2 a3 a7) (hw : w < 4) (e : C w = v :: l) : m.testBit w = true ∧ bk_pos m w < 4 ∧ v < 24 ∧ a2 (bk_pos m w) = nI v ∧ bk_ch a7 l (a7 v) := by
  obtain ⟨k1, k2, k3, k4, k5, k6, k7, k8⟩ := k
  have hb : m.testBit w = true := (k2 w hw).mpr (by rw [e]; simp)
  have h4 := bk_f0 m k1
  obtain ⟨f1, f2⟩ := bk_f2 m k1 w hw hb
  have r := (k7 _ f1).2
  rw [f2, e] at r
  exact ⟨hb, by omega, k3.2.1 w hw v (by rw [e]; simp), r.1, r.2⟩
theorem bk_placeC {post : Int32 → Prop} {m w : Nat} {C : Nat → List Nat} (k : bk_K m C ke th a1 a2 a3 a7) (hw : w < 4) (h0 : C w = [] → post (-1)) (h1 : ∀ v l, C w = v :: l → post (nI (bk_pos m w))) :
    wpX_placeOf post (ty, bu, ke, ma, th, a1, a2, a3, a4, a5, a6, a7, a8, a9, a10) (nI (bk_kv w)) := by
  refine bk_place k hw (fun hb => ?_) (fun hb => ?_)
  · cases hc : C w with
    | nil => exact absurd hc ((k.2.1 w hw).mp hb)
    | cons v l => exact h1 v l hc
  · refine h0 (Classical.byContradiction (fun z => ?_))
    have := (k.2.1 w hw).mpr z
    rw [hb] at this
    exact absurd this (by decide)
theorem bk_isP {post : Int32 → Prop} {m w v : Nat} {l : List Nat} {C : Nat → List Nat} (k : bk_K m C ke th a1 a2 a3 a7) (hw : w < 4) (e : C w = v :: l) (h1 : a6 v = 0 → post 1) (h0 : ¬ a6 v = 0 → post 0) :
    wpX_isPresent post (ty, bu, ke, ma, th, a1, a2, a3, a4, a5, a6, a7, a8, a9, a10) (nI (bk_pos m w)) := by
  obtain ⟨r0, r1, r2, r3, r4⟩ := bk_row k hw e
  have ec : (nI (bk_pos m w)).toNatClampNeg = bk_pos m w := nI_clamp (by omega)
  refine br_f (nI_pos (by omega)) ⟨pk_in (bk_pos m w) 24 (by omega), ?_⟩
  rw [ec, r3, nI_clamp (show v < 2 ^ 31 by omega)]
  exact ⟨pk_in v 24 r2, br_c h1 h0⟩
theorem bk_isN {post : Int32 → Prop} (h : post 0) : wpX_isPresent post (ty, bu, ke, ma, th, a1, a2, a3, a4, a5, a6, a7, a8, a9, a10) (-1) := br_t (by decide) h
theorem bk_present {post : Int32 → Prop} {m w : Nat} {C : Nat → List Nat} (k : bk_K m C ke th a1 a2 a3 a7) (hw : w < 4) (hn : C w = [] → post 0) (h1 : ∀ v l, C w = v :: l → a6 v = 0 → post 1) (h0 : ∀ v l, C w = v :: l → ¬ a6 v = 0 → post 0) :
    wpX_present post (ty, nI (bk_kv w), ke, ma, th, a1, a2, a3, a4, a5, a6, a7, a8, a9, a10) := by
  unfold wpX_present
  refine bk_placeC k hw (fun e => bk_isN ⟨by decide, hn e⟩) (fun v l e => bk_isP k hw e (fun z => ⟨by decide, h1 v l e z⟩) (fun z => ⟨by decide, h0 v l e z⟩))
theorem bk_get {post : Int32 → Prop} {m w : Nat} {C : Nat → List Nat} (k : bk_K m C ke th a1 a2 a3 a7) (hw : w < 4) (hn : C w = [] → post 0) (h1 : ∀ v l, C w = v :: l → a6 v = 0 → post (a5 v)) (h0 : ∀ v l, C w = v :: l → ¬ a6 v = 0 → post 0) :
    wpX_get post (ty, nI (bk_kv w), ke, ma, th, a1, a2, a3, a4, a5, a6, a7, a8, a9, a10) := by
  unfold wpX_get
  refine bk_placeC k hw (fun e => bk_isN (br_t rfl (hn e))) (fun v l e => bk_isP k hw e (fun z => br_f (by decide) ?_) (fun z => br_t rfl (h0 v l e z)))
  obtain ⟨r0, r1, r2, r3, r4⟩ := bk_row k hw e
  refine ⟨pk_in (bk_pos m w) 24 (by omega), ?_⟩
  rw [nI_clamp (show bk_pos m w < 2 ^ 31 by omega), r3, nI_clamp (show v < 2 ^ 31 by omega)]
  exact ⟨pk_in v 24 r2, h1 v l e z⟩
/-- what versionAt answers -/
def bk_vv (a4 : Nat → Int32) (j : Nat) (l : List Nat) : Int32 := match l[j]? with | some v => a4 v | none => -7
theorem bk_verW {post : Int32 → Prop} {j : Nat} (hj : j < 100) : ∀ (l : List Nat) (x : Int32) (i : Nat), (∀ u, u ∈ l → u < 24) → bk_ch a7 l x → i ≤ j → post (bk_vv a4 (j - i) l) → wX_versionAt_30 post (nI j) ty bu ke ma th a1 a2 a3 a4 a5 a6 a7 a8 a9 a10 (l.length + 1) x (nI i) := by
  intro l
  induction l with
  | nil =>
    intro x i hu hc hi hp
    have e : x = -1 := hc
    rw [wX_versionAt_30, e]
    have t : wX_versionAt_53 post (-1) ty bu ke ma th a1 a2 a3 a4 a5 a6 a7 a8 a9 a10 := br_f (by decide) hp
    exact br_c (fun _ => t) (fun _ => br_t (by decide) t)
  | cons u l ih =>
    intro x i hu hc hi hp
    obtain ⟨e, hc2⟩ := hc
    have hu24 := hu u (by simp)
    have ec : (nI u).toNatClampNeg = u := nI_clamp (by omega)
    rw [List.length_cons, wX_versionAt_30, e]
    refine pk_le j i (fun z => br_t (nI_pos' (by omega)) ⟨pk_in u 24 hu24, ?_⟩) (fun z => br_f (nI_pos (by omega)) ⟨pk_in u 24 hu24, nm_r (e' := a7 u) (by rw [ec]) (nm_r (nI_1 i) (ih _ _ (fun y hy => hu y (List.mem_cons_of_mem _ hy)) hc2 (by omega) ?_))⟩)
    · rw [ec]
      rw [show j - i = 0 by omega] at hp
      exact hp
    · rw [show j - i = (j - (i + 1)) + 1 by omega] at hp
      unfold bk_vv at hp ⊢
      rw [List.getElem?_cons_succ] at hp
      exact hp
theorem bk_versionAt {post : Int32 → Prop} {m w j : Nat} {C : Nat → List Nat} (k : bk_K m C ke th a1 a2 a3 a7) (hw : w < 4) (hj : j < 100) (hp : post (bk_vv a4 j (C w))) :
    wpX_versionAt post (ty, nI (bk_kv w), ke, ma, th, a1, a2, a3, a4, a5, a6, a7, a8, a9, a10) (nI j) := by
  unfold wpX_versionAt
  refine bk_placeC k hw (fun e => br_t (by decide) ?_) (fun v l e => ?_)
  · rw [e] at hp
    exact hp
  · obtain ⟨r0, r1, r2, r3, r4⟩ := bk_row k hw e
    refine br_f (nI_pos (by omega)) (br_t (nI_pos' (by omega)) ⟨pk_in (bk_pos m w) 24 (by omega), nm_r (e' := nI v) (by rw [nI_clamp (show bk_pos m w < 2 ^ 31 by omega), r3]) ⟨_, bk_verW hj (v :: l) (nI v) 0 ?_ ⟨rfl, r4⟩ (by omega) ?_⟩⟩)
    · rw [← e]
      exact k.2.2.1.2.1 w hw
    · rw [← e]
      exact hp
theorem bk_nar0 : vp_nar .boolean 0 = 0 := by rfl
theorem bk_nar1 : vp_nar .boolean 1 = 1 := by rfl
theorem bk_put {post : Int32 → St1 → Prop} {m w : Nat} {C : Nat → List Nat} {p0 : Int32} (k : bk_K m C ke th a1 a2 a3 a7) (hw : w < 4) (hty : ¬ ty = 0)
    (hF : bk_tl C = 24 → post (-2) (ty, nI (bk_kv w), ke, ma, th, a1, a2, a3, a4, a5, a6, a7, a8, a9, a10))
    (hA : bk_tl C < 24 → ∀ m' v ke' th' c1 c2 c7, v < 24 → (∀ u, u < 4 → v ∉ C u) → bk_K m' (bk_cu C w (v :: C w)) ke' th' c1 c2 (upd a3 v 1) c7 → post ma (ty, nI (bk_kv w), ke', ma + 1, th', c1, c2, upd a3 v 1, upd a4 v ma, upd a5 v p0, upd a6 v 0, c7, a8, a9, a10)) :
    wpX_put post (ty, nI (bk_kv w), ke, ma, th, a1, a2, a3, a4, a5, a6, a7, a8, a9, a10) p0 := by
  have h24 := k.2.2.2.1
  have hth := k.2.2.2.2.2.1
  refine br_f hty (pk_lt (bk_tl C) 24 (fun z => ?_) (fun z => hF (by omega)) hth)
  refine bk_addV k hw z (fun m' v ke' th' c1 c2 c7 q1 q2 q3 => ?_)
  rw [bk_nar0]
  exact hA z m' v ke' th' c1 c2 c7 q1 q2 q3
theorem bk_remove {post : Int32 → St1 → Prop} {m w : Nat} {C : Nat → List Nat} (k : bk_K m C ke th a1 a2 a3 a7) (hw : w < 4) (hty : ¬ ty = 0)
    (hn : C w = [] → post (-3) (ty, nI (bk_kv w), ke, ma, th, a1, a2, a3, a4, a5, a6, a7, a8, a9, a10))
    (h0 : ∀ y l, C w = y :: l → ¬ a6 y = 0 → post (-3) (ty, nI (bk_kv w), ke, ma, th, a1, a2, a3, a4, a5, a6, a7, a8, a9, a10))
    (hF : ∀ y l, C w = y :: l → a6 y = 0 → bk_tl C = 24 → post (-2) (ty, nI (bk_kv w), ke, ma, th, a1, a2, a3, a4, a5, a6, a7, a8, a9, a10))
    (hA : ∀ y l, C w = y :: l → a6 y = 0 → bk_tl C < 24 → ∀ m' v ke' th' c1 c2 c7, v < 24 → (∀ u, u < 4 → v ∉ C u) → bk_K m' (bk_cu C w (v :: C w)) ke' th' c1 c2 (upd a3 v 1) c7 → post ma (ty, nI (bk_kv w), ke', ma + 1, th', c1, c2, upd a3 v 1, upd a4 v ma, upd a5 v 0, upd a6 v 1, c7, a8, a9, a10)) :
    wpX_remove post (ty, nI (bk_kv w), ke, ma, th, a1, a2, a3, a4, a5, a6, a7, a8, a9, a10) := by
  have h24 := k.2.2.2.1
  have hth := k.2.2.2.2.2.1
  unfold wpX_remove
  refine bk_placeC k hw (fun e => br_f hty (bk_isN (br_t rfl (hn e)))) (fun y l e => br_f hty (bk_isP k hw e (fun z6 => br_f (by decide) ?_) (fun z6 => br_t rfl (h0 y l e z6))))
  refine pk_lt (bk_tl C) 24 (fun z => ?_) (fun z => hF y l e z6 (by omega)) hth
  refine bk_addV k hw z (fun m' v ke' th' c1 c2 c7 q1 q2 q3 => ?_)
  rw [bk_nar1]
  exact hA y l e z6 z m' v ke' th' c1 c2 c7 q1 q2 q3
theorem bk_destroy {post : Int32 → St1 → Prop} {m : Nat} {C : Nat → List Nat} {x1 : Int32} (k : bk_K m C ke th a1 a2 a3 a7)
    (h0 : (∀ w v, w < 4 → v ∈ C w → ¬ a4 v = x1) → post (-4) (ty, bu, ke, ma, th, a1, a2, a3, a4, a5, a6, a7, a8, a9, a10))
    (h1 : ∀ w v, w < 4 → v ∈ C w → a4 v = x1 → ∀ m' c1 c2 c3 c7, bk_K m' (bk_cu C w ((C w).erase v)) (nI (bk_n m')) (nI (bk_tl C - 1)) c1 c2 c3 c7 → post (nI (bk_tl C - 1)) (ty, bu, nI (bk_n m'), ma, nI (bk_tl C - 1), c1, c2, c3, a4, a5, a6, c7, a8, a9, a10)) :
    wpX_destroy post (ty, bu, ke, ma, th, a1, a2, a3, a4, a5, a6, a7, a8, a9, a10) x1 := by
  have kk := k
  obtain ⟨k1, k2, k3, k4, k5, k6, k7, k8⟩ := k
  unfold wpX_destroy
  refine bk_slot (fun v hv h3 h4 => br_t (nI_pos' (by omega)) ?_) (fun h => br_f (by decide) (h0 (fun w v hw hv => h v (k3.2.1 w hw v hv) ?_)))
  · have : ∃ w, w < 4 ∧ v ∈ C w := by
      apply Classical.byContradiction
      intro z
      exact h3 ((k8 v hv).2 (fun w hw hm => z ⟨w, hw, hm⟩))
    obtain ⟨w, hw, hm⟩ := this
    have hb : m.testBit w = true := (k2 w hw).mpr (fun z => by rw [z] at hm; cases hm)
    obtain ⟨f1, f2⟩ := bk_f2 m k1 w hw hb
    refine bk_destroyL kk f1 (by rw [f2]; exact hm) (fun m' c1 c2 c3 c7 t => ?_)
    rw [f2] at t
    exact h1 w v hw hm h4 m' c1 c2 c3 c7 t
  · rw [(k8 v (k3.2.1 w hw v hv)).1 ⟨w, hw, hv⟩]
    decide
end
end
section
/-! ===== listing: nextListed, folderPlace, findEntry, list, entry ===== -/
def bk_rest (m s i : Nat) : List Nat := ((bk_dir m).drop i).filter (fun w => s.testBit w)
theorem bk_g1 : ∀ m, m < 16 → ∀ s, s < 16 → ∀ i, i < bk_n m → bk_rest m s i = if s.testBit (bk_at m i) = true then bk_at m i :: bk_rest m s (i + 1) else bk_rest m s (i + 1) := by decide +kernel
theorem bk_g2 : ∀ m, m < 16 → ∀ s, s < 16 → bk_rest m s (bk_n m) = [] := by decide +kernel
theorem bk_g3 : ∀ m, m < 16 → ∀ s, s < 16 → (∀ w, w < 4 → s.testBit w = true → m.testBit w = true) → bk_rest m s 0 = bk_dir s := by decide +kernel
theorem bk_g4 : ∀ m, m < 16 → ∀ i, i < bk_n m → bk_at m i = 2 → ∀ j, j < bk_n m → (if j ≤ i then decide (bk_kv (bk_at m j) < 686) else decide (686 ≤ bk_kv (bk_at m j))) = true := by decide +kernel
/-- the listing's entries, of the keys that are listed -/
def bk_en (f : Int32) : List Nat → List Nat
  | [] => []
  | w :: E => if f = 0 then bk_kv w :: bk_en f E else if w = 0 then 343 :: bk_en f E else if w = 2 then 637 :: bk_en f E else [2058]
/-- what findEntry answers -/
def bk_fv (x1 : Int32) : Nat → List Nat → Int32
  | n, [] => (-1) - nI n
  | n, e :: E => if nI n = x1 then nI e else bk_fv x1 (n + 1) E
def bk_dg (k u : Int32) : Int32 := (k / u) - (k / u) / 7 * 7
def bk_cd (k : Int32) : Int32 := (((0 * 7 + bk_dg k 1) * 7 + bk_dg k 7) * 7 + bk_dg k 49) * 7 + bk_dg k 343
section
variable {ty bu ke ma th : Int32} {a1 a2 a3 a4 a5 a6 a7 a8 a9 a10 : Nat → Int32}
/-- s is the mask of the keys that are present -/
def bk_P (s : Nat) (C : Nat → List Nat) (a6 : Nat → Int32) : Prop := s < 16 ∧ ∀ w, w < 4 → (s.testBit w = true ↔ ∃ v l, C w = v :: l ∧ a6 v = 0)
theorem bk_next {post : Int32 → Prop} {m s f : Nat} {C : Nat → List Nat} (k : bk_K m C ke th a1 a2 a3 a7) (hS : bk_P s C a6) (hf : f ≤ bk_n m)
    (h0 : bk_rest m s f = [] → post (-1)) (h1 : ∀ i, f ≤ i → i < bk_n m → bk_rest m s f = bk_at m i :: bk_rest m s (i + 1) → post (nI i)) :
    wpX_nextListed post (0, 0, ke, ma, th, a1, a2, a3, a4, a5, a6, a7, a8, a9, a10) (nI f) := by
  obtain ⟨k1, k2, k3, k4, k5, k6, k7, k8⟩ := k
  have h4 := bk_f0 m k1
  have L : ∀ d i, i + d = bk_n m → (bk_rest m s i = [] → post (-1)) → (∀ j, i ≤ j → j < bk_n m → bk_rest m s i = bk_at m j :: bk_rest m s (j + 1) → post (nI j)) → wX_nextListed_7 post 2401 0 0 ke ma th a1 a2 a3 a4 a5 a6 a7 a8 a9 a10 (d + 1) (nI i) := by
    intro d
    induction d with
    | zero =>
      intro i hi q0 q1
      rw [wX_nextListed_7]
      obtain rfl : i = bk_n m := by omega
      refine br_t (by rw [k5]; exact nI_le (Nat.le_refl _) (by omega)) (q0 (bk_g2 m k1 s hS.1))
    | succ d ih =>
      intro i hi q0 q1
      have hin : i < bk_n m := by omega
      obtain ⟨f1, f2⟩ := bk_f1 m k1 i hin
      obtain ⟨r1, r2⟩ := k7 i hin
      obtain ⟨v, l, e⟩ : ∃ v l, C (bk_at m i) = v :: l := by
        cases hc : C (bk_at m i) with
        | nil => exact absurd hc ((k2 _ f1).mp f2)
        | cons v l => exact ⟨v, l, rfl⟩
      rw [e] at r2
      have hv24 : v < 24 := k3.2.1 _ f1 v (by rw [e]; simp)
      have hkv := bk_kv_lt (bk_at m i)
      have g := bk_g1 m k1 s hS.1 i hin
      rw [wX_nextListed_7]
      refine br_f (by rw [k5]; exact nI_ge hin (by omega)) ⟨pk_in i 24 (by omega), ?_⟩
      rw [nI_clamp (show i < 2 ^ 31 by omega), r1, r2.1, nI_clamp (show v < 2 ^ 31 by omega)]
      refine br_f (nI_ge (b := 2401) (by omega) (by decide)) ⟨pk_in i 24 (by omega), pk_in v 24 hv24, br_c (fun z => ?_) (fun z => nm_r (nI_1 i) ?_)⟩
      · have hb : s.testBit (bk_at m i) = true := (hS.2 _ f1).mpr ⟨v, l, e, z⟩
        rw [if_pos hb] at g
        exact q1 i (Nat.le_refl _) hin g
      · have hb : ¬ s.testBit (bk_at m i) = true := by
          intro hb
          obtain ⟨v', l', e', z'⟩ := (hS.2 _ f1).mp hb
          rw [e] at e'
          injection e' with e1 e2
          rw [e1] at z
          exact z z'
        rw [if_neg hb] at g
        rw [g] at q0 q1
        exact ih (i + 1) (by omega) q0 (fun j hj hj2 => q1 j (by omega) hj2)
  refine br_t rfl ⟨_, L (bk_n m - f) f (by omega) h0 h1⟩
theorem bk_digit {post : Int32 → Prop} {K : Int32} {t : Nat} (ht : t < 100) (hp : post (bk_dg K (nI (bk_un t)))) : wpX_digitAt post () K (nI t) := by
  refine bk_unit ht ⟨?_, by decide, hp⟩
  unfold bk_un
  (repeat' split) <;> decide
theorem bk_folder {post : Int32 → Prop} {w : Nat} (hw : w < 4) (hp : post (if w = 0 then -1 else if w = 2 then 1 else 0)) :
    wpX_folderPlace post (0, bu, ke, ma, th, a1, a2, a3, a4, a5, a6, a7, a8, a9, a10) (nI (bk_kv w)) := by
  have L : ∀ (d p : Nat), p + d = 4 → (∀ q, p ≤ q → q < 4 → bk_dg (nI (bk_kv w)) (nI (bk_un q)) = 6 → (∀ q', p ≤ q' → q' < q → ¬ bk_dg (nI (bk_kv w)) (nI (bk_un q')) = 6) → post (nI q)) → ((∀ q, p ≤ q → q < 4 → ¬ bk_dg (nI (bk_kv w)) (nI (bk_un q)) = 6) → post (-1)) → wX_folderPlace_5 post (nI (bk_kv w)) 0 bu ke ma th a1 a2 a3 a4 a5 a6 a7 a8 a9 a10 (d + 1) (nI p) := by
    intro d
    induction d with
    | zero =>
      intro p hp h1 h0
      rw [wX_folderPlace_5]
      exact br_t (nI_le (a := 4) (by omega) (by omega)) (h0 (fun q hq hq2 => absurd hq2 (by omega)))
    | succ d ih =>
      intro p hp h1 h0
      rw [wX_folderPlace_5]
      refine br_f (nI_ge (b := 4) (by omega) (by decide)) (bk_digit (by omega) (br_c (fun z => h1 p (Nat.le_refl _) (by omega) z (fun q' hq hq2 => absurd hq2 (by omega))) (fun z => nm_r (nI_1 p) (ih (p + 1) (by omega) (fun q hq hq2 z2 z3 => h1 q (by omega) hq2 z2 (fun q' hq' hq2' => ?_)) (fun z2 => h0 (fun q hq hq2 => ?_))))))
      · by_cases e : q' = p
        · rw [e]; exact z
        · exact z3 q' (by omega) hq2'
      · by_cases e : q = p
        · rw [e]; exact z
        · exact z2 q (by omega) hq2
  have F1 : ∀ w, w < 4 → ∀ q, q < 4 → bk_dg (nI (bk_kv w)) (nI (bk_un q)) = 6 → (∀ q', q' < q → ¬ bk_dg (nI (bk_kv w)) (nI (bk_un q')) = 6) → (if w = 0 then -1 else if w = 2 then 1 else 0 : Int32) = nI q := by decide +kernel
  have F0 : ∀ w, w < 4 → (∀ q, q < 4 → ¬ bk_dg (nI (bk_kv w)) (nI (bk_un q)) = 6) → (if w = 0 then -1 else if w = 2 then 1 else 0 : Int32) = -1 := by decide +kernel
  refine ⟨5, L 4 0 (by omega) (fun q _ hq z z2 => ?_) (fun z => ?_)⟩
  · rw [← F1 w hw q hq z (fun q' hq' => z2 q' (by omega) hq')]
    exact hp
  · rw [F0 w hw (fun q hq => z q (by omega) hq)] at hp
    exact hp
theorem bk_findE {post : Int32 → Prop} {x1 x2 : Int32} {f n t : Nat} (hp : post ((-1) - nI n)) : wX_findEntry_23 post x1 x2 0 0 ke ma th a1 a2 a3 a4 a5 a6 a7 a8 a9 a10 (f + 1) (nI n) (-1) (nI t) := by
  rw [wX_findEntry_23]
  exact br_c (fun _ => hp) (fun _ => br_t (by decide) hp)
theorem bk_findL {post : Int32 → Prop} {m s : Nat} {C : Nat → List Nat} {x1 x2 : Int32} (k : bk_K m C ke th a1 a2 a3 a7) (hS : bk_P s C a6) :
    ∀ (d i n t : Nat), bk_n m - i ≤ d → i < bk_n m → t + d ≤ 20 → n + d ≤ 20 → post (bk_fv x1 n (bk_en x2 (bk_at m i :: bk_rest m s (i + 1)))) → wX_findEntry_23 post x1 x2 0 0 ke ma th a1 a2 a3 a4 a5 a6 a7 a8 a9 a10 (d + 1) (nI n) (nI i) (nI t) := by
  have kk := k
  obtain ⟨k1, k2, k3, k4, k5, k6, k7, k8⟩ := k
  have h4 := bk_f0 m k1
  intro d
  induction d with
  | zero => intro i n t hd hi; omega
  | succ d ih =>
    intro i n t hd hi ht hn hp
    obtain ⟨f1, f2⟩ := bk_f1 m k1 i hi
    have r1 := (k7 i hi).1
    have ec : (nI i).toNatClampNeg = i := nI_clamp (by omega)
    -- the step behind an entry: nextListed from f on
    have nx : ∀ f, i + 1 ≤ f → f ≤ bk_n m → post (bk_fv x1 (n + 1) (bk_en x2 (bk_rest m s f))) → wX_findEntry_134 post (wX_findEntry_23 post x1 x2 0 0 ke ma th a1 a2 a3 a4 a5 a6 a7 a8 a9 a10 (d + 1)) x1 x2 (nI (n + 1)) (nI t) (nI f) 0 0 ke ma th a1 a2 a3 a4 a5 a6 a7 a8 a9 a10 := by
      intro f hf hf2 hq
      unfold wX_findEntry_134
      refine bk_next kk hS hf2 (fun e => nm_r (nI_1 t) ?_) (fun j hj hj2 e => nm_r (nI_1 t) ?_)
      · rw [e] at hq
        exact bk_findE hq
      · rw [e] at hq
        exact ih j (n + 1) (t + 1) (by omega) hj2 (by omega) (by omega) hq
    rw [wX_findEntry_23]
    refine br_f (nI_ge (b := 24) (by omega) (by decide)) (br_f (nI_pos (by omega)) (br_c (fun z => ?_) (fun z => ⟨pk_in i 24 (by omega), ?_⟩)))
    · rw [bk_en, if_pos z, bk_fv] at hp
      refine br_f (by decide) ⟨pk_in i 24 (by omega), br_c (fun z1 => ?_) (fun z1 => nm_r (nI_1 n) (nm_r (nI_1 i) (br_t (by decide) (nx (i + 1) (Nat.le_refl _) (by omega) ?_))))⟩
      · rw [if_pos z1] at hp
        rw [ec, r1]
        exact hp
      · rw [if_neg z1] at hp
        exact hp
    · rw [bk_en, if_neg z] at hp
      rw [ec, r1]
      refine bk_folder f1 ?_
      rcases bk_4 f1 with e | e | e | e
      · rw [e, if_pos rfl] at hp ⊢
        rw [bk_fv] at hp
        refine br_f (by decide) ⟨pk_in i 24 (by omega), br_c (fun z1 => ?_) (fun z1 => nm_r (nI_1 n) (nm_r (nI_1 i) (br_t (by decide) (nx (i + 1) (Nat.le_refl _) (by omega) ?_))))⟩
        · rw [if_pos z1] at hp
          rw [ec, r1, e]
          exact hp
        · rw [if_neg z1] at hp
          exact hp
      · rw [e, if_neg (by decide), if_neg (by decide)] at hp ⊢
        rw [bk_fv] at hp
        refine br_t (by decide) ⟨pk_in i 24 (by omega), pk_in i 24 (by omega), bk_unit (t := 0) (by omega) ⟨by decide, ?_⟩⟩
        rw [ec, r1, e]
        refine br_c (fun z1 => ?_) (fun z1 => nm_r (nI_1 n) (nm_r (nI_1 i) (br_f (by decide) (bk_unit (t := 0) (by omega) (nm_r (e' := nI 2401) (by decide) ?_)))))
        · rw [if_pos z1] at hp
          rw [show nI (bk_kv 1) - (nI (bk_kv 1) - nI (bk_kv 1) / nI (bk_un 0) * nI (bk_un 0)) = nI 2058 by decide]
          exact hp
        · rw [if_neg z1] at hp
          refine bk_seekM k1 k5 (fun j hj => (k7 j hj).1) (by decide) (Nat.le_refl _) (fun j _ => Nat.lt_of_le_of_lt (bk_kv_lt _) (by decide)) (fun j hj hj2 => absurd hj2 (by omega)) (nx (bk_n m) (by omega) (Nat.le_refl _) ?_)
          rw [bk_g2 m k1 s hS.1]
          exact hp
      · rw [e, if_neg (by decide), if_pos rfl] at hp ⊢
        rw [bk_fv] at hp
        refine br_t (by decide) ⟨pk_in i 24 (by omega), pk_in i 24 (by omega), bk_unit (t := 1) (by omega) ⟨by decide, ?_⟩⟩
        rw [ec, r1, e]
        refine br_c (fun z1 => ?_) (fun z1 => nm_r (nI_1 n) (nm_r (nI_1 i) (br_f (by decide) (bk_unit (t := 1) (by omega) (nm_r (e' := nI 686) (by decide) ?_)))))
        · rw [if_pos z1] at hp
          rw [show nI (bk_kv 2) - (nI (bk_kv 2) - nI (bk_kv 2) / nI (bk_un 1) * nI (bk_un 1)) = nI 637 by decide]
          exact hp
        · rw [if_neg z1] at hp
          have g0 := bk_g4 m k1 i hi e
          have g1 : ∀ j, j < i + 1 → bk_kv (bk_at m j) < 686 := by
            intro j hj
            have t := g0 j (by omega)
            rw [if_pos (by omega)] at t
            exact of_decide_eq_true t
          have g2 : ∀ j, j < bk_n m → i + 1 ≤ j → 686 ≤ bk_kv (bk_at m j) := by
            intro j hj hj2
            have t := g0 j hj
            rw [if_neg (by omega)] at t
            exact of_decide_eq_true t
          exact bk_seekM k1 k5 (fun j hj => (k7 j hj).1) (by decide) (by omega) g1 g2 (nx (i + 1) (Nat.le_refl _) (by omega) hp)
      · rw [e, if_neg (by decide), if_neg (by decide)] at hp ⊢
        rw [bk_fv] at hp
        refine br_t (by decide) ⟨pk_in i 24 (by omega), pk_in i 24 (by omega), bk_unit (t := 0) (by omega) ⟨by decide, ?_⟩⟩
        rw [ec, r1, e]
        refine br_c (fun z1 => ?_) (fun z1 => nm_r (nI_1 n) (nm_r (nI_1 i) (br_f (by decide) (bk_unit (t := 0) (by omega) (nm_r (e' := nI 2401) (by decide) ?_)))))
        · rw [if_pos z1] at hp
          rw [show nI (bk_kv 3) - (nI (bk_kv 3) - nI (bk_kv 3) / nI (bk_un 0) * nI (bk_un 0)) = nI 2058 by decide]
          exact hp
        · rw [if_neg z1] at hp
          refine bk_seekM k1 k5 (fun j hj => (k7 j hj).1) (by decide) (Nat.le_refl _) (fun j _ => Nat.lt_of_le_of_lt (bk_kv_lt _) (by decide)) (fun j hj hj2 => absurd hj2 (by omega)) (nx (bk_n m) (by omega) (Nat.le_refl _) ?_)
          rw [bk_g2 m k1 s hS.1]
          exact hp
theorem bk_find {post : Int32 → Prop} {m s : Nat} {C : Nat → List Nat} {x1 x2 : Int32} (k : bk_K m C ke th a1 a2 a3 a7) (hS : bk_P s C a6) (hp : post (bk_fv x1 0 (bk_en x2 (bk_dir s)))) :
    wpX_findEntry post (0, 0, ke, ma, th, a1, a2, a3, a4, a5, a6, a7, a8, a9, a10) x1 x2 := by
  have kk := k
  obtain ⟨k1, k2, k3, k4, k5, k6, k7, k8⟩ := k
  have h4 := bk_f0 m k1
  have hsub : ∀ w, w < 4 → s.testBit w = true → m.testBit w = true := by
    intro w hw hb
    obtain ⟨v, l, e, _⟩ := (hS.2 w hw).mp hb
    exact (k2 w hw).mpr (by rw [e]; simp)
  have g := bk_g3 m k1 s hS.1 hsub
  rw [← g] at hp
  unfold wpX_findEntry
  refine bk_seekM (k := 0) k1 k5 (fun j hj => (k7 j hj).1) (by decide) (Nat.zero_le _) (fun j hj => absurd hj (by omega)) (fun j _ _ => Nat.zero_le _) ?_
  refine bk_next kk hS (Nat.zero_le _) (fun e => ⟨1, ?_⟩) (fun j hj hj2 e => ⟨6, ?_⟩)
  · rw [e] at hp
    exact bk_findE hp
  · rw [e] at hp
    exact bk_findL kk hS 5 j 0 0 (by omega) hj2 (by omega) (by omega) hp
theorem bk_list {post : Int32 → Prop} {m s : Nat} {C : Nat → List Nat} {x2 : Int32} (k : bk_K m C ke th a1 a2 a3 a7) (hS : bk_P s C a6) (hp : post ((-1) - bk_fv (-1) 0 (bk_en x2 (bk_dir s)))) :
    wpX_list post (0, 0, ke, ma, th, a1, a2, a3, a4, a5, a6, a7, a8, a9, a10) x2 := by
  unfold wpX_list
  exact bk_find k hS hp
theorem bk_entry {post : Int32 → Prop} {m s : Nat} {C : Nat → List Nat} {x1 x2 : Int32} (k : bk_K m C ke th a1 a2 a3 a7) (hS : bk_P s C a6) (hx : 0 ≤ x1) (hr : 0 ≤ bk_fv x1 0 (bk_en x2 (bk_dir s))) (hp : post (bk_cd (bk_fv x1 0 (bk_en x2 (bk_dir s))))) :
    wpX_entry post (0, 0, ke, ma, th, a1, a2, a3, a4, a5, a6, a7, a8, a9, a10) x1 x2 := by
  refine br_t hx (bk_find k hS (br_t hr ⟨5, ?_⟩))
  rw [wX_entry_27]
  refine br_f (by decide) (bk_digit (t := 3) (by omega) (nm_e (nm_r (e' := 2) (by decide) ?_)))
  rw [wX_entry_27]
  refine br_f (by decide) (bk_digit (t := 2) (by omega) (nm_e (nm_r (e' := 1) (by decide) ?_)))
  rw [wX_entry_27]
  refine br_f (by decide) (bk_digit (t := 1) (by omega) (nm_e (nm_r (e' := 0) (by decide) ?_)))
  rw [wX_entry_27]
  refine br_f (by decide) (bk_digit (t := 0) (by omega) (nm_e (nm_r (e' := -1) (by decide) ?_)))
  rw [wX_entry_27]
  exact br_t (by decide) hp
end
end
section
/-! ===== the law's checks behind a call: listed, and the four keys one by one ===== -/
theorem bk_lst (s : Nat) (hs : s < 16) : s = 0 ∨ s = 1 ∨ s = 2 ∨ s = 3 ∨ s = 4 ∨ s = 5 ∨ s = 6 ∨ s = 7 ∨ s = 8 ∨ s = 9 ∨ s = 10 ∨ s = 11 ∨ s = 12 ∨ s = 13 ∨ s = 14 ∨ s = 15 := by omega
section
variable {ty bu ke ma th : Int32} {a1 a2 a3 a4 a5 a6 a7 a8 a9 a10 : Nat → Int32}
theorem bk_listed {post : Int32 → St1 → Prop} {m s : Nat} {C : Nat → List Nat} (k : bk_K m C ke th a1 a2 a3 a7) (hS : bk_P s C a6) (hp : post 1 (0, 0, ke, ma, th, a1, a2, a3, a4, a5, a6, a7, a8, a9, a10)) :
    wpL_listed post (ty, bu, ke, ma, th, a1, a2, a3, a4, a5, a6, a7, a8, a9, a10) (if s.testBit 0 = true then 1 else 0) (if s.testBit 1 = true then 1 else 0) (if s.testBit 2 = true then 1 else 0) (if s.testBit 3 = true then 1 else 0) := by
  rcases bk_lst s hS.1 with e | e | e | e | e | e | e | e | e | e | e | e | e | e | e | e <;> subst e <;>
  repeat (first
    | exact hp
    | refine bk_entry k hS (by decide +kernel) (by decide +kernel) ?_
    | refine bk_list k hS ?_
    | refine br_t (by decide +kernel) ?_
    | refine br_f (by decide +kernel) ?_)
end
end
section
/-! ===== the law's picture, and its checks of the four keys ===== -/
/-- the versions' numbers, contents, markers against the law's longs: X w holds the numbers of key w, o those that are objects; M: how many were made -/
def bq_D (C : Nat → List Nat) (nu : Nat → Nat) (M : Nat) (X : Nat → Int64) (o : Int64) (a4 a5 a6 : Nat → Int32) : Prop :=
  M ≤ 61 ∧
  (∀ w v, w < 4 → v ∈ C w → a4 v = nI (nu v) ∧ nu v < M ∧ a6 v = (if o.toBitVec.getLsbD (nu v) = true then 0 else 1) ∧ (o.toBitVec.getLsbD (nu v) = true → a5 v = nI (1000 + nu v))) ∧
  (∀ w, w < 4 → ((C w).map nu).Pairwise (fun a b => b < a)) ∧
  (∀ w u v y, w < 4 → u < 4 → v ∈ C w → y ∈ C u → nu v = nu y → v = y) ∧
  (∀ w, w < 4 → bv_S (X w) ((C w).map nu)) ∧
  (∀ i, M ≤ i → i < 64 → o.toBitVec.getLsbD i = false)
def bq_P (C : Nat → List Nat) (a6 : Nat → Int32) (w : Nat) : Prop := ∃ v l, C w = v :: l ∧ a6 v = 0
theorem bq_br {c : Prop} {b : Bool} {A : Int32 → Prop} (h : c ↔ b = false) (ha : A (if b = true then 1 else 0)) : (c → A 0) ∧ (¬ c → A 1) := by
  constructor
  · intro z
    rw [h.mp z] at ha
    exact ha
  · intro z
    cases b
    · exact absurd (h.mpr rfl) z
    · exact ha
theorem bq_F0 : ∀ s, s < 16 → ((nI s &&& 1) = 0 ↔ s.testBit 0 = false) := by decide +kernel
theorem bq_F1 : ∀ s, s < 16 → ((nI s &&& 2) = 0 ↔ s.testBit 1 = false) := by decide +kernel
theorem bq_F2 : ∀ s, s < 16 → ((nI s &&& 4) = 0 ↔ s.testBit 2 = false) := by decide +kernel
theorem bq_F3 : ∀ s, s < 16 → ((nI s &&& 8) = 0 ↔ s.testBit 3 = false) := by decide +kernel
theorem bq_sh : ∀ i, i < 4 → ∀ s, s < 2 ^ i → nI s ||| ((1 : Int32) <<< (nI i &&& 31)) = nI (s + 2 ^ i) := by decide +kernel
theorem bq_sb : ∀ i, i < 4 → ∀ s, s < 2 ^ i → s + 2 ^ i < 2 ^ (i + 1) ∧ s < 2 ^ (i + 1) ∧ s.testBit i = false ∧ (s + 2 ^ i).testBit i = true := by decide +kernel
theorem bq_su : ∀ i, i < 4 → ∀ s, s < 2 ^ i → ∀ u, u < i → (s + 2 ^ i).testBit u = s.testBit u := by decide +kernel
theorem bq_62 {C : Nat → List Nat} {nu : Nat → Nat} {M : Nat} {X : Nat → Int64} {o : Int64} {a4 a5 a6 : Nat → Int32} (D : bq_D C nu M X o a4 a5 a6) {w : Nat} (hw : w < 4) : ∀ i, i ∈ (C w).map nu → i < 62 := by
  intro i hi
  obtain ⟨v, hv, e⟩ := List.mem_map.mp hi
  have := (D.2.1 w v hw hv).2.1
  have := D.1
  omega
theorem bq_vv {C : Nat → List Nat} {nu : Nat → Nat} {M : Nat} {X : Nat → Int64} {o : Int64} {a4 a5 a6 : Nat → Int32} (D : bq_D C nu M X o a4 a5 a6) {w : Nat} (hw : w < 4) (j : Nat) : bk_vv a4 j (C w) = bv_nv (-7) 0 j ((C w).map nu) := by
  unfold bk_vv bv_nv
  rw [if_pos (Nat.zero_le j), Nat.sub_zero, List.getElem?_map]
  cases h : (C w)[j]? with
  | none => rfl
  | some v => exact (D.2.1 w v hw (List.mem_of_getElem? h)).1
section
variable {ty bu ke ma th : Int32} {a1 a2 a3 a4 a5 a6 a7 a8 a9 a10 : Nat → Int32} {post : Int32 → Prop} {L : Nat} {xs : Nat → Int32} {kc ks : Nat} {x2 x4 x6 x8 x10 : Int64} {x12 x13 : Int32}
  {J28 : Int64 → Int64 → Int64 → Int64 → Int64 → Int32 → Int32 → Int32 → Int32 → Int32 → Int32 → Int32 → (Nat → Int32) → (Nat → Int32) → (Nat → Int32) → (Nat → Int32) → (Nat → Int32) → (Nat → Int32) → (Nat → Int32) → (Nat → Int32) → (Nat → Int32) → (Nat → Int32) → Prop}
  {J644 : Int32 → Int32 → Int32 → Int32 → Int32 → Int32 → Int32 → (Nat → Int32) → (Nat → Int32) → (Nat → Int32) → (Nat → Int32) → (Nat → Int32) → (Nat → Int32) → (Nat → Int32) → (Nat → Int32) → (Nat → Int32) → (Nat → Int32) → Prop}
theorem bq_742 {m i : Nat} {C : Nat → List Nat} {r0 r1 fl sh : Int32} (k : bk_K m C ke th a1 a2 a3 a7) (hi : i < 4) (h0 : bk_vv a4 0 (C i) = r0) (h1 : bk_vv a4 1 (C i) = r1)
    (hf : (fl = 0 ∧ ¬ bq_P C a6 i) ∨ (fl = 1 ∧ bq_P C a6 i)) (hg : ∀ v l, C i = v :: l → a6 v = 0 → a5 v = 1000 + r0)
    (H : J644 sh (nI (i + 1)) (nI (if i < 2 then 1 else 2)) (nI (bk_kv i)) ke ma th a1 a2 a3 a4 a5 a6 a7 a8 a9 a10) :
    wL_law_742 post L xs J28 J644 x2 x4 x6 x8 x10 x12 x13 (nI i) r0 r1 fl sh kc ks ty bu ke ma th a1 a2 a3 a4 a5 a6 a7 a8 a9 a10 := by
  have t778 : ∀ g, wL_law_778 post L xs J28 J644 x2 x4 x6 x8 x10 x12 x13 sh (nI i) r0 r1 g g kc ks (nI (if i < 2 then 1 else 2)) (nI (bk_kv i)) ke ma th a1 a2 a3 a4 a5 a6 a7 a8 a9 a10 := fun g =>
    br_t rfl (bk_versionAt (j := 0) k hi (by omega) (br_t h0 (bk_versionAt (j := 1) k hi (by omega) (br_t h1 (nm_r (nI_1 i) H)))))
  have n0 : ¬ bq_P C a6 i → fl = 0 := by
    intro z
    rcases hf with q | q
    · exact q.1
    · exact absurd q.2 z
  have n1 : bq_P C a6 i → fl = 1 := by
    intro z
    rcases hf with q | q
    · exact absurd z q.2
    · exact q.1
  have e1 : C i = [] → fl = 0 := fun e => n0 (fun ⟨v, l, q, _⟩ => by rw [e] at q; cases q)
  have e2 : ∀ v l, C i = v :: l → a6 v = 0 → fl = 1 := fun v l e z => n1 ⟨v, l, e, z⟩
  have e3 : ∀ v l, C i = v :: l → ¬ a6 v = 0 → fl = 0 := fun v l e z => n0 (fun ⟨v', l', q, q'⟩ => by
    rw [e] at q
    injection q with q1 q2
    rw [q1] at z
    exact z q')
  unfold wL_law_742
  refine bk_key hi ?_
  have pr : ∀ (Q : Int32 → Prop), Q fl → wpX_present Q (nI (if i < 2 then 1 else 2), nI (bk_kv i), ke, ma, th, a1, a2, a3, a4, a5, a6, a7, a8, a9, a10) := by
    intro Q hQ
    refine bk_present k hi (fun e => ?_) (fun v l e z => ?_) (fun v l e z => ?_)
    · rw [e1 e] at hQ; exact hQ
    · rw [e2 v l e z] at hQ; exact hQ
    · rw [e3 v l e z] at hQ; exact hQ
  have gt : ∀ (Q : Int32 → Prop), Q (if fl = 0 then 0 else 1000 + r0) → wpX_get Q (nI (if i < 2 then 1 else 2), nI (bk_kv i), ke, ma, th, a1, a2, a3, a4, a5, a6, a7, a8, a9, a10) := by
    intro Q hQ
    refine bk_get k hi (fun e => ?_) (fun v l e z => ?_) (fun v l e z => ?_)
    · rw [if_pos (e1 e)] at hQ; exact hQ
    · rw [if_neg (by rw [e2 v l e z]; decide)] at hQ
      rw [hg v l e z]; exact hQ
    · rw [if_pos (e3 v l e z)] at hQ; exact hQ
  refine pr _ (br_t rfl (gt _ (br_c (fun z => ?_) (fun z => ?_))))
  · rw [if_pos z]
    exact t778 _
  · rw [if_neg z]
    exact t778 _
theorem bq_683 {m M i sh : Nat} {C : Nat → List Nat} {nu : Nat → Nat} {X : Nat → Int64} (k : bk_K m C ke th a1 a2 a3 a7) (D : bq_D C nu M X x10 a4 a5 a6) (hi : i < 4)
    (H1 : bq_P C a6 i → J644 (nI sh ||| ((1 : Int32) <<< (nI i &&& 31))) (nI (i + 1)) (nI (if i < 2 then 1 else 2)) (nI (bk_kv i)) ke ma th a1 a2 a3 a4 a5 a6 a7 a8 a9 a10)
    (H0 : ¬ bq_P C a6 i → J644 (nI sh) (nI (i + 1)) (nI (if i < 2 then 1 else 2)) (nI (bk_kv i)) ke ma th a1 a2 a3 a4 a5 a6 a7 a8 a9 a10) :
    wL_law_683 post L xs J28 J644 x2 x4 x6 x8 x10 x12 x13 (nI sh) (nI i) (X i) kc ks ty bu ke ma th a1 a2 a3 a4 a5 a6 a7 a8 a9 a10 := by
  have hM := D.1
  unfold wL_law_683
  refine bv_newest (j := 0) (by omega) (D.2.2.2.2.1 i hi) (D.2.2.1 i hi) (bq_62 D hi) ?_
  refine bv_newest (j := 1) (by omega) (D.2.2.2.2.1 i hi) (D.2.2.1 i hi) (bq_62 D hi) ?_
  cases hC : C i with
  | nil =>
    have e0 : bv_nv (-7) 0 0 ([].map nu) = -7 := bv_nv_nil _ _ _
    have np : ¬ bq_P C a6 i := fun ⟨v, l, q, _⟩ => by rw [hC] at q; cases q
    refine br_t (by rw [e0]; decide) (br_t rfl (bq_742 k hi ?_ ?_ (Or.inl ⟨rfl, np⟩) (fun v l q _ => by rw [hC] at q; cases q) (H0 np)))
    · rw [bq_vv D hi, hC]
    · rw [bq_vv D hi, hC]
  | cons v l =>
    have hv : v ∈ C i := by rw [hC]; simp
    obtain ⟨d1, d2, d3, d4⟩ := D.2.1 i v hi hv
    have e0 : bv_nv (-7) 0 0 ((v :: l).map nu) = nI (nu v) := rfl
    refine br_f (by rw [e0]; exact nI_pos (by omega)) (br_c (fun z => ?_) (fun z => ?_))
    · rw [e0] at z
      have hb := (bv_bit1 x10 (show nu v < 64 by omega)).mp z
      rw [if_pos hb] at d3
      have hp : bq_P C a6 i := ⟨v, l, hC, d3⟩
      refine br_f (by decide) (bq_742 k hi ?_ ?_ (Or.inr ⟨rfl, hp⟩) (fun v' l' q _ => ?_) (H1 hp))
      · rw [bq_vv D hi, hC]
      · rw [bq_vv D hi, hC]
      · rw [hC] at q
        injection q with q1 q2
        rw [← q1, d4 hb, e0]
        exact (nI_add 1000 (nu v)).symm
    · rw [e0] at z
      have hb : ¬ x10.toBitVec.getLsbD (nu v) = true := fun q => z ((bv_bit1 x10 (show nu v < 64 by omega)).mpr q)
      rw [if_neg hb] at d3
      have np : ¬ bq_P C a6 i := fun ⟨v', l', q, q'⟩ => by
        rw [hC] at q
        injection q with q1 q2
        rw [← q1, d3] at q'
        exact absurd q' (by decide)
      refine br_t rfl (bq_742 k hi ?_ ?_ (Or.inl ⟨rfl, np⟩) (fun v' l' q q' => absurd ⟨v', l', q, q'⟩ np) (H0 np))
      · rw [bq_vv D hi, hC]
      · rw [bq_vv D hi, hC]
theorem bq_644 {m M : Nat} {C : Nat → List Nat} {nu : Nat → Nat} {X : Nat → Int64} (k : bk_K m C ke th a1 a2 a3 a7) (D : bq_D C nu M X x10 a4 a5 a6)
    (H : J28 (X 0) (X 1) (X 2) (X 3) x10 x12 (x13 + 2) 0 0 ke ma th a1 a2 a3 a4 a5 a6 a7 a8 a9 a10) :
    ∀ (d i sh : Nat) (ty bu : Int32), i + d = 4 → sh < 2 ^ i → (∀ w, w < i → (sh.testBit w = true ↔ bq_P C a6 w)) → wL_law_644 post L xs J28 (X 0) (X 1) (X 2) (X 3) x10 x12 x13 kc ks (d + 1) (nI sh) (nI i) ty bu ke ma th a1 a2 a3 a4 a5 a6 a7 a8 a9 a10 := by
  intro d
  induction d with
  | zero =>
    intro i sh ty bu hi hs hb
    obtain rfl : i = 4 := by omega
    have hs' : sh < 16 := hs
    have hS : bk_P sh C a6 := ⟨hs', hb⟩
    have t : wL_law_859 post L xs J28 (X 0) (X 1) (X 2) (X 3) x10 x12 x13 (if sh.testBit 3 = true then 1 else 0) (if sh.testBit 2 = true then 1 else 0) (if sh.testBit 1 = true then 1 else 0) (if sh.testBit 0 = true then 1 else 0) kc ks ty bu ke ma th a1 a2 a3 a4 a5 a6 a7 a8 a9 a10 :=
      bk_listed k hS (br_f (by decide) (nm_e H))
    rw [wL_law_644]
    refine br_t (by decide) ?_
    refine bq_br (A := fun z => wL_law_822 post L xs J28 (X 0) (X 1) (X 2) (X 3) x10 x12 x13 (nI sh) z kc ks ty bu ke ma th a1 a2 a3 a4 a5 a6 a7 a8 a9 a10) (bq_F0 sh hs') ?_
    refine bq_br (A := fun z => wL_law_834 post L xs J28 (X 0) (X 1) (X 2) (X 3) x10 x12 x13 (nI sh) z (if sh.testBit 0 = true then 1 else 0) kc ks ty bu ke ma th a1 a2 a3 a4 a5 a6 a7 a8 a9 a10) (bq_F1 sh hs') ?_
    refine bq_br (A := fun z => wL_law_846 post L xs J28 (X 0) (X 1) (X 2) (X 3) x10 x12 x13 (nI sh) z (if sh.testBit 1 = true then 1 else 0) (if sh.testBit 0 = true then 1 else 0) kc ks ty bu ke ma th a1 a2 a3 a4 a5 a6 a7 a8 a9 a10) (bq_F2 sh hs') ?_
    exact bq_br (A := fun z => wL_law_859 post L xs J28 (X 0) (X 1) (X 2) (X 3) x10 x12 x13 z (if sh.testBit 2 = true then 1 else 0) (if sh.testBit 1 = true then 1 else 0) (if sh.testBit 0 = true then 1 else 0) kc ks ty bu ke ma th a1 a2 a3 a4 a5 a6 a7 a8 a9 a10) (bq_F3 sh hs') t
  | succ d ih =>
    intro i sh ty bu hi hs hb
    have hi4 : i < 4 := by omega
    obtain ⟨s1, s2, s3, s4⟩ := bq_sb i hi4 sh hs
    have t : wL_law_683 post L xs J28 (wL_law_644 post L xs J28 (X 0) (X 1) (X 2) (X 3) x10 x12 x13 kc ks (d + 1)) (X 0) (X 1) (X 2) (X 3) x10 x12 x13 (nI sh) (nI i) (X i) kc ks ty bu ke ma th a1 a2 a3 a4 a5 a6 a7 a8 a9 a10 := by
      refine bq_683 k D hi4 (fun hp => ?_) (fun np => ?_)
      · rw [bq_sh i hi4 sh hs]
        refine ih (i + 1) _ _ _ (by omega) s1 (fun w hw => ?_)
        by_cases e : w = i
        · rw [e, s4]
          exact ⟨fun _ => hp, fun _ => rfl⟩
        · rw [bq_su i hi4 sh hs w (by omega)]
          exact hb w (by omega)
      · refine ih (i + 1) _ _ _ (by omega) s2 (fun w hw => ?_)
        by_cases e : w = i
        · rw [e, s3]
          exact ⟨fun z => absurd z (by decide), fun z => absurd z np⟩
        · exact hb w (by omega)
    rw [wL_law_644]
    refine br_f (nI_ge (b := 4) (by omega) (by decide)) ?_
    rcases bk_4 hi4 with e | e | e | e
    · subst e; exact br_t (by decide) t
    · subst e; exact br_f (by decide) (br_t (by decide) t)
    · subst e; exact br_f (by decide) (br_f (by decide) (br_t (by decide) t))
    · subst e; exact br_f (by decide) (br_f (by decide) (br_f (by decide) t))
end
end
section
/-! ===== the law's picture under each call (no program in sight) ===== -/
theorem bq_dj {C : Nat → List Nat} {nu : Nat → Nat} {M : Nat} {X : Nat → Int64} {o : Int64} {a4 a5 a6 : Nat → Int32} (g : bk_G C) (D : bq_D C nu M X o a4 a5 a6) {w u i : Nat} (hw : w < 4) (hu : u < 4) (h : i ∈ (C w).map nu) (h' : i ∈ (C u).map nu) : w = u := by
  obtain ⟨v, hv, e⟩ := List.mem_map.mp h
  obtain ⟨y, hy, e'⟩ := List.mem_map.mp h'
  have t := D.2.2.2.1 w u v y hw hu hv hy (e.trans e'.symm)
  exact g.2.2 w u v hw hu hv (t ▸ hy)
theorem bq_un {C : Nat → List Nat} {nu : Nat → Nat} {M : Nat} {X : Nat → Int64} {o : Int64} {a4 a5 a6 : Nat → Int32} (D : bq_D C nu M X o a4 a5 a6) : bv_S (((X 0 ||| X 1) ||| X 2) ||| X 3) ((((C 0).map nu ++ (C 1).map nu) ++ (C 2).map nu) ++ (C 3).map nu) :=
  bv_or (bv_or (bv_or (D.2.2.2.2.1 0 (by omega)) (D.2.2.2.2.1 1 (by omega))) (D.2.2.2.2.1 2 (by omega))) (D.2.2.2.2.1 3 (by omega))
theorem bq_size {post : Int32 → Prop} {C : Nat → List Nat} {nu : Nat → Nat} {M : Nat} {X : Nat → Int64} {o : Int64} {a4 a5 a6 : Nat → Int32} (g : bk_G C) (D : bq_D C nu M X o a4 a5 a6) (hp : post (nI (bk_tl C))) : wpL_size post () (((X 0 ||| X 1) ||| X 2) ||| X 3) := by
  refine bv_size (bq_un D) ?_ ?_ ?_
  · rw [List.nodup_append, List.nodup_append, List.nodup_append]
    refine ⟨⟨⟨bv_desc_nodup (D.2.2.1 0 (by omega)), bv_desc_nodup (D.2.2.1 1 (by omega)), fun a ha b hb z => ?_⟩, bv_desc_nodup (D.2.2.1 2 (by omega)), fun a ha b hb z => ?_⟩, bv_desc_nodup (D.2.2.1 3 (by omega)), fun a ha b hb z => ?_⟩
    · subst z
      exact absurd (bq_dj g D (by omega) (by omega) ha hb) (by decide)
    · subst z
      rcases List.mem_append.mp ha with q | q
      · exact absurd (bq_dj g D (by omega) (by omega) q hb) (by decide)
      · exact absurd (bq_dj g D (by omega) (by omega) q hb) (by decide)
    · subst z
      rcases List.mem_append.mp ha with q | q
      · rcases List.mem_append.mp q with q | q
        · exact absurd (bq_dj g D (by omega) (by omega) q hb) (by decide)
        · exact absurd (bq_dj g D (by omega) (by omega) q hb) (by decide)
      · exact absurd (bq_dj g D (by omega) (by omega) q hb) (by decide)
  · intro i hi
    rcases List.mem_append.mp hi with q | q
    · rcases List.mem_append.mp q with q | q
      · rcases List.mem_append.mp q with q | q
        · exact bq_62 D (by omega) i q
        · exact bq_62 D (by omega) i q
      · exact bq_62 D (by omega) i q
    · exact bq_62 D (by omega) i q
  · simp only [List.length_append, List.length_map]
    exact hp
def bq_Y (X : Nat → Int64) (w : Nat) (x : Int64) : Nat → Int64 := fun u => if u = w then x else X u
theorem bq_Y_id {X : Nat → Int64} {w : Nat} : bq_Y X w (X w) = X := by
  funext u
  unfold bq_Y
  split
  · rename_i h; rw [h]
  · rfl
theorem bq_Y_s {X : Nat → Int64} {w : Nat} {x : Int64} : bq_Y X w x w = x := if_pos rfl
theorem bq_Y_n {X : Nat → Int64} {w u : Nat} {x : Int64} (h : u ≠ w) : bq_Y X w x u = X u := if_neg h
/-- a version more -/
theorem bq_D_add {C : Nat → List Nat} {nu : Nat → Nat} {M : Nat} {X : Nat → Int64} {o o' : Int64} {a4 a5 a6 : Nat → Int32} {w v : Nat} {c5 c6 : Int32} (D : bq_D C nu M X o a4 a5 a6) (hM : M < 61) (hw : w < 4) (hf : ∀ u, u < 4 → v ∉ C u)
    (ho : ∀ i, i < 64 → i ≠ M → o'.toBitVec.getLsbD i = o.toBitVec.getLsbD i) (h6 : c6 = if o'.toBitVec.getLsbD M = true then 0 else 1) (h5 : o'.toBitVec.getLsbD M = true → c5 = nI (1000 + M)) :
    bq_D (bk_cu C w (v :: C w)) (fun j => if j = v then M else nu j) (M + 1) (bq_Y X w (X w ||| ((1 : Int64) <<< ((nI M).toInt64 &&& 63)))) o' (upd a4 v (nI M)) (upd a5 v c5) (upd a6 v c6) := by
  obtain ⟨d0, d1, d2, d3, d4, d5⟩ := D
  have hne : ∀ u y, u < 4 → y ∈ C u → y ≠ v := fun u y hu hy e => hf u hu (e ▸ hy)
  have hmap : ∀ u, u < 4 → (C u).map (fun j => if j = v then M else nu j) = (C u).map nu := by
    intro u hu
    apply List.map_congr_left
    intro y hy
    exact if_neg (hne u y hu hy)
  have hmem : ∀ u y, u < 4 → y ∈ bk_cu C w (v :: C w) u → y = v ∨ (y ∈ C u ∧ y ≠ v) := by
    intro u y hu hy
    by_cases e : u = w
    · subst e
      rw [bk_cu_s] at hy
      rcases List.mem_cons.mp hy with z | z
      · exact Or.inl z
      · exact Or.inr ⟨z, hne u y hu z⟩
    · rw [bk_cu_n e] at hy
      exact Or.inr ⟨hy, hne u y hu hy⟩
  have ew : (bk_cu C w (v :: C w) w).map (fun j => if j = v then M else nu j) = M :: (C w).map nu := by
    rw [bk_cu_s, List.map_cons, if_pos rfl, hmap w hw]
  refine ⟨by omega, fun u y hu hy => ?_, fun u hu => ?_, fun u u' y y' hu hu' hy hy' he => ?_, fun u hu => ?_, fun i hi hi2 => ?_⟩
  · have key : ∀ q, (if y = v then M else nu y) = q → (upd a4 v (nI M) y = nI q ∧ q < M + 1 ∧ upd a6 v c6 y = (if o'.toBitVec.getLsbD q = true then 0 else 1) ∧ (o'.toBitVec.getLsbD q = true → upd a5 v c5 y = nI (1000 + q))) := ?_
    · exact key _ rfl
    intro q hq
    rcases hmem u y hu hy with z | ⟨z, z'⟩
    · rw [if_pos z] at hq
      subst hq
      rw [z, pk_us, pk_us, pk_us]
      exact ⟨rfl, by omega, h6, h5⟩
    · rw [if_neg z'] at hq
      subst hq
      obtain ⟨q1, q2, q3, q4⟩ := d1 u y hu z
      have eo := ho (nu y) (by omega) (by omega)
      rw [pk_un z', pk_un z', pk_un z']
      refine ⟨q1, by omega, ?_, fun h => q4 (eo ▸ h)⟩
      rw [q3]
      simp only [eo]
  · by_cases e : u = w
    · rw [e, ew, List.pairwise_cons]
      refine ⟨fun i hi => ?_, d2 w hw⟩
      obtain ⟨y, hy, rfl⟩ := List.mem_map.mp hi
      exact (d1 w y hw hy).2.1
    · rw [bk_cu_n e, hmap u hu]
      exact d2 u hu
  · dsimp only at he
    rcases hmem u y hu hy with z | ⟨z, z'⟩
    · rcases hmem u' y' hu' hy' with q | ⟨q, q'⟩
      · rw [z, q]
      · rw [if_pos z, if_neg q'] at he
        have := (d1 u' y' hu' q).2.1
        omega
    · rcases hmem u' y' hu' hy' with q | ⟨q, q'⟩
      · rw [if_neg z', if_pos q] at he
        have := (d1 u y hu z).2.1
        omega
      · rw [if_neg z', if_neg q'] at he
        exact d3 u u' y y' hu hu' z q he
  · by_cases e : u = w
    · rw [e, ew, bq_Y_s]
      exact bv_add (by omega) (d4 w hw)
    · rw [bk_cu_n e, hmap u hu, bq_Y_n e]
      exact d4 u hu
  · rw [ho i hi2 (by omega)]
    exact d5 i (by omega) hi2
/-- versions less -/
theorem bq_D_sub {C C' : Nat → List Nat} {nu : Nat → Nat} {M : Nat} {X X' : Nat → Int64} {o : Int64} {a4 a5 a6 : Nat → Int32} (D : bq_D C nu M X o a4 a5 a6) (hs : ∀ w, w < 4 → (C' w).Sublist (C w)) (hX : ∀ w, w < 4 → bv_S (X' w) ((C' w).map nu)) : bq_D C' nu M X' o a4 a5 a6 := by
  obtain ⟨d0, d1, d2, d3, d4, d5⟩ := D
  exact ⟨d0, fun w v hw hv => d1 w v hw ((hs w hw).subset hv), fun w hw => (d2 w hw).sublist ((hs w hw).map nu), fun w u v y hw hu hv hy => d3 w u v y hw hu ((hs w hw).subset hv) ((hs u hu).subset hy), hX, d5⟩
theorem bq_G_sub {C C' : Nat → List Nat} (g : bk_G C) (hs : ∀ w, w < 4 → (C' w).Sublist (C w)) : bk_G C' :=
  ⟨fun w hw => (g.1 w hw).sublist (hs w hw), fun w hw v hv => g.2.1 w hw v ((hs w hw).subset hv), fun w u v hw hu h h' => g.2.2 w u v hw hu ((hs w hw).subset h) ((hs u hu).subset h')⟩
/-- a version is destroyed -/
theorem bq_D_del {C : Nat → List Nat} {nu : Nat → Nat} {M : Nat} {X : Nat → Int64} {o : Int64} {a4 a5 a6 : Nat → Int32} {w v : Nat} (g : bk_G C) (D : bq_D C nu M X o a4 a5 a6) (hw : w < 4) (hv : v ∈ C w) :
    bq_D (bk_cu C w ((C w).erase v)) nu M (fun u => X u &&& (((1 : Int64) <<< ((nI (nu v)).toInt64 &&& 63)) ^^^ (-1))) o a4 a5 a6 := by
  have hM := D.1
  have hvM := (D.2.1 w v hw hv).2.1
  refine bq_D_sub D (fun u hu => ?_) (fun u hu => bv_del (by omega) (D.2.2.2.2.1 u hu) (fun i => ?_))
  · by_cases e : u = w
    · rw [e, bk_cu_s]; exact List.erase_sublist
    · rw [bk_cu_n e]; exact List.Sublist.refl _
  · by_cases e : u = w
    · subst e
      rw [bk_cu_s, List.mem_map, List.mem_map]
      constructor
      · rintro ⟨y, hy, rfl⟩
        have t := (g.1 u hu).mem_erase_iff.mp hy
        exact ⟨⟨y, t.2, rfl⟩, fun z => t.1 (D.2.2.2.1 u u y v hu hu t.2 hv z)⟩
      · rintro ⟨⟨y, hy, rfl⟩, z⟩
        exact ⟨y, (g.1 u hu).mem_erase_iff.mpr ⟨fun q => z (by rw [q]), hy⟩, rfl⟩
    · rw [bk_cu_n e]
      constructor
      · intro hi
        refine ⟨hi, fun z => e ?_⟩
        rw [z] at hi
        exact bq_dj g D hu hw hi (List.mem_map.mpr ⟨v, hv, rfl⟩)
      · exact fun z => z.1
theorem bq_ex_sub {a6 : Nat → Int32} {k : Nat} {l : List Nat} : (bk_ex a6 k l).Sublist l := by
  have t : (l.take k).Sublist l := List.take_sublist _ _
  match h : l.take k with
  | [] =>
    unfold bk_ex
    rw [h]
    exact List.nil_sublist _
  | [v] =>
    by_cases z : a6 v = 0
    · rw [bk_ex_obj h z, ← h]
      exact t
    · rw [bk_ex_lone h z]
      exact List.nil_sublist _
  | v :: y :: r =>
    rw [bk_ex_two h, ← h]
    exact t
theorem bq_ex {a6 : Nat → Int32} {ob : Nat → Bool} {nu : Nat → Nat} {k : Nat} {l : List Nat} (h6 : ∀ v, v ∈ l → a6 v = if ob (nu v) = true then 0 else 1) : bv_ex ob k (l.map nu) = (bk_ex a6 k l).map nu := by
  have hm : (l.map nu).take k = (l.take k).map nu := List.map_take.symm
  match h : l.take k with
  | [] =>
    unfold bv_ex bk_ex
    rw [hm, h]
    simp
  | [v] =>
    have hv : v ∈ l := List.mem_of_mem_take (i := k) (by rw [h]; simp)
    have e6 := h6 v hv
    unfold bv_ex
    rw [hm, h]
    cases hb : ob (nu v)
    · rw [hb] at e6
      rw [bk_ex_lone h (by rw [e6]; decide)]
      simp [hb]
    · rw [hb] at e6
      rw [bk_ex_obj h e6]
      simp [hb]
  | v :: y :: r =>
    unfold bv_ex
    rw [hm, h, bk_ex_two h, if_neg]
    intro z
    have := z.1
    simp at this
end
section
/-! ===== the law's step: put, remove, destroy, expire ===== -/
theorem bq_or_s (x : Int64) {M : Nat} (h : M < 64) : (x ||| ((1 : Int64) <<< ((nI M).toInt64 &&& 63))).toBitVec.getLsbD M = true := by
  rw [Int64.toBitVec_or, bv_tp M h, BitVec.getLsbD_or, BitVec.getLsbD_twoPow]
  simp [h]
theorem bq_or_n (x : Int64) {M i : Nat} (h : M < 64) (hi : i ≠ M) : (x ||| ((1 : Int64) <<< ((nI M).toInt64 &&& 63))).toBitVec.getLsbD i = x.toBitVec.getLsbD i := by
  rw [Int64.toBitVec_or, bv_tp M h, BitVec.getLsbD_or, BitVec.getLsbD_twoPow, decide_eq_false (p := M = i) (fun z => hi z.symm), Bool.and_false, Bool.or_false]
section
variable {ty bu ke th : Int32} {a1 a2 a3 a4 a5 a6 a7 a8 a9 a10 : Nat → Int32} {post : Int32 → Prop} {L : Nat} {xs : Nat → Int32} {kc ks : Nat} {x10 : Int64} {x13 : Int32}
  {J28 : Int64 → Int64 → Int64 → Int64 → Int64 → Int32 → Int32 → Int32 → Int32 → Int32 → Int32 → Int32 → (Nat → Int32) → (Nat → Int32) → (Nat → Int32) → (Nat → Int32) → (Nat → Int32) → (Nat → Int32) → (Nat → Int32) → (Nat → Int32) → (Nat → Int32) → (Nat → Int32) → Prop}
  {m M w : Nat} {C : Nat → List Nat} {nu : Nat → Nat} {X : Nat → Int64}
/-- what the step ends in -/
def bq_J (J28 : Int64 → Int64 → Int64 → Int64 → Int64 → Int32 → Int32 → Int32 → Int32 → Int32 → Int32 → Int32 → (Nat → Int32) → (Nat → Int32) → (Nat → Int32) → (Nat → Int32) → (Nat → Int32) → (Nat → Int32) → (Nat → Int32) → (Nat → Int32) → (Nat → Int32) → (Nat → Int32) → Prop) (x13 : Int32) (a8 a9 a10 : Nat → Int32) : Prop :=
  ∀ (m : Nat) (C : Nat → List Nat) (nu : Nat → Nat) (M : Nat) (X : Nat → Int64) (o : Int64) (ke th : Int32) (a1 a2 a3 a4 a5 a6 a7 : Nat → Int32), bk_K m C ke th a1 a2 a3 a7 → bq_D C nu M X o a4 a5 a6 → J28 (X 0) (X 1) (X 2) (X 3) o (nI M) (x13 + 2) 0 0 ke (nI M) th a1 a2 a3 a4 a5 a6 a7 a8 a9 a10
theorem bq_end {x17 : Int64} {got due : Int32} (k : bk_K m C ke th a1 a2 a3 a7) (hw : w < 4) (D : bq_D C nu M (bq_Y X w x17) x10 a4 a5 a6) (he : got = due) (HJ : bq_J J28 x13 a8 a9 a10) :
    wL_law_572 post L xs J28 (X 0) (X 1) (X 2) (X 3) x10 (nI M) x13 (nI w) x17 got due kc ks ty bu ke (nI M) th a1 a2 a3 a4 a5 a6 a7 a8 a9 a10 := by
  have t : ∃ fu, wL_law_644 post L xs J28 (bq_Y X w x17 0) (bq_Y X w x17 1) (bq_Y X w x17 2) (bq_Y X w x17 3) x10 (nI M) x13 kc ks fu 0 0 ty bu ke (nI M) th a1 a2 a3 a4 a5 a6 a7 a8 a9 a10 :=
    ⟨5, bq_644 k D (HJ m C nu M (bq_Y X w x17) x10 ke th a1 a2 a3 a4 a5 a6 a7 k D) 4 0 0 ty bu (by omega) (by decide) (fun u hu => absurd hu (by omega))⟩
  rcases bk_4 hw with e | e | e | e
  · subst e
    exact br_t (by decide) (br_f (by decide) (br_f (by decide) (br_f (by decide) (br_t he t))))
  · subst e
    exact br_f (by decide) (br_t (by decide) (br_f (by decide) (br_f (by decide) (br_t he t))))
  · subst e
    exact br_f (by decide) (br_f (by decide) (br_t (by decide) (br_f (by decide) (br_t he t))))
  · subst e
    exact br_f (by decide) (br_f (by decide) (br_f (by decide) (br_t (by decide) (br_t he t))))
theorem bq_put (k : bk_K m C ke th a1 a2 a3 a7) (D : bq_D C nu M X x10 a4 a5 a6) (hM : M < 61) (hw : w < 4) (HJ : bq_J J28 x13 a8 a9 a10) :
    (nI (bk_tl C) = 24 → wL_law_182 post L xs J28 (X 0) (X 1) (X 2) (X 3) x10 (nI M) x13 (nI w) (X w) (-2) kc ks (nI (if w < 2 then 1 else 2)) (nI (bk_kv w)) ke (nI M) th a1 a2 a3 a4 a5 a6 a7 a8 a9 a10) ∧
    (¬ nI (bk_tl C) = 24 → wL_law_182 post L xs J28 (X 0) (X 1) (X 2) (X 3) x10 (nI M) x13 (nI w) (X w) (nI M) kc ks (nI (if w < 2 then 1 else 2)) (nI (bk_kv w)) ke (nI M) th a1 a2 a3 a4 a5 a6 a7 a8 a9 a10) := by
  have h24 := k.2.2.2.1
  refine pk_eq (bk_tl C) 24 (fun z => ?_) (fun z => ?_)
  · unfold wL_law_182
    refine bk_put k hw bk_ty0 (fun _ => ?_) (fun z2 => absurd z2 (by omega))
    refine br_f (by decide) (br_f (by decide) (br_f (by decide) ?_))
    exact bq_end k hw (by rw [bq_Y_id]; exact D) rfl HJ
  · unfold wL_law_182
    refine bk_put k hw bk_ty0 (fun z2 => absurd z2 z) (fun z2 m' v ke' th' c1 c2 c7 hv hf k' => ?_)
    have p0 : (0 : Int32) ≤ nI M := nI_pos' (by omega)
    refine br_t p0 (br_t p0 (br_t p0 ?_))
    rw [nI_1]
    exact bq_end k' hw (bq_D_add D hM hw hf (fun i _ hi => bq_or_n x10 (by omega) hi) (by rw [if_pos (bq_or_s x10 (by omega))]) (fun _ => nI_add 1000 M)) rfl HJ
theorem bq_remove {fl : Int32} (k : bk_K m C ke th a1 a2 a3 a7) (D : bq_D C nu M X x10 a4 a5 a6) (hM : M < 61) (hw : w < 4) (HJ : bq_J J28 x13 a8 a9 a10) (hf : (fl = 0 ∧ ¬ bq_P C a6 w) ∨ (fl = 1 ∧ bq_P C a6 w)) :
    (fl = 0 → wL_law_284 post L xs J28 (X 0) (X 1) (X 2) (X 3) x10 (nI M) x13 (nI w) (X w) (-3) kc ks (nI (if w < 2 then 1 else 2)) (nI (bk_kv w)) ke (nI M) th a1 a2 a3 a4 a5 a6 a7 a8 a9 a10) ∧
    (¬ fl = 0 → ((nI (bk_tl C) = 24 → wL_law_284 post L xs J28 (X 0) (X 1) (X 2) (X 3) x10 (nI M) x13 (nI w) (X w) (-2) kc ks (nI (if w < 2 then 1 else 2)) (nI (bk_kv w)) ke (nI M) th a1 a2 a3 a4 a5 a6 a7 a8 a9 a10) ∧
    (¬ nI (bk_tl C) = 24 → wL_law_284 post L xs J28 (X 0) (X 1) (X 2) (X 3) x10 (nI M) x13 (nI w) (X w) (nI M) kc ks (nI (if w < 2 then 1 else 2)) (nI (bk_kv w)) ke (nI M) th a1 a2 a3 a4 a5 a6 a7 a8 a9 a10))) := by
  have h24 := k.2.2.2.1
  have idD : bq_D C nu M (bq_Y X w (X w)) x10 a4 a5 a6 := by rw [bq_Y_id]; exact D
  refine br_c (fun z0 => ?_) (fun z0 => pk_eq (bk_tl C) 24 (fun z => ?_) (fun z => ?_))
  · have np : ¬ bq_P C a6 w := by
      rcases hf with q | q
      · exact q.2
      · rw [q.1] at z0
        exact absurd z0 (by decide)
    unfold wL_law_284
    refine bk_remove k hw bk_ty0 (fun _ => ?_) (fun y l e z6 => ?_) (fun y l e z6 => absurd ⟨y, l, e, z6⟩ np) (fun y l e z6 => absurd ⟨y, l, e, z6⟩ np)
    · exact br_f (by decide) (br_f (by decide) (bq_end k hw idD rfl HJ))
    · exact br_f (by decide) (br_f (by decide) (bq_end k hw idD rfl HJ))
  · obtain ⟨y', l', e', z6'⟩ : bq_P C a6 w := by
      rcases hf with q | q
      · exact absurd q.1 z0
      · exact q.2
    unfold wL_law_284
    refine bk_remove k hw bk_ty0 (fun e => by rw [e] at e'; cases e') (fun y l e z6 => ?_) (fun y l e z6 _ => ?_) (fun y l e z6 z2 => absurd z2 (by omega))
    · rw [e] at e'
      injection e' with q1 q2
      rw [q1] at z6
      exact absurd z6' z6
    · exact br_f (by decide) (br_f (by decide) (bq_end k hw idD rfl HJ))
  · obtain ⟨y', l', e', z6'⟩ : bq_P C a6 w := by
      rcases hf with q | q
      · exact absurd q.1 z0
      · exact q.2
    unfold wL_law_284
    refine bk_remove k hw bk_ty0 (fun e => by rw [e] at e'; cases e') (fun y l e z6 => ?_) (fun y l e z6 z2 => absurd z2 z) (fun y l e z6 z2 m' v ke' th' c1 c2 c7 hv hf k' => ?_)
    · rw [e] at e'
      injection e' with q1 q2
      rw [q1] at z6
      exact absurd z6' z6
    · have p0 : (0 : Int32) ≤ nI M := nI_pos' (by omega)
      refine br_t p0 (br_t p0 ?_)
      rw [nI_1]
      have hb := D.2.2.2.2.2 M (Nat.le_refl _) (by omega)
      exact bq_end k' hw (bq_D_add D hM hw hf (fun i _ _ => rfl) (by rw [if_neg (by rw [hb]; decide)]) (fun q => absurd (hb ▸ q) (by decide))) rfl HJ
theorem bq_desN {d : Nat} (k : bk_K m C ke th a1 a2 a3 a7) (D : bq_D C nu M X x10 a4 a5 a6) (hd : d < 64) (hw : w < 4) (HJ : bq_J J28 x13 a8 a9 a10) (hn : ∀ u v, u < 4 → v ∈ C u → nu v ≠ d) :
    wL_law_378 post L xs J28 (X 0) (X 1) (X 2) (X 3) x10 (nI M) x13 (nI w) (X w) (nI (bk_tl C)) (nI d) 0 kc ks ty bu ke (nI M) th a1 a2 a3 a4 a5 a6 a7 a8 a9 a10 := by
  have hM := D.1
  refine br_t rfl ?_
  unfold wL_law_394
  refine bk_destroy k (fun _ => br_t rfl ?_) (fun u v hu hv e => absurd ?_ (hn u v hu hv))
  · refine nm_r Int64.and_neg_one (nm_r Int64.and_neg_one (nm_r Int64.and_neg_one (nm_r Int64.and_neg_one (nm_r Int64.and_neg_one ?_))))
    exact bq_end k hw (by rw [bq_Y_id]; exact D) rfl HJ
  · obtain ⟨d1, d2, _⟩ := D.2.1 u v hu hv
    rw [d1] at e
    exact (nI_eq (by omega) (by omega)).mp e
theorem bq_desY {d : Nat} (k : bk_K m C ke th a1 a2 a3 a7) (D : bq_D C nu M X x10 a4 a5 a6) (hd : d < 64) (hw : w < 4) (HJ : bq_J J28 x13 a8 a9 a10) (hy : ∃ u v, u < 4 ∧ v ∈ C u ∧ nu v = d) :
    wL_law_378 post L xs J28 (X 0) (X 1) (X 2) (X 3) x10 (nI M) x13 (nI w) (X w) (nI (bk_tl C)) (nI d) 1 kc ks ty bu ke (nI M) th a1 a2 a3 a4 a5 a6 a7 a8 a9 a10 := by
  have hM := D.1
  refine br_f (by decide) ?_
  unfold wL_law_394
  refine bk_destroy k (fun h => ?_) (fun u v hu hv e m' c1 c2 c3 c7 k' => br_f (by decide) ?_)
  · obtain ⟨u, v, hu, hv, e⟩ := hy
    exact absurd (by rw [(D.2.1 u v hu hv).1, e]) (h u v hu hv)
  · obtain ⟨d1, d2, _⟩ := D.2.1 u v hu hv
    rw [d1] at e
    have e' := (nI_eq (by omega) (by omega)).mp e
    have hpos : 0 < (C u).length := List.length_pos_of_mem hv
    have htl := bk_len_tl (C := C) hu
    have t := bq_D_del k.2.2.1 D hu hv
    rw [e'] at t
    refine nm_e (nm_e (nm_e (nm_e (nm_e ?_))))
    refine bq_end (X := fun u => X u &&& (((1 : Int64) <<< ((nI d).toInt64 &&& 63)) ^^^ (-1))) (nu := nu) k' hw ?_ ?_ HJ
    · exact Eq.mpr (congrArg (fun Z => bq_D _ nu M Z x10 a4 a5 a6) (bq_Y_id (X := fun u => X u &&& (((1 : Int64) <<< ((nI d).toInt64 &&& 63)) ^^^ (-1))) (w := w))) t
    · exact (pk_sub (b := 1) (by omega)).symm
theorem bq_544 {kp : Nat} {R : Nat → Int64} (k : bk_K m C ke th a1 a2 a3 a7) (D : bq_D C nu M X x10 a4 a5 a6) (hk : kp < 4) (hw : w < 4) (HJ : bq_J J28 x13 a8 a9 a10) (hR : ∀ u, u < 4 → bv_S (R u) (bv_ex (fun i => x10.toBitVec.getLsbD i) (kp + 1) ((C u).map nu))) :
    wL_law_544 post L xs J28 (R 0) (R 1) (R 2) (R 3) x10 (nI M) x13 (nI w) (nI (bk_tl C)) (nI kp) (R w) kc ks ty bu ke (nI M) th a1 a2 a3 a4 a5 a6 a7 a8 a9 a10 := by
  have hs : ∀ u, u < 4 → (bk_ex a6 (kp + 1) (C u)).Sublist (C u) := fun u _ => bq_ex_sub
  have hR' : ∀ u, u < 4 → bv_S (R u) ((bk_ex a6 (kp + 1) (C u)).map nu) := by
    intro u hu
    rw [← bq_ex (ob := fun i => x10.toBitVec.getLsbD i) (fun v hv => (D.2.1 u v hu hv).2.2.1)]
    exact hR u hu
  have hlen : ∀ u, u < 4 → (bk_ex a6 (kp + 1) (C u)).length ≤ (C u).length := fun u hu => (hs u hu).length_le
  unfold wL_law_544
  refine bq_size (C := fun u => bk_ex a6 (kp + 1) (C u)) (bq_G_sub k.2.2.1 hs) (bq_D_sub D hs hR') (nm_e ?_)
  refine bk_expire k (by omega) (fun m' C' c1 c2 c3 c7 k' hC' => ?_)
  refine bq_end (X := R) (nu := nu) k' hw ?_ ?_ HJ
  · rw [bq_Y_id]
    refine bq_D_sub D (fun u hu => ?_) (fun u hu => ?_)
    · rw [hC' u hu]; exact hs u hu
    · rw [hC' u hu]; exact hR' u hu
  · have e : bk_tl C' = bk_tl (fun u => bk_ex a6 (kp + 1) (C u)) := by
      unfold bk_tl
      rw [hC' 0 (by omega), hC' 1 (by omega), hC' 2 (by omega), hC' 3 (by omega)]
    have h0 := hlen 0 (by omega)
    have h1 := hlen 1 (by omega)
    have h2 := hlen 2 (by omega)
    have h3 := hlen 3 (by omega)
    rw [e]
    refine (pk_sub ?_).symm
    unfold bk_tl
    dsimp only
    omega
theorem bq_147 {fl x14 x15 : Int32} (k : bk_K m C ke th a1 a2 a3 a7) (D : bq_D C nu M X x10 a4 a5 a6) (hM : M < 61) (hw : w < 4) (HJ : bq_J J28 x13 a8 a9 a10) (hf : (fl = 0 ∧ ¬ bq_P C a6 w) ∨ (fl = 1 ∧ bq_P C a6 w)) :
    wL_law_147 post L xs J28 (X 0) (X 1) (X 2) (X 3) x10 (nI M) x13 x14 x15 (nI w) (X w) (nI (bk_tl C)) fl kc ks ty bu ke (nI M) th a1 a2 a3 a4 a5 a6 a7 a8 a9 a10 := by
  unfold wL_law_147
  refine bk_key hw (br_c (fun _ => br_c (fun _ => br_c (fun _ => ?_) (fun _ => ?_)) (fun _ => bq_remove k D hM hw HJ hf)) (fun _ => bq_put k D hM hw HJ))
  · obtain ⟨kp, hkp, ekp⟩ := pk_andE (x15 >>> ((2 : Int32) &&& 31)) (m := 3) 2 (by decide)
    have hkp' : kp < 4 := hkp
    refine nm_r ekp ?_
    have ex : ∀ u, u < 4 → ∀ (Q : Int64 → Prop), (∀ r, bv_S r (bv_ex (fun i => x10.toBitVec.getLsbD i) (kp + 1) ((C u).map nu)) → Q r) → wpL_expired Q () (X u) x10 (nI kp) :=
      fun u hu Q hQ => bv_expired (by omega) (D.2.2.2.2.1 u hu) (D.2.2.1 u hu) (bq_62 D hu) hQ
    refine ex 0 (by omega) _ (fun r0 h0 => ex 1 (by omega) _ (fun r1 h1 => ex 2 (by omega) _ (fun r2 h2 => ex 3 (by omega) _ (fun r3 h3 => ?_))))
    have hR : ∀ u, u < 4 → bv_S ((fun u => if u = 0 then r0 else if u = 1 then r1 else if u = 2 then r2 else r3 : Nat → Int64) u) (bv_ex (fun i => x10.toBitVec.getLsbD i) (kp + 1) ((C u).map nu)) := by
      intro u hu
      rcases bk_4 hu with e | e | e | e
      · subst e; exact h0
      · subst e; exact h1
      · subst e; exact h2
      · subst e; exact h3
    have t := bq_544 (post := post) (L := L) (xs := xs) (kc := kc) (ks := ks) (a8 := a8) (a9 := a9) (a10 := a10) (ty := nI (if w < 2 then 1 else 2)) (bu := nI (bk_kv w)) k D hkp' hw HJ hR
    rcases bk_4 hw with e | e | e | e
    · subst e; exact br_t (by decide) t
    · subst e; exact br_f (by decide) (br_t (by decide) t)
    · subst e; exact br_f (by decide) (br_f (by decide) (br_t (by decide) t))
    · subst e; exact br_f (by decide) (br_f (by decide) (br_f (by decide) t))
  · obtain ⟨d, hd, ed⟩ := pk_andE (x15 >>> ((2 : Int32) &&& 31)) (m := 63) 6 (by decide)
    have hd' : d < 64 := hd
    have hM' := D.1
    refine nm_r ed (pk_le 62 d (fun z => ?_) (fun z => ?_))
    · refine bq_desN k D hd' hw HJ (fun u v hu hv => ?_)
      have := (D.2.1 u v hu hv).2.1
      omega
    · have hU := bq_un D d hd'
      refine br_c (fun hb => ?_) (fun hb => ?_)
      · refine bq_desY k D hd' hw HJ ?_
        have hm := hU.mp ((bv_bit1 _ hd').mp hb)
        rcases List.mem_append.mp hm with q | q
        · rcases List.mem_append.mp q with q | q
          · rcases List.mem_append.mp q with q | q
            · obtain ⟨v, hv, e⟩ := List.mem_map.mp q
              exact ⟨0, v, by omega, hv, e⟩
            · obtain ⟨v, hv, e⟩ := List.mem_map.mp q
              exact ⟨1, v, by omega, hv, e⟩
          · obtain ⟨v, hv, e⟩ := List.mem_map.mp q
            exact ⟨2, v, by omega, hv, e⟩
        · obtain ⟨v, hv, e⟩ := List.mem_map.mp q
          exact ⟨3, v, by omega, hv, e⟩
      · refine bq_desN k D hd' hw HJ (fun u v hu hv e => hb ((bv_bit1 _ hd').mpr (hU.mpr ?_)))
        have hm : d ∈ (C u).map nu := List.mem_map.mpr ⟨v, hv, e⟩
        rcases bk_4 hu with q | q | q | q
        · subst q; simp only [List.mem_append]; exact Or.inl (Or.inl (Or.inl hm))
        · subst q; simp only [List.mem_append]; exact Or.inl (Or.inl (Or.inr hm))
        · subst q; simp only [List.mem_append]; exact Or.inl (Or.inr hm)
        · subst q; simp only [List.mem_append]; exact Or.inr hm
theorem bq_100 {x14 x15 : Int32} (k : bk_K m C ke th a1 a2 a3 a7) (D : bq_D C nu M X x10 a4 a5 a6) (hM : M < 61) (hw : w < 4) (HJ : bq_J J28 x13 a8 a9 a10) :
    wL_law_100 post L xs J28 (X 0) (X 1) (X 2) (X 3) x10 (nI M) x13 x14 x15 (nI w) (X w) kc ks ty bu ke (nI M) th a1 a2 a3 a4 a5 a6 a7 a8 a9 a10 := by
  unfold wL_law_100
  refine bq_size k.2.2.1 D (bv_newest (j := 0) (by omega) (D.2.2.2.2.1 w hw) (D.2.2.1 w hw) (bq_62 D hw) ?_)
  cases hC : C w with
  | nil =>
    have e0 : bv_nv (-7) 0 0 ([].map nu) = -7 := bv_nv_nil _ _ _
    have np : ¬ bq_P C a6 w := fun ⟨v, l, q, _⟩ => by rw [hC] at q; cases q
    exact br_t (by rw [e0]; decide) (bq_147 k D hM hw HJ (Or.inl ⟨rfl, np⟩))
  | cons v l =>
    have hv : v ∈ C w := by rw [hC]; simp
    obtain ⟨d1, d2, d3, d4⟩ := D.2.1 w v hw hv
    have e0 : bv_nv (-7) 0 0 ((v :: l).map nu) = nI (nu v) := rfl
    refine br_f (by rw [e0]; exact nI_pos (by omega)) (br_c (fun z => ?_) (fun z => ?_))
    · rw [e0] at z
      have hb := (bv_bit1 x10 (show nu v < 64 by omega)).mp z
      rw [if_pos hb] at d3
      exact bq_147 k D hM hw HJ (Or.inr ⟨rfl, v, l, hC, d3⟩)
    · rw [e0] at z
      have hb : ¬ x10.toBitVec.getLsbD (nu v) = true := fun q => z ((bv_bit1 x10 (show nu v < 64 by omega)).mpr q)
      rw [if_neg hb] at d3
      refine bq_147 k D hM hw HJ (Or.inl ⟨rfl, fun ⟨v', l', q, q'⟩ => ?_⟩)
      rw [hC] at q
      injection q with q1 q2
      rw [← q1, d3] at q'
      exact absurd q' (by decide)
end
end
section
/-! ===== the law's end: 26 puts, an upload, letters ===== -/
theorem bq_bits1 {post : Int32 → Prop} (hp : post 1) : wpX_bits post () 1 := by
  refine ⟨9, ?_⟩
  rw [wX_bits_4]
  refine br_f (by decide) (nm_r (e' := 1) (by decide) (nm_r (e' := 1) (by decide) ?_))
  rw [wX_bits_4]
  refine br_f (by decide) (nm_r (e' := 1) (by decide) (nm_r (e' := 2) (by decide) ?_))
  rw [wX_bits_4]
  refine br_f (by decide) (nm_r (e' := 1) (by decide) (nm_r (e' := 3) (by decide) ?_))
  rw [wX_bits_4]
  refine br_f (by decide) (nm_r (e' := 1) (by decide) (nm_r (e' := 4) (by decide) ?_))
  rw [wX_bits_4]
  refine br_f (by decide) (nm_r (e' := 1) (by decide) (nm_r (e' := 5) (by decide) ?_))
  rw [wX_bits_4]
  refine br_f (by decide) (nm_r (e' := 1) (by decide) (nm_r (e' := 6) (by decide) ?_))
  rw [wX_bits_4]
  refine br_f (by decide) (nm_r (e' := 1) (by decide) (nm_r (e' := 7) (by decide) ?_))
  rw [wX_bits_4]
  refine br_f (by decide) (nm_r (e' := 1) (by decide) (nm_r (e' := 8) (by decide) ?_))
  rw [wX_bits_4]
  exact br_t (by decide) hp
section
variable {ty bu ke ma th : Int32} {a1 a2 a3 a4 a5 a6 a7 a8 a9 a10 : Nat → Int32} {L : Nat} {xs : Nat → Int32} {kc ks : Nat}
theorem bq_noU {post : Int32 → Prop} (h : ¬ a8 0 = 0) (hp : post 0) : wpX_noUpload post (ty, bu, ke, ma, th, a1, a2, a3, a4, a5, a6, a7, a8, a9, a10) 0 :=
  br_f (by decide) (br_f (by decide) ⟨pk_in 0 3 (by omega), br_f h hp⟩)
theorem bq_begin {post : Int32 → St1 → Prop} (hty : ¬ ty = 0) (h8 : a8 0 = 0) (hp : post 0 (ty, bu, ke, ma, th, a1, a2, a3, a4, a5, a6, a7, upd a8 0 bu, upd a9 0 0, a10)) :
    wpX_begin post (ty, bu, ke, ma, th, a1, a2, a3, a4, a5, a6, a7, a8, a9, a10) := by
  refine br_f hty ⟨1, ?_⟩
  rw [wX_begin_12]
  exact br_f (by decide) ⟨pk_in 0 3 (by omega), br_t h8 (br_f (by decide) ⟨pk_in 0 3 (by omega), nm_r (e' := upd a8 0 bu) rfl ⟨pk_in 0 3 (by omega), nm_r (e' := upd a9 0 0) rfl hp⟩⟩)⟩
theorem bq_part {post : Int32 → St1 → Prop} (h8 : ¬ a8 0 = 0) (h9 : a9 0 = 0) (hp : ∀ c9 c10, c9 0 = 1 → post 1 (ty, bu, ke, ma, th, a1, a2, a3, a4, a5, a6, a7, a8, c9, c10)) :
    wpX_part post (ty, bu, ke, ma, th, a1, a2, a3, a4, a5, a6, a7, a8, a9, a10) 0 0 5 := by
  unfold wpX_part
  refine bq_noU h8 (br_t rfl (br_f (by decide) (br_t (by decide) ⟨pk_in 0 3 (by omega), pk_in 0 3 (by omega), nm_r (e' := upd a9 0 1) ?_ ⟨pk_in 0 24 (by omega) (by decide), nm_e ⟨pk_in 0 3 (by omega), bq_bits1 (hp _ _ pk_us)⟩⟩⟩)))
  show upd a9 0 (a9 0 ||| ((1 : Int32) <<< ((0 : Int32) &&& 31))) = upd a9 0 1
  rw [h9]
  rw [show (0 : Int32) ||| ((1 : Int32) <<< ((0 : Int32) &&& 31)) = 1 by decide]
theorem bq_complete {post : Int32 → St1 → Prop} (h8 : ¬ a8 0 = 0) (h9 : a9 0 = 1) (hth : ¬ th < 24) (hp : post (-2) (ty, bu, ke, ma, th, a1, a2, a3, a4, a5, a6, a7, a8, a9, a10)) :
    wpX_complete post (ty, bu, ke, ma, th, a1, a2, a3, a4, a5, a6, a7, a8, a9, a10) 0 1 := by
  unfold wpX_complete
  refine bq_noU h8 (br_t rfl (nm_r (e' := 1) (by decide) (br_f (by decide) ⟨pk_in 0 3 (by omega), br_t ?_ (br_f hth hp)⟩)))
  show (1 : Int32) &&& (a9 0 ^^^ (-1)) = 0
  rw [h9]
  decide
theorem bq_abort {post : Int32 → St1 → Prop} (h8 : ¬ a8 0 = 0) (h9 : a9 0 = 1) (hp : ∀ c8, post 1 (ty, bu, ke, ma, th, a1, a2, a3, a4, a5, a6, a7, c8, a9, a10)) :
    wpX_abort post (ty, bu, ke, ma, th, a1, a2, a3, a4, a5, a6, a7, a8, a9, a10) 0 := by
  unfold wpX_abort
  refine bq_noU h8 (br_t rfl ⟨pk_in 0 3 (by omega), nm_e ⟨pk_in 0 3 (by omega), ?_⟩⟩)
  have e : a9 (0 : Int32).toNatClampNeg = 1 := h9
  rw [e]
  exact bq_bits1 (hp _)
theorem bq_995 {z : Int32} (h8 : a8 0 = 0) (hth : ¬ th < 24) : wL_law_995 (fun r => r = 1) L xs z z kc ks (nI 2) (nI 2303) ke ma th a1 a2 a3 a4 a5 a6 a7 a8 a9 a10 := by
  refine br_t rfl ?_
  refine bq_begin (by decide) h8 (br_t rfl ?_)
  have n8 : ¬ upd a8 0 (nI 2303) 0 = 0 := by rw [pk_us]; decide
  refine bq_part n8 pk_us (fun c9 c10 h9 => br_t rfl ?_)
  refine bq_complete n8 h9 hth (br_t rfl ?_)
  refine bk_type (l := 1) (t := 2) (b := 2303) (by omega) (by omega) (br_t (by decide) ?_)
  refine bk_type (l := 1) (t := 3) (by omega) (by omega) (br_t (by decide) ?_)
  refine bk_typeF (l := 1) (t := 4) (by omega) (by omega) (by omega) (br_t rfl ?_)
  exact bq_abort n8 h9 (fun c8 => br_t rfl rfl)
end
section
variable {L : Nat} {xs : Nat → Int32} {kc ks : Nat} {a8 a9 a10 : Nat → Int32}
theorem bq_899 (h8 : a8 0 = 0) : ∀ (d i m : Nat) (C : Nat → List Nat) (ke ma th : Int32) (a1 a2 a3 a4 a5 a6 a7 : Nat → Int32), i + d = 26 → bk_K m C ke th a1 a2 a3 a7 → (i ≤ bk_tl C ∨ bk_tl C = 24) →
    wL_law_899 (fun r => r = 1) L xs kc ks (d + 1) ma (nI (bk_tl C)) (nI i) (nI 2) (nI (bk_kv 3)) ke ma th a1 a2 a3 a4 a5 a6 a7 a8 a9 a10 := by
  intro d
  induction d with
  | zero =>
    intro i m C ke ma th a1 a2 a3 a4 a5 a6 a7 hi k ht
    have h24 := k.2.2.2.1
    have e24 : bk_tl C = 24 := by omega
    have hth : ¬ th < 24 := by
      rw [k.2.2.2.2.2.1, e24]
      decide
    rw [wL_law_899]
    refine br_t (nI_le (a := 26) (by omega) (by omega)) ?_
    refine bk_present k (w := 3) (by omega) (fun e => ?_) (fun v l e z => ?_) (fun v l e z => ?_)
    · refine bk_remove k (w := 3) (by omega) (by decide) (fun _ => br_t rfl (bq_995 h8 hth)) (fun y l e2 => ?_) (fun y l e2 => ?_) (fun y l e2 => ?_)
      · rw [e] at e2; cases e2
      · rw [e] at e2; cases e2
      · rw [e] at e2; cases e2
    · refine bk_remove k (w := 3) (by omega) (by decide) (fun e2 => ?_) (fun y l' e2 z2 => ?_) (fun y l' e2 z2 _ => br_f (by decide) (bq_995 h8 hth)) (fun y l' e2 z2 q => absurd q (by omega))
      · rw [e] at e2; cases e2
      · rw [e] at e2
        injection e2 with q1 q2
        rw [q1] at z
        exact absurd z z2
    · refine bk_remove k (w := 3) (by omega) (by decide) (fun e2 => ?_) (fun y l' e2 z2 => br_t rfl (bq_995 h8 hth)) (fun y l' e2 z2 _ => ?_) (fun y l' e2 z2 q => absurd q (by omega))
      · rw [e] at e2; cases e2
      · rw [e] at e2
        injection e2 with q1 q2
        rw [q1] at z
        exact absurd z2 z
  | succ d ih =>
    intro i m C ke ma th a1 a2 a3 a4 a5 a6 a7 hi k ht
    have h24 := k.2.2.2.1
    rw [wL_law_899]
    refine br_f (nI_ge (b := 26) (by omega) (by decide)) ?_
    refine bk_put k (w := 3) (by omega) (by decide) (fun e24 => ?_) (fun lt m' v ke' th' c1 c2 c7 hv hf k' => ?_)
    · have c : (24 : Int32) ≤ nI (bk_tl C) := by rw [e24]; decide
      refine br_t c (br_t rfl (br_t c (br_t c (nm_r (nI_1 i) ?_))))
      exact ih (i + 1) m C ke ma th a1 a2 a3 a4 a5 a6 a7 (by omega) k (by omega)
    · have c : ¬ (24 : Int32) ≤ nI (bk_tl C) := nI_ge (b := 24) lt (by decide)
      have tl := bk_tl_cu (C := C) (w := 3) (l := v :: C 3) (by omega)
      rw [List.length_cons] at tl
      refine br_f c (br_t rfl (br_f c (br_f c (nm_r (e' := nI (bk_tl (bk_cu C 3 (v :: C 3)))) ?_ (nm_r (nI_1 i) ?_)))))
      · rw [nI_1, show bk_tl (bk_cu C 3 (v :: C 3)) = bk_tl C + 1 by omega]
      · exact ih (i + 1) m' _ ke' (ma + 1) th' c1 c2 _ _ _ _ c7 (by omega) k' (by omega)
theorem bq_876 {m M : Nat} {C : Nat → List Nat} {nu : Nat → Nat} {X : Nat → Int64} {o : Int64} {ty bu ke th : Int32} {a1 a2 a3 a4 a5 a6 a7 : Nat → Int32} (h8 : a8 0 = 0) (k : bk_K m C ke th a1 a2 a3 a7) (D : bq_D C nu M X o a4 a5 a6) :
    wL_law_876 (fun r => r = 1) L xs (X 0) (X 1) (X 2) (X 3) (nI M) kc ks ty bu ke (nI M) th a1 a2 a3 a4 a5 a6 a7 a8 a9 a10 := by
  unfold wL_law_876
  refine bq_size k.2.2.1 D (bk_key (w := 3) (by omega) ⟨27, ?_⟩)
  exact bq_899 h8 26 0 m C ke (nI M) th a1 a2 a3 a4 a5 a6 a7 (by omega) k (by omega)
/-- the law's loop -/
theorem bq_28 (hL : L ≤ 260) (h8 : a8 0 = 0) : ∀ (d kx m M : Nat) (C : Nat → List Nat) (nu : Nat → Nat) (X : Nat → Int64) (o : Int64) (ty bu ke th : Int32) (a1 a2 a3 a4 a5 a6 a7 : Nat → Int32), L - kx ≤ d → kx ≤ 300 → bk_K m C ke th a1 a2 a3 a7 → bq_D C nu M X o a4 a5 a6 →
    wL_law_28 (fun r => r = 1) L xs kc ks (d + 1) (X 0) (X 1) (X 2) (X 3) o (nI M) (nI kx) ty bu ke (nI M) th a1 a2 a3 a4 a5 a6 a7 a8 a9 a10 := by
  intro d
  induction d with
  | zero =>
    intro kx m M C nu X o ty bu ke th a1 a2 a3 a4 a5 a6 a7 hd hkx k D
    rw [wL_law_28]
    exact br_t (show nI L ≤ nI kx + 1 by rw [nI_1]; exact nI_le (by omega) (by omega)) (bq_876 h8 k D)
  | succ d ih =>
    intro kx m M C nu X o ty bu ke th a1 a2 a3 a4 a5 a6 a7 hd hkx k D
    have hM := D.1
    rw [wL_law_28]
    refine pk_le L (kx + 1) (fun z => bq_876 h8 k D) (fun z => pk_le 61 M (fun _ => bq_876 h8 k D) (fun zM => ?_)) rfl (nI_1 kx)
    refine ⟨pk_in kx L (by omega), nm_e ⟨pk_in (kx + 1) L (by omega) (nI_1 kx), nm_e ?_⟩⟩
    obtain ⟨w, hw, ew⟩ := pk_andE (xs (nI kx + 1).toNatClampNeg) (m := 3) 2 (by decide)
    have hw' : w < 4 := hw
    refine nm_r ew ?_
    have HJ : bq_J (wL_law_28 (fun r => r = 1) L xs kc ks (d + 1)) (nI kx) a8 a9 a10 := by
      intro m' C' nu' M' X' o' ke' th' c1 c2 c3 c4 c5 c6 c7 k' D'
      have e2 : nI kx + 2 = nI (kx + 2) := nI_add kx 2
      rw [e2]
      exact ih (kx + 2) m' M' C' nu' X' o' 0 0 ke' th' c1 c2 c3 c4 c5 c6 c7 (by omega) (by omega) k' D'
    have t : ∀ x14 x15, wL_law_100 (fun r => r = 1) L xs (wL_law_28 (fun r => r = 1) L xs kc ks (d + 1)) (X 0) (X 1) (X 2) (X 3) o (nI M) (nI kx) x14 x15 (nI w) (X w) kc ks ty bu ke (nI M) th a1 a2 a3 a4 a5 a6 a7 a8 a9 a10 := fun x14 x15 => bq_100 k D zM hw' HJ
    rcases bk_4 hw' with e | e | e | e
    · subst e; exact br_t (by decide) (t _ _)
    · subst e; exact br_f (by decide) (br_t (by decide) (t _ _))
    · subst e; exact br_f (by decide) (br_f (by decide) (br_t (by decide) (t _ _)))
    · subst e; exact br_f (by decide) (br_f (by decide) (br_f (by decide) (t _ _)))
end
end
section
/-! ===== the top ===== -/
theorem bq_K0 : bk_K 0 (fun _ => []) 0 0 (fun _ => 0) (fun _ => 0) (fun _ => 0) (fun _ => 0) := by
  refine ⟨by decide, fun w _ => ?_, ⟨fun w _ => List.nodup_nil, fun w _ v hv => (by cases hv), fun w u v _ _ hv => (by cases hv)⟩, by decide, by decide, by decide, fun i hi => ?_, fun v hv => ⟨fun ⟨w, _, hm⟩ => (by cases hm), fun _ => rfl⟩⟩
  · rw [Nat.zero_testBit]
    simp
  · have e : bk_n 0 = 0 := by decide
    omega
theorem bq_D0 : bq_D (fun _ => []) (fun _ => 0) 0 (fun _ => 0) 0 (fun _ => 0) (fun _ => 0) (fun _ => 0) :=
  ⟨by decide, fun w v _ hv => (by cases hv), fun w _ => List.Pairwise.nil, fun w u v y _ _ hv => (by cases hv), fun w _ => bv_zero, fun i _ _ => BitVec.getLsbD_zero⟩
theorem i_vc (xs : Nat → Int32) (L : Nat) (hL : L ≤ 260) : wpL_law (fun r => r = 1) L xs := by
  refine ⟨10, 198, by decide, by decide, ?_⟩
  refine ⟨by decide, by decide, by decide, by decide, by decide, by decide, by decide, by decide, by decide, by decide, by decide, by decide, by decide, by decide, by decide, by decide, by decide, by decide, by decide, by decide, ?_⟩
  exact ⟨261, bq_28 hL rfl 260 0 0 0 (fun _ => []) (fun _ => 0) (fun _ => 0) 0 0 0 0 0 (fun _ => 0) (fun _ => 0) (fun _ => 0) (fun _ => 0) (fun _ => 0) (fun _ => 0) (fun _ => 0) (by omega) (by omega) bq_K0 bq_D0⟩
end
