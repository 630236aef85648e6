section
/-! bits of an int: pasted from kit/laws/BITS.to-paste (the family bt) -/
def bt (x : Int32) (i : Nat) : Bool := x.toBitVec.getLsbD i
theorem b_ext {x y : Int32} (h : ∀ i, i < 32 → bt x i = bt y i) : x = y := Int32.toBitVec_inj.mp (BitVec.eq_of_getLsbD_eq (fun i hi => h i hi))
theorem b_or (x y : Int32) (i : Nat) : bt (x ||| y) i = (bt x i || bt y i) := by unfold bt; rw [Int32.toBitVec_or, BitVec.getLsbD_or]
theorem b_and (x y : Int32) (i : Nat) : bt (x &&& y) i = (bt x i && bt y i) := by unfold bt; rw [Int32.toBitVec_and, BitVec.getLsbD_and]
theorem b_big {x : Int32} {i : Nat} (h : 32 ≤ i) : bt x i = false := BitVec.getLsbD_of_ge _ _ h
theorem b_65535 (i : Nat) : bt 65535 i = decide (i < 16) := by
  rcases Nat.lt_or_ge i 32 with h | h
  · exact (by decide +kernel : ∀ i, i < 32 → bt 65535 i = decide (i < 16)) i h
  · rw [b_big h, decide_eq_false (by omega)]
theorem b_0 (i : Nat) : bt 0 i = false := BitVec.getLsbD_zero
theorem s_l : ∀ n, n < 32 → ((nI n &&& 31).toBitVec.smod 32).toNat = n := by decide +kernel
theorem s_u : ∀ n, n < 32 → (((nI n).toUInt32 &&& Int32.toUInt32 31).toBitVec % 32).toNat = n := by decide +kernel
theorem b_shl (n : Nat) (hn : n < 32) (x : Int32) {i : Nat} (hi : i < 32) : bt (x <<< (nI n &&& 31)) i = (decide (n ≤ i) && bt x (i - n)) := by
  unfold bt
  rw [Int32.toBitVec_shiftLeft]
  show (x.toBitVec <<< ((nI n &&& 31).toBitVec.smod 32).toNat).getLsbD i = _
  rw [s_l n hn, BitVec.getLsbD_shiftLeft]
  rcases Nat.lt_or_ge i n with h | h
  · simp [h, Nat.not_le.mpr h]
  · simp [hi, h, Nat.not_lt.mpr h]
theorem b_ushr (n : Nat) (hn : n < 32) (x : Int32) (i : Nat) : bt ((x.toUInt32 >>> ((nI n).toUInt32 &&& Int32.toUInt32 31)).toInt32) i = bt x (n + i) := by
  show (x.toUInt32 >>> ((nI n).toUInt32 &&& Int32.toUInt32 31)).toBitVec.getLsbD i = x.toUInt32.toBitVec.getLsbD (n + i)
  rw [UInt32.toBitVec_shiftRight]
  show (x.toUInt32.toBitVec >>> (((nI n).toUInt32 &&& Int32.toUInt32 31).toBitVec % 32).toNat).getLsbD i = _
  rw [s_u n hn, BitVec.getLsbD_ushiftRight]
theorem b_sshr (n : Nat) (hn : n < 32) (x : Int32) {i : Nat} (hi : i < 32) : bt (x >>> (nI n &&& 31)) i = if n + i < 32 then bt x (n + i) else bt x 31 := by
  unfold bt
  rw [Int32.toBitVec_shiftRight]
  show (x.toBitVec.sshiftRight ((nI n &&& 31).toBitVec.smod 32).toNat).getLsbD i = _
  rw [s_l n hn, BitVec.getLsbD_sshiftRight, BitVec.msb_eq_getLsbD_last]
  simp [hi]
/-! one bit, as it is printed -/
theorem mv_one (i : Nat) : bt 1 i = decide (i = 0) := by
  rcases Nat.lt_or_ge i 32 with h | h
  · exact (by decide +kernel : ∀ i, i < 32 → bt 1 i = decide (i = 0)) i h
  · rw [b_big h, decide_eq_false (by omega)]
theorem mv_t1 (y : Int32) : (y &&& 1) = 0 ↔ bt y 0 = false := by
  constructor
  · intro h
    have t := congrArg (fun z => bt z 0) h
    rw [b_and, mv_one, b_0] at t
    simpa using t
  · intro h
    apply b_ext
    intro i hi
    rw [b_and, mv_one, b_0]
    by_cases e : i = 0
    · rw [e, h]; rfl
    · simp [e]
theorem mv_bit (x : Int32) {j : Nat} (hj : j < 32) : (((x.toUInt32 >>> ((nI j).toUInt32 &&& Int32.toUInt32 31)).toInt32) &&& 1) = 0 ↔ bt x j = false := by
  rw [mv_t1, b_ushr j hj x 0, Nat.add_zero]
theorem mv_sbit (x : Int32) {j : Nat} (hj : j < 32) : ((x >>> (nI j &&& 31)) &&& 1) = 0 ↔ bt x j = false := by
  rw [mv_t1, b_sshr j hj x (by omega), if_pos (by omega), Nat.add_zero]
theorem mv_set (x : Int32) {c j : Nat} (hc : c < 32) (hj : j < 32) : bt (x ||| ((1 : Int32) <<< (nI c &&& 31))) j = (bt x j || decide (j = c)) := by
  rw [b_or, b_shl c hc 1 hj, mv_one]
  congr 1
  rw [← Bool.decide_and]
  exact decide_eq_decide.mpr (by omega)
/-- bit j of a long -/
def mv_q (x : Int64) (j : Nat) : Bool := x.toBitVec.getLsbD j
theorem mv_q_and (x y : Int64) (i : Nat) : mv_q (x &&& y) i = (mv_q x i && mv_q y i) := by unfold mv_q; rw [Int64.toBitVec_and, BitVec.getLsbD_and]
theorem mv_q_or (x y : Int64) (i : Nat) : mv_q (x ||| y) i = (mv_q x i || mv_q y i) := by unfold mv_q; rw [Int64.toBitVec_or, BitVec.getLsbD_or]
theorem mv_amt : ∀ t, t < 6 → (((16 * (nI t - nI t / 3 * 3)).toInt64 &&& 63).toBitVec.smod 64).toNat = 16 * (t % 3) := by decide +kernel
theorem mv_get (z : Int64) {t c : Nat} (ht : t < 6) (hc : c < 16) : bt (((z >>> ((16 * (nI t - nI t / 3 * 3)).toInt64 &&& 63)).toInt32) &&& 65535) c = mv_q z (16 * (t % 3) + c) := by
  rw [b_and, b_65535, decide_eq_true hc, Bool.and_true]
  unfold bt mv_q
  rw [Int64.toBitVec_toInt32, BitVec.getLsbD_signExtend, Int64.toBitVec_shiftRight]
  show (decide (c < 32) && if c < 64 then (z.toBitVec.sshiftRight (((16 * (nI t - nI t / 3 * 3)).toInt64 &&& 63).toBitVec.smod 64).toNat).getLsbD c else _) = _
  rw [mv_amt t ht, if_pos (by omega), decide_eq_true (show c < 32 by omega), Bool.true_and, BitVec.getLsbD_sshiftRight, if_pos (by omega), decide_eq_false (show ¬ 64 ≤ c by omega)]
  rfl
theorem mv_put0 : ∀ t, t < 6 → ∀ c, c < 16 → ((1 : Int64) <<< (((16 * (nI t - nI t / 3 * 3)) + nI c).toInt64 &&& 63)).toBitVec = BitVec.twoPow 64 (16 * (t % 3) + c) := by decide +kernel
theorem mv_put {t c j : Nat} (ht : t < 6) (hc : c < 16) : mv_q ((1 : Int64) <<< (((16 * (nI t - nI t / 3 * 3)) + nI c).toInt64 &&& 63)) j = decide (j = 16 * (t % 3) + c) := by
  unfold mv_q
  rw [mv_put0 t ht c hc, BitVec.getLsbD_twoPow]
  rw [← Bool.decide_and]
  exact decide_eq_decide.mpr (by omega)
theorem mv_clr0 : ∀ t, t < 6 → ∀ j, j < 64 → mv_q (((65535 : Int64) <<< ((16 * (nI t - nI t / 3 * 3)).toInt64 &&& 63)) ^^^ (-1)) j = decide (j < 16 * (t % 3) ∨ 16 * (t % 3) + 16 ≤ j) := by decide +kernel
/-- the law's masks: for each open transaction the cells it wrote -/
def mv_M (lo hi : Int64) (a5 a8 : Nat → Int32) : Prop := ∀ t, t < 6 → a5 t ≠ 0 → ∀ c, c < 16 → mv_q (if t < 3 then lo else hi) (16 * (t % 3) + c) = bt (a8 t) c
theorem mv_M_close {lo hi : Int64} {a5 a8 b5 : Nat → Int32} (h : mv_M lo hi a5 a8) (hb : ∀ t, t < 6 → b5 t ≠ 0 → a5 t ≠ 0) : mv_M lo hi b5 a8 := fun t ht h5 => h t ht (hb t ht h5)
/-- a begin: the mask of r is cleared -/
theorem mv_M_begin {lo hi : Int64} {a5 a8 : Nat → Int32} {r : Nat} (hr : r < 6) (h : mv_M lo hi a5 a8) (x : Int64) (hx : x = ((65535 : Int64) <<< ((16 * (nI r - nI r / 3 * 3)).toInt64 &&& 63)) ^^^ (-1)) :
    mv_M (if r < 3 then lo &&& x else lo) (if r < 3 then hi else hi &&& x) (upd a5 r 1) (upd a8 r 0) := by
  intro t ht h5 c hc
  have hq : mv_q x (16 * (t % 3) + c) = decide (16 * (t % 3) + c < 16 * (r % 3) ∨ 16 * (r % 3) + 16 ≤ 16 * (t % 3) + c) := by
    rw [hx]; exact mv_clr0 r hr _ (by omega)
  by_cases e : t = r
  · subst e
    have e2 : mv_q x (16 * (t % 3) + c) = false := by rw [hq]; exact decide_eq_false (by omega)
    rw [pk_us, b_0]
    by_cases h3 : t < 3
    · rw [if_pos h3, if_pos h3, mv_q_and, e2, Bool.and_false]
    · rw [if_neg h3, if_neg h3, mv_q_and, e2, Bool.and_false]
  · rw [pk_un e] at h5
    rw [pk_un e, ← h t ht h5 c hc]
    by_cases h3 : t < 3
    · rw [if_pos h3, if_pos h3]
      by_cases r3 : r < 3
      · rw [if_pos r3, mv_q_and, hq, decide_eq_true (by omega), Bool.and_true]
      · rw [if_neg r3]
    · rw [if_neg h3, if_neg h3]
      by_cases r3 : r < 3
      · rw [if_pos r3]
      · rw [if_neg r3, mv_q_and, hq, decide_eq_true (by omega), Bool.and_true]
/-- a write: one bit is set -/
theorem mv_M_write {lo hi : Int64} {a5 a8 : Nat → Int32} {r k : Nat} (hr : r < 6) (hk : k < 16) (h : mv_M lo hi a5 a8) (x : Int64) (hx : x = (1 : Int64) <<< (((16 * (nI r - nI r / 3 * 3)) + nI k).toInt64 &&& 63)) :
    mv_M (if r < 3 then lo ||| x else lo) (if r < 3 then hi else hi ||| x) a5 (upd a8 r (a8 r ||| ((1 : Int32) <<< (nI k &&& 31)))) := by
  intro t ht h5 c hc
  have hq : mv_q x (16 * (t % 3) + c) = decide (16 * (t % 3) + c = 16 * (r % 3) + k) := by
    rw [hx]; exact mv_put hr hk
  have hh := h t ht h5 c hc
  by_cases e : t = r
  · subst e
    have e2 : mv_q x (16 * (t % 3) + c) = decide (c = k) := by rw [hq]; exact decide_eq_decide.mpr (by omega)
    rw [pk_us, mv_set _ (by omega) (by omega)]
    by_cases h3 : t < 3
    · rw [if_pos h3] at hh
      rw [if_pos h3, if_pos h3, mv_q_or, e2, hh]
    · rw [if_neg h3] at hh
      rw [if_neg h3, if_neg h3, mv_q_or, e2, hh]
  · rw [pk_un e]
    by_cases h3 : t < 3
    · rw [if_pos h3] at hh
      rw [if_pos h3]
      by_cases r3 : r < 3
      · rw [if_pos r3, mv_q_or, hq, decide_eq_false (by omega), Bool.or_false, hh]
      · rw [if_neg r3, hh]
    · rw [if_neg h3] at hh
      rw [if_neg h3]
      by_cases r3 : r < 3
      · rw [if_pos r3, hh]
      · rw [if_neg r3, mv_q_or, hq, decide_eq_false (by omega), Bool.or_false, hh]
end
section
/-! ===== sums over an interval ===== -/
def mv_s (f : Nat → Nat) : Nat → Nat
  | 0 => 0
  | n + 1 => mv_s f n + f n
theorem mv_s_eq {f g : Nat → Nat} : ∀ n, (∀ i, i < n → f i = g i) → mv_s f n = mv_s g n
  | 0, _ => rfl
  | n + 1, h => by
    show mv_s f n + f n = mv_s g n + g n
    rw [mv_s_eq n (fun i hi => h i (by omega)), h n (by omega)]
/-- two sums that differ at one place -/
theorem mv_s_one {f g : Nat → Nat} {k a b : Nat} (hk : f k + a ≤ g k + b) : ∀ n, k < n → (∀ i, i < n → i ≠ k → f i = g i) → mv_s f n + a ≤ mv_s g n + b
  | 0, hn, _ => absurd hn (by omega)
  | n + 1, hn, h => by
    show mv_s f n + f n + a ≤ mv_s g n + g n + b
    by_cases e : k = n
    · subst e
      rw [mv_s_eq k (fun i hi => h i (by omega) (by omega))]
      omega
    · have := mv_s_one hk n (by omega) (fun i hi => h i (by omega))
      rw [h n (by omega) (fun z => e z.symm)]
      omega
/-- the number of cells in a mask -/
def mv_w (x : Int32) (j : Nat) : Nat := if bt x j = true then 1 else 0
def mv_pc (x : Int32) : Nat := mv_s (mv_w x) 16
theorem mv_pc_0 : mv_pc 0 = 0 := by decide +kernel
theorem mv_pc_set (x : Int32) {c : Nat} (hc : c < 16) : mv_pc (x ||| ((1 : Int32) <<< (nI c &&& 31))) ≤ mv_pc x + 1 := by
  have h1 : mv_w (x ||| ((1 : Int32) <<< (nI c &&& 31))) c + 0 ≤ mv_w x c + 1 := by
    unfold mv_w
    split <;> split <;> omega
  have h := mv_s_one h1 16 hc (fun i hi e => by
    unfold mv_w
    rw [mv_set x (by omega) (by omega), decide_eq_false e, Bool.or_false])
  unfold mv_pc
  omega
/-- what the open transactions may still take out of the free list -/
def mv_g (a5 a8 : Nat → Int32) (t : Nat) : Nat := if a5 t = 0 then 0 else mv_pc (a8 t)
def mv_P (a5 a8 : Nat → Int32) : Nat := mv_s (mv_g a5 a8) 6
theorem mv_P_close {a5 a8 : Nat → Int32} {t : Nat} (ht : t < 6) (h : a5 t ≠ 0) : mv_P (upd a5 t 0) a8 + mv_pc (a8 t) ≤ mv_P a5 a8 := by
  have h1 : mv_g (upd a5 t 0) a8 t + mv_pc (a8 t) ≤ mv_g a5 a8 t + 0 := by
    unfold mv_g
    rw [pk_us, if_pos rfl, if_neg h]
    omega
  have h := mv_s_one h1 6 ht (fun i hi e => by
    unfold mv_g
    rw [pk_un e])
  unfold mv_P
  omega
theorem mv_P_begin {a5 a8 : Nat → Int32} {t : Nat} (ht : t < 6) : mv_P (upd a5 t 1) (upd a8 t 0) ≤ mv_P a5 a8 := by
  have h1 : mv_g (upd a5 t 1) (upd a8 t 0) t + 0 ≤ mv_g a5 a8 t + 0 := by
    unfold mv_g
    rw [pk_us, pk_us, mv_pc_0]
    split <;> omega
  have h := mv_s_one h1 6 ht (fun i hi e => by
    unfold mv_g
    rw [pk_un e, pk_un e])
  unfold mv_P
  omega
theorem mv_P_write {a5 a8 : Nat → Int32} {t c : Nat} (ht : t < 6) (hc : c < 16) : mv_P a5 (upd a8 t (a8 t ||| ((1 : Int32) <<< (nI c &&& 31)))) ≤ mv_P a5 a8 + 1 := by
  have hp := mv_pc_set (a8 t) hc
  have h1 : mv_g a5 (upd a8 t (a8 t ||| ((1 : Int32) <<< (nI c &&& 31)))) t + 0 ≤ mv_g a5 a8 t + 1 := by
    unfold mv_g
    rw [pk_us]
    split <;> omega
  have h := mv_s_one h1 6 ht (fun i hi e => by
    unfold mv_g
    rw [pk_un e])
  unfold mv_P
  omega
/-! ===== linked lists in an array ===== -/
def mv_L (a3 : Nat → Int32) : Int32 → List Nat → Prop
  | x, [] => x = -1
  | x, v :: l => x = nI v ∧ v < 144 ∧ mv_L a3 (a3 v) l
theorem mv_L_congr {a b : Nat → Int32} : ∀ {l : List Nat} {x : Int32}, (∀ v ∈ l, b v = a v) → mv_L a x l → mv_L b x l
  | [], _, _, h => h
  | v :: l, _, hb, h => ⟨h.1, h.2.1, by
    rw [hb v List.mem_cons_self]
    exact mv_L_congr (fun w hw => hb w (List.mem_cons_of_mem v hw)) h.2.2⟩
/-- the rest of a list behind k -/
theorem mv_L_at {a : Nat → Int32} {k : Nat} {r : List Nat} : ∀ {p : List Nat} {x : Int32}, mv_L a x (p ++ k :: r) → k < 144 ∧ mv_L a (a k) r
  | [], _, h => h.2
  | _ :: _, _, h => mv_L_at (a := a) h.2.2
theorem mv_L_rm {a : Nat → Int32} {k v : Nat} {y : Int32} {r : List Nat} : ∀ {p : List Nat} {x : Int32}, (p ++ k :: v :: r).Nodup → mv_L a x (p ++ k :: v :: r) → mv_L (upd (upd a k (a v)) v y) x (p ++ k :: r)
  | [], x, hn, h => by
    have hn1 := List.nodup_cons.mp hn
    have hn2 := List.nodup_cons.mp hn1.2
    have hkv : k ≠ v := fun e => hn1.1 (by rw [e]; exact List.mem_cons_self)
    refine ⟨h.1, h.2.1, ?_⟩
    rw [pk_un hkv, pk_us]
    refine mv_L_congr (fun w hw => ?_) h.2.2.2.2
    have w1 : w ≠ v := fun e => hn2.1 (by rw [← e]; exact hw)
    have w2 : w ≠ k := fun e => hn1.1 (List.mem_cons_of_mem v (by rw [← e]; exact hw))
    rw [pk_un w1, pk_un w2]
  | q :: p, x, hn, h => by
    have hn1 := List.nodup_cons.mp hn
    have m1 : q ≠ k := fun e => hn1.1 (by rw [e]; simp)
    have m2 : q ≠ v := fun e => hn1.1 (by rw [e]; simp)
    refine ⟨h.1, h.2.1, ?_⟩
    rw [pk_un m2, pk_un m1]
    exact mv_L_rm hn1.2 h.2.2
/-- the value of the newest version that is not newer than m -/
def mv_V (a1 a2 : Nat → Int32) (m : Int) : List Nat → Int32
  | [] => 0
  | v :: l => if (a2 v).toInt ≤ m then a1 v else mv_V a1 a2 m l
theorem mv_V_congr {a1 a2 b1 b2 : Nat → Int32} {m : Int} : ∀ {l : List Nat}, (∀ v ∈ l, b1 v = a1 v ∧ b2 v = a2 v) → mv_V b1 b2 m l = mv_V a1 a2 m l
  | [], _ => rfl
  | v :: l, h => by
    show (if (b2 v).toInt ≤ m then b1 v else mv_V b1 b2 m l) = if (a2 v).toInt ≤ m then a1 v else mv_V a1 a2 m l
    rw [(h v List.mem_cons_self).1, (h v List.mem_cons_self).2, mv_V_congr (fun w hw => h w (List.mem_cons_of_mem v hw))]
theorem mv_V_rm {a1 a2 : Nat → Int32} {m : Int} {k v : Nat} {r : List Nat} (h : m < (a2 k).toInt → m < (a2 v).toInt) : ∀ p : List Nat, mv_V a1 a2 m (p ++ k :: r) = mv_V a1 a2 m (p ++ k :: v :: r)
  | [] => by
    show (if (a2 k).toInt ≤ m then a1 k else mv_V a1 a2 m r) = if (a2 k).toInt ≤ m then a1 k else (if (a2 v).toInt ≤ m then a1 v else mv_V a1 a2 m r)
    by_cases e : (a2 k).toInt ≤ m
    · rw [if_pos e, if_pos e]
    · rw [if_neg e, if_neg e, if_neg (by have := h (by omega); omega)]
  | q :: p => by
    show (if (a2 q).toInt ≤ m then a1 q else mv_V a1 a2 m (p ++ k :: r)) = if (a2 q).toInt ≤ m then a1 q else mv_V a1 a2 m (p ++ k :: v :: r)
    rw [mv_V_rm h p]
theorem mv_V_up {a1 a2 : Nat → Int32} {m m' : Int} {l : List Nat} (h : ∀ v ∈ l, (a2 v).toInt ≤ m) (h' : m ≤ m') : mv_V a1 a2 m' l = mv_V a1 a2 m l := by
  cases l with
  | nil => rfl
  | cons v l =>
    show (if (a2 v).toInt ≤ m' then a1 v else mv_V a1 a2 m' l) = if (a2 v).toInt ≤ m then a1 v else mv_V a1 a2 m l
    have := h v List.mem_cons_self
    rw [if_pos this, if_pos (by omega)]
/-! ===== the picture: chains and the free list ===== -/
def mv_up {α : Type} (f : Nat → α) (k : Nat) (x : α) : Nat → α := fun j => if j = k then x else f j
theorem mv_us {α : Type} {f : Nat → α} {k : Nat} {x : α} : mv_up f k x k = x := if_pos rfl
theorem mv_un {α : Type} {f : Nat → α} {k j : Nat} {x : α} (h : j ≠ k) : mv_up f k x j = f j := if_neg h
/-- one chain: linked from x, owned by c, commits at most m and falling -/
def mv_C (n : Nat) (m : Int) (ow : Nat → Nat) (a2 a3 : Nat → Int32) (x : Int32) (c : Nat) (l : List Nat) : Prop :=
  mv_L a3 x l ∧ (∀ v ∈ l, ow v = c ∧ (a2 v).toInt ≤ m) ∧ l.Pairwise (fun v w => (a2 w).toInt < (a2 v).toInt) ∧ l.length ≤ n
/-- the free list -/
def mv_F (ow : Nat → Nat) (a3 : Nat → Int32) (x : Int32) (l : List Nat) : Prop := mv_L a3 x l ∧ (∀ v ∈ l, ow v = 16) ∧ l.Nodup
def mv_I (n : Nat) (m : Int) (ch : Nat → List Nat) (fr : List Nat) (ow : Nat → Nat) (fv : Int32) (a2 a3 a4 : Nat → Int32) : Prop :=
  (∀ c, c < 16 → mv_C n m ow a2 a3 (a4 c) c (ch c)) ∧ mv_F ow a3 fv fr
theorem mv_C_congr {n n' : Nat} {m m' : Int} {ow ow' : Nat → Nat} {a2 a3 b2 b3 : Nat → Int32} {x : Int32} {c : Nat} {l : List Nat} (hn : n ≤ n') (hm : m ≤ m')
    (e : ∀ v ∈ l, ow' v = ow v ∧ b2 v = a2 v ∧ b3 v = a3 v) (h : mv_C n m ow a2 a3 x c l) : mv_C n' m' ow' b2 b3 x c l := by
  obtain ⟨h1, h2, h3, h4⟩ := h
  refine ⟨mv_L_congr (fun v hv => (e v hv).2.2) h1, fun v hv => ?_, ?_, by omega⟩
  · rw [(e v hv).1, (e v hv).2.1]
    have := h2 v hv
    exact ⟨this.1, by omega⟩
  · refine List.Pairwise.imp_of_mem (fun {v w} hv hw z => ?_) h3
    rw [(e v hv).2.1, (e w hw).2.1]
    exact z
theorem mv_F_congr {ow ow' : Nat → Nat} {a3 b3 : Nat → Int32} {x : Int32} {l : List Nat} (e : ∀ v ∈ l, ow' v = ow v ∧ b3 v = a3 v) (h : mv_F ow a3 x l) : mv_F ow' b3 x l :=
  ⟨mv_L_congr (fun v hv => (e v hv).2) h.1, fun v hv => by rw [(e v hv).1]; exact h.2.1 v hv, h.2.2⟩
theorem mv_C_nodup {n : Nat} {m : Int} {ow : Nat → Nat} {a2 a3 : Nat → Int32} {x : Int32} {c : Nat} {l : List Nat} (h : mv_C n m ow a2 a3 x c l) : l.Nodup :=
  List.Pairwise.imp (fun {v w} z => fun e => by subst e; omega) h.2.2.1
theorem mv_I_mono {n n' : Nat} {m : Int} {ch : Nat → List Nat} {fr : List Nat} {ow : Nat → Nat} {fv : Int32} {a2 a3 a4 : Nat → Int32} (hn : n ≤ n') (h : mv_I n m ch fr ow fv a2 a3 a4) : mv_I n' m ch fr ow fv a2 a3 a4 :=
  ⟨fun c hc => mv_C_congr hn (Int.le_refl m) (fun _ _ => ⟨rfl, rfl, rfl⟩) (h.1 c hc), h.2⟩
/-- a version is taken out of its chain and put into the free list -/
theorem mv_I_rm {n : Nat} {m : Int} {ch : Nat → List Nat} {fr : List Nat} {ow : Nat → Nat} {fv : Int32} {a2 a3 a4 : Nat → Int32} {c k v : Nat} {p r : List Nat} (hc : c < 16)
    (h : mv_I n m ch fr ow fv a2 a3 a4) (e : ch c = p ++ k :: v :: r) :
    mv_I n m (mv_up ch c (p ++ k :: r)) (v :: fr) (mv_up ow v 16) (nI v) a2 (upd (upd a3 k (a3 v)) v fv) a4 := by
  obtain ⟨hC, hF⟩ := h
  have hc0 := hC c hc
  rw [e] at hc0
  have hnd := mv_C_nodup hc0
  obtain ⟨h1, h2, h3, h4⟩ := hc0
  have ok : ow k = c := (h2 k (by simp)).1
  have ov : ow v = c := (h2 v (by simp)).1
  have hv : v < 144 := (mv_L_at (p := p ++ [k]) (k := v) (r := r) (by simpa using h1)).1
  have hsub : (p ++ k :: r).Sublist (p ++ k :: v :: r) := List.Sublist.append_left (List.Sublist.cons_cons k (List.sublist_cons_self v r)) p
  have hvn : v ∉ p ++ k :: r := by
    intro hm
    have := List.nodup_append.mp hnd
    have h5 := List.nodup_cons.mp this.2.1
    have h6 := List.nodup_cons.mp h5.2
    rcases List.mem_append.mp hm with z | z
    · exact this.2.2 v z v (by simp) rfl
    · rcases List.mem_cons.mp z with z | z
      · exact h5.1 (by rw [← z]; exact List.mem_cons_self)
      · exact h6.1 z
  constructor
  · intro d hd
    by_cases ed : d = c
    · subst ed
      rw [mv_us]
      refine ⟨mv_L_rm hnd h1, fun w hw => ?_, List.Pairwise.sublist hsub h3, ?_⟩
      · have wv : w ≠ v := fun z => hvn (by rw [← z]; exact hw)
        rw [mv_un wv]
        exact h2 w (hsub.subset hw)
      · have := hsub.length_le
        omega
    · rw [mv_un ed]
      refine mv_C_congr (Nat.le_refl n) (Int.le_refl m) (fun w hw => ?_) (hC d hd)
      have ow1 := ((hC d hd).2.1 w hw).1
      have wv : w ≠ v := fun z => ed (by rw [← ow1, z, ov])
      have wk : w ≠ k := fun z => ed (by rw [← ow1, z, ok])
      exact ⟨mv_un wv, rfl, by rw [pk_un wv, pk_un wk]⟩
  · have hw : ∀ w ∈ fr, w ≠ v ∧ w ≠ k := fun w hw => by
      have o := hF.2.1 w hw
      exact ⟨fun z => by rw [z, ov] at o; omega, fun z => by rw [z, ok] at o; omega⟩
    refine ⟨⟨rfl, hv, ?_⟩, fun w hm => ?_, List.nodup_cons.mpr ⟨fun z => (hw v z).1 rfl, hF.2.2⟩⟩
    · rw [pk_us]
      exact mv_L_congr (fun w hm => by rw [pk_un (hw w hm).1, pk_un (hw w hm).2]) hF.1
    · rcases List.mem_cons.mp hm with z | z
      · rw [z, mv_us]
      · rw [mv_un (hw w z).1]
        exact hF.2.1 w z
/-- a free version becomes the newest of chain i -/
theorem mv_I_add {n : Nat} {m : Int} {ow : Nat → Nat} {a2 a3 : Nat → Int32} {x fv y : Int32} {i v : Nat} {l fr : List Nat} (hi : i < 16)
    (hC : mv_C n m ow a2 a3 x i l) (hF : mv_F ow a3 fv (v :: fr)) (hy : y.toInt = m + 1) :
    mv_C (n + 1) (m + 1) (mv_up ow v i) (upd a2 v y) (upd a3 v x) (nI v) i (v :: l) ∧ mv_F (mv_up ow v i) (upd a3 v x) (a3 v) fr := by
  have hv := hF.2.1 v List.mem_cons_self
  have nd := List.nodup_cons.mp hF.2.2
  have hl : ∀ w ∈ l, w ≠ v := fun w hw z => by
    have := (hC.2.1 w hw).1
    rw [z, hv] at this
    omega
  have hf : ∀ w ∈ fr, w ≠ v := fun w hw z => nd.1 (by rw [← z]; exact hw)
  have hC' := mv_C_congr (n' := n) (m' := m) (ow' := mv_up ow v i) (b2 := upd a2 v y) (b3 := upd a3 v x) (Nat.le_refl n) (Int.le_refl m) (fun w hw => ⟨mv_un (hl w hw), pk_un (hl w hw), pk_un (hl w hw)⟩) hC
  refine ⟨⟨⟨rfl, hF.1.2.1, by rw [pk_us]; exact hC'.1⟩, fun w hw => ?_, ?_, ?_⟩, ⟨mv_L_congr (fun w hw => pk_un (hf w hw)) hF.1.2.2, fun w hw => by rw [mv_un (hf w hw)]; exact hF.2.1 w (List.mem_cons_of_mem v hw), nd.2⟩⟩
  · rcases List.mem_cons.mp hw with z | z
    · rw [z, mv_us, pk_us]
      exact ⟨rfl, by omega⟩
    · have := hC'.2.1 w z
      exact ⟨this.1, by omega⟩
  · refine List.Pairwise.cons (fun w hw => ?_) hC'.2.2.1
    have := (hC'.2.1 w hw).2
    rw [pk_us]
    omega
  · have := hC.2.2.2
    simp only [List.length_cons]
    omega
end
section
section
variable {fv fc cm : Int32} {a1 a2 a3 a4 a5 a6 a7 a8 a9 a10 : Nat → Int32}
theorem mv_ix (t c : Nat) : (16 * nI t) + nI c = nI (16 * t + c) := by
  rw [show (16 : Int32) = nI 16 from rfl, pk_mul, nI_add]
theorem mv_isOpen {post : Int32 → Prop} {t : Nat} (ht : t < 6) (h0 : a5 t = 0 → post 0) (h1 : a5 t ≠ 0 → post 1) : wpX_isOpen post (fv, fc, cm, a1, a2, a3, a4, a5, a6, a7, a8, a9, a10) (nI t) := by
  refine pk_lt t 0 (fun z => absurd z (by omega)) (fun _ => pk_lt 5 t (fun z => absurd z (by omega)) (fun _ => ⟨pk_in t 6 ht, ?_⟩))
  rw [nI_clamp (show t < 2 ^ 31 by omega)]
  exact br_c h0 h1
theorem mv_isCell {post : Int32 → Prop} {c : Nat} (hc : c < 16) (h : post 1) : wpX_isCell post () (nI c) :=
  pk_lt c 0 (fun z => absurd z (by omega)) (fun _ => pk_lt 15 c (fun z => absurd z (by omega)) (fun _ => h))
theorem mv_vat_loop {post : Int32 → Prop} {p1 : Int32} : ∀ (l : List Nat) (x : Int32) (k f : Nat), mv_L a3 x l → k + l.length ≤ 143 → l.length < f → post (mv_V a1 a2 p1.toInt l) → wX_versionAt_10 post p1 fv fc cm a1 a2 a3 a4 a5 a6 a7 a8 a9 a10 f x (nI k) := by
  intro l
  induction l with
  | nil =>
    intro x k f hL hk hf h
    simp only [List.length_nil] at hk hf
    cases f with
    | zero => exact absurd hf (by omega)
    | succ f =>
      have hx : x = -1 := hL
      rw [hx]
      exact pk_le 144 k (fun z => absurd z (by omega)) (fun _ => br_t (by decide) h)
  | cons v l ih =>
    intro x k f hL hk hf h
    obtain ⟨hx, hv, hL⟩ := hL
    rw [hx]
    simp only [List.length_cons] at hk hf
    cases f with
    | zero => exact absurd hf (by omega)
    | succ f =>
      refine pk_le 144 k (fun z => absurd z (by omega)) (fun _ => pk_lt v 0 (fun z => absurd z (by omega)) (fun _ => ⟨pk_in v 144 hv, ?_⟩))
      rw [nI_clamp (show v < 2 ^ 31 by omega)]
      have e : mv_V a1 a2 p1.toInt (v :: l) = if (a2 v).toInt ≤ p1.toInt then a1 v else mv_V a1 a2 p1.toInt l := rfl
      by_cases hle : (a2 v).toInt ≤ p1.toInt
      · rw [e, if_pos hle] at h
        exact br_f (by rw [Int32.lt_iff_toInt_lt]; omega) ⟨pk_in v 144 hv, h⟩
      · rw [e, if_neg hle] at h
        exact br_t (by rw [Int32.lt_iff_toInt_lt]; omega) ⟨pk_in v 144 hv, nm_e (nm_r (nI_1 k) (ih _ _ _ hL (by omega) (by omega) h))⟩
theorem mv_vat {post : Int32 → Prop} {p1 : Int32} {c : Nat} {l : List Nat} (hc : c < 16) (hL : mv_L a3 (a4 c) l) (hl : l.length ≤ 143) (h : post (mv_V a1 a2 p1.toInt l)) : wpX_versionAt post (fv, fc, cm, a1, a2, a3, a4, a5, a6, a7, a8, a9, a10) (nI c) p1 :=
  ⟨pk_in c 16 hc, nm_r (e' := a4 c) (by rw [nI_clamp (by omega)]) ⟨l.length + 1, mv_vat_loop l (a4 c) 0 _ hL (by omega) (by omega) h⟩⟩
/-- what transaction t sees of cell c, whose chain is l -/
def mv_vis (a1 a2 a7 a8 a10 : Nat → Int32) (l : List Nat) (t c : Nat) : Int32 := if bt (a8 t) c = true then a10 (16 * t + c) else mv_V a1 a2 (a7 t).toInt l
theorem mv_vis_t {l : List Nat} {t c : Nat} (h : bt (a8 t) c = true) : mv_vis a1 a2 a7 a8 a10 l t c = a10 (16 * t + c) := if_pos h
theorem mv_vis_f {l : List Nat} {t c : Nat} (h : bt (a8 t) c = false) : mv_vis a1 a2 a7 a8 a10 l t c = mv_V a1 a2 (a7 t).toInt l := if_neg (by rw [h]; decide)
theorem mv_visible {post : Int32 → Prop} {t c : Nat} {l : List Nat} (ht : t < 6) (hc : c < 16) (hL : mv_L a3 (a4 c) l) (hl : l.length ≤ 143) (h : post (mv_vis a1 a2 a7 a8 a10 l t c)) : wpX_visible post (fv, fc, cm, a1, a2, a3, a4, a5, a6, a7, a8, a9, a10) (nI t) (nI c) := by
  refine ⟨pk_in t 6 ht, ?_⟩
  rw [nI_clamp (show t < 2 ^ 31 by omega), mv_ix, nI_clamp (show 16 * t + c < 2 ^ 31 by omega)]
  cases hb : bt (a8 t) c with
  | false =>
    rw [mv_vis_f hb] at h
    exact br_t ((mv_bit _ (by omega)).mpr hb) ⟨pk_in t 6 ht, mv_vat hc hL hl h⟩
  | true =>
    rw [mv_vis_t hb] at h
    exact br_f (fun z => by rw [(mv_bit _ (by omega)).mp z] at hb; cases hb) ⟨vp_in_nI (by omega) (by omega), h⟩
theorem mv_sum {post : Int32 → Prop} {t c : Nat} {l : List Nat} (ht : t < 6) (hc : c < 16) (hL : mv_L a3 (a4 c) l) (hl : l.length ≤ 143) (h0 : a5 t = 0 → post 0) (h1 : a5 t ≠ 0 → post (mv_vis a1 a2 a7 a8 a10 l t c)) : wpX_sum post (fv, fc, cm, a1, a2, a3, a4, a5, a6, a7, a8, a9, a10) (nI t) (nI c) (nI c) := by
  unfold wpX_sum
  refine mv_isOpen ht (fun z => br_t rfl (h0 z)) (fun z => br_f (by decide) ?_)
  refine pk_loop (fun n i s => wX_sum_16 post (nI t) (nI c) (nI c) fv fc cm a1 a2 a3 a4 a5 a6 a7 a8 a9 a10 n s (nI i)) (fun i s => s = if c < i then mv_vis a1 a2 a7 a8 a10 l t c else 0) 16 0 0 (by omega) rfl ?_ ?_
  · intro n s hs
    rw [if_pos hc] at hs
    refine pk_le 16 16 (fun _ => ?_) (fun z => absurd z (by omega))
    rw [hs]
    exact h1 z
  · intro n i s hi hs hw
    refine pk_le 16 i (fun z => absurd z (by omega)) (fun _ => pk_lt i c (fun z => nm_r (nI_1 i) (hw s ?_)) (fun z => pk_lt c i (fun z2 => nm_r (nI_1 i) (hw s ?_)) (fun z2 => ?_)))
    · rw [if_neg (by omega)] at hs
      rw [if_neg (by omega), hs]
    · rw [if_pos (by omega)] at hs
      rw [if_pos (by omega), hs]
    · have e : i = c := by omega
      subst e
      refine mv_visible ht hc hL hl (nm_e (nm_r (nI_1 i) (hw _ ?_)))
      rw [if_neg (by omega)] at hs
      rw [if_pos (by omega), hs, Int32.zero_add]
/-! may transaction t commit -/
def mv_bad (a2 a4 a7 : Nat → Int32) (x : Int32) (t c : Nat) : Prop := bt x c = true ∧ ¬ a4 c < 0 ∧ ¬ a2 (a4 c).toNatClampNeg ≤ a7 t
def mv_mx (a6 a8 a9 : Nat → Int32) (t : Nat) : Int32 := if a6 t = 0 then a8 t else a8 t ||| a9 t
def mv_may (a2 a4 a6 a7 a8 a9 : Nat → Int32) (t : Nat) : Prop := ∀ c, c < 16 → ¬ mv_bad a2 a4 a7 (mv_mx a6 a8 a9 t) t c
theorem mv_74_0 {post J : Int32 → Prop} {x1 x2 : Int32} {i : Nat} (h : J (nI (i + 1))) : wX_mayCommit_73 post J x1 x2 (nI i) fv fc cm a1 a2 a3 a4 a5 a6 a7 a8 a9 a10 :=
  br_c (fun _ => nm_r (nI_1 i) h) (fun _ => br_t rfl (nm_r (nI_1 i) h))
theorem mv_74_1 {post J : Int32 → Prop} {x1 x2 : Int32} {i : Nat} (hi : i < 16) (h : bt x2 i = false → J (nI (i + 1))) (h0 : bt x2 i = true → post 0) : wX_mayCommit_74 post J x1 x2 (nI i) 1 fv fc cm a1 a2 a3 a4 a5 a6 a7 a8 a9 a10 :=
  br_c (fun z => nm_r (nI_1 i) (h ((mv_bit _ (by omega)).mp z))) (fun z => br_f (by decide) (h0 (by cases hb : bt x2 i; exact absurd ((mv_bit _ (by omega)).mpr hb) z; rfl)))
theorem mv_head {x : Int32} {l : List Nat} (h : mv_L a3 x l) (hx : ¬ x < 0) : ∃ v r, l = v :: r ∧ v < 144 ∧ x = nI v := by
  cases l with
  | nil =>
    have e : x = -1 := h
    rw [e] at hx
    exact absurd (by decide) hx
  | cons v r => exact ⟨v, r, rfl, h.2.1, h.1⟩
theorem mv_may_loop {post : Int32 → Prop} {t : Nat} {x : Int32} (ht : t < 6) (hL : ∀ c, c < 16 → ∃ l, mv_L a3 (a4 c) l) (h1 : (∀ c, c < 16 → ¬ mv_bad a2 a4 a7 x t c) → post 1) (h0 : (¬ ∀ c, c < 16 → ¬ mv_bad a2 a4 a7 x t c) → post 0) : ∃ n, wX_mayCommit_34 post (nI t) x fv fc cm a1 a2 a3 a4 a5 a6 a7 a8 a9 a10 n 0 := by
  refine pk_loop (σ := Unit) (fun n i _ => wX_mayCommit_34 post (nI t) x fv fc cm a1 a2 a3 a4 a5 a6 a7 a8 a9 a10 n (nI i)) (fun i _ => ∀ c, c < i → ¬ mv_bad a2 a4 a7 x t c) 16 0 () (by omega) lt_0 ?_ ?_
  · intro n _ h
    exact pk_le 16 16 (fun _ => h1 h) (fun z => absurd z (by omega))
  · intro n i _ hi h hw
    have hw' : ¬ mv_bad a2 a4 a7 x t i → wX_mayCommit_34 post (nI t) x fv fc cm a1 a2 a3 a4 a5 a6 a7 a8 a9 a10 n (nI (i + 1)) := fun z => hw () (lt_s h z)
    refine pk_le 16 i (fun z => absurd z (by omega)) (fun _ => ⟨pk_in i 16 hi, ?_⟩)
    rw [nI_clamp (show i < 2 ^ 31 by omega), nI_clamp (show t < 2 ^ 31 by omega)]
    refine br_c (fun g => mv_74_0 (hw' (fun b => b.2.1 g))) (fun g => ⟨pk_in i 16 hi, ?_, pk_in t 6 ht, br_c (fun g2 => mv_74_0 (hw' (fun b => b.2.2 g2))) (fun g2 => mv_74_1 hi (fun g3 => hw' (fun b => ?_)) (fun g3 => h0 (fun k => k i hi ⟨g3, g, g2⟩)))⟩)
    · obtain ⟨l, hl⟩ := hL i hi
      obtain ⟨v, r, _, hv, e⟩ := mv_head hl g
      rw [e]
      exact vp_in_nI hv (by omega)
    · have := b.1
      rw [g3] at this
      cases this
theorem mv_mayCommit {post : Int32 → Prop} {t : Nat} (ht : t < 6) (hL : ∀ c, c < 16 → ∃ l, mv_L a3 (a4 c) l) (h1 : mv_may a2 a4 a6 a7 a8 a9 t → post 1) (h0 : ¬ mv_may a2 a4 a6 a7 a8 a9 t → post 0) : wpX_mayCommit post (fv, fc, cm, a1, a2, a3, a4, a5, a6, a7, a8, a9, a10) (nI t) := by
  refine ⟨pk_in t 6 ht, ?_⟩
  rw [nI_clamp (show t < 2 ^ 31 by omega)]
  unfold mv_may mv_mx at h1 h0
  by_cases g : a6 t = 0
  · rw [if_pos g] at h1 h0
    exact br_t g ⟨pk_in t 6 ht, nm_e (mv_may_loop ht hL h1 h0)⟩
  · rw [if_neg g] at h1 h0
    exact br_f g ⟨pk_in t 6 ht, pk_in t 6 ht, nm_e (mv_may_loop ht hL h1 h0)⟩
theorem mv_might {post : Int32 → Prop} {t : Nat} (ht : t < 6) (hL : ∀ c, c < 16 → ∃ l, mv_L a3 (a4 c) l) (hn : a5 t = 0 → post (-1)) (h1 : a5 t ≠ 0 → mv_may a2 a4 a6 a7 a8 a9 t → post 1) (h0 : a5 t ≠ 0 → ¬ mv_may a2 a4 a6 a7 a8 a9 t → post 0) : wpX_might post (fv, fc, cm, a1, a2, a3, a4, a5, a6, a7, a8, a9, a10) (nI t) := by
  unfold wpX_might
  refine mv_isOpen ht (fun z => br_t rfl (hn z)) (fun z => br_f (by decide) ?_)
  exact mv_mayCommit ht hL (fun m => br_f (by decide) (h1 z m)) (fun m => br_t rfl (h0 z m))
theorem mv_open {post : Int32 → Prop} (h0 : (∀ t, t < 6 → a5 t = 0) → post 0) (h1 : ∀ r, r ≠ 0 → post r) : wpX_open post (fv, fc, cm, a1, a2, a3, a4, a5, a6, a7, a8, a9, a10) := by
  refine pk_loop (fun n i s => wX_open_4 post fv fc cm a1 a2 a3 a4 a5 a6 a7 a8 a9 a10 n s (nI i)) (fun i s => ∃ k, k ≤ i ∧ s = nI k ∧ (k = 0 → ∀ t, t < i → a5 t = 0)) 6 0 0 (by omega) ⟨0, by omega, rfl, fun _ => lt_0⟩ ?_ ?_
  · intro n s hs
    obtain ⟨k, hk, e, ha⟩ := hs
    refine pk_le 6 6 (fun _ => ?_) (fun z => absurd z (by omega))
    by_cases k0 : k = 0
    · rw [e, k0]
      exact h0 (ha k0)
    · rw [e]
      exact h1 _ (nI_ne0 (by omega) (by omega))
  · intro n i s hi hs hw
    obtain ⟨k, hk, e, ha⟩ := hs
    refine pk_le 6 i (fun z => absurd z (by omega)) (fun _ => ⟨pk_in i 6 hi, ?_⟩)
    rw [nI_clamp (show i < 2 ^ 31 by omega)]
    refine br_c (fun g => nm_r (Int32.add_zero s) (nm_r (nI_1 i) (hw s ⟨k, by omega, e, fun z => lt_s (ha z) g⟩))) (fun g => nm_e (nm_r (nI_1 i) (hw _ ⟨k + 1, by omega, by rw [e, nI_1], fun z => absurd z (by omega)⟩)))
theorem mv_committed {post : Int32 → Prop} {c : Nat} {l : List Nat} (hc : c < 16) (hL : mv_L a3 (a4 c) l) (hl : l.length ≤ 143) (h : post (mv_V a1 a2 cm.toInt l)) : wpX_committed post (fv, fc, cm, a1, a2, a3, a4, a5, a6, a7, a8, a9, a10) (nI c) := by
  unfold wpX_committed
  exact mv_isCell hc (br_f (by decide) (mv_vat hc hL hl h))
theorem mv_isSeen {post : Int32 → Prop} {x1 x2 : Int32} (h1 : post 1) (h0 : (∀ t, t < 6 → a5 t ≠ 0 → x1.toInt ≤ (a7 t).toInt → x2.toInt ≤ (a7 t).toInt) → post 0) : wpX_isSeen post (fv, fc, cm, a1, a2, a3, a4, a5, a6, a7, a8, a9, a10) x1 x2 := by
  refine pk_loop (σ := Unit) (fun n i _ => wX_isSeen_2 post x1 x2 fv fc cm a1 a2 a3 a4 a5 a6 a7 a8 a9 a10 n (nI i)) (fun i _ => ∀ t, t < i → a5 t ≠ 0 → x1.toInt ≤ (a7 t).toInt → x2.toInt ≤ (a7 t).toInt) 6 0 () (by omega) lt_0 ?_ ?_
  · intro n _ h
    exact pk_le 6 6 (fun _ => h0 h) (fun z => absurd z (by omega))
  · intro n i _ hi h hw
    have hw' : (a5 i ≠ 0 → x1.toInt ≤ (a7 i).toInt → x2.toInt ≤ (a7 i).toInt) → wX_isSeen_2 post x1 x2 fv fc cm a1 a2 a3 a4 a5 a6 a7 a8 a9 a10 n (nI (i + 1)) := fun z => hw () (lt_s h z)
    refine pk_le 6 i (fun z => absurd z (by omega)) (fun _ => ⟨pk_in i 6 hi, ?_⟩)
    rw [nI_clamp (show i < 2 ^ 31 by omega)]
    refine br_c (fun g => nm_r (nI_1 i) (hw' (fun z => absurd g z))) (fun g => ⟨pk_in i 6 hi, br_c (fun g2 => nm_r (nI_1 i) (hw' (fun _ z => ?_))) (fun g2 => ⟨pk_in i 6 hi, br_c (fun g3 => nm_r (nI_1 i) (hw' (fun _ _ => Int32.le_iff_toInt_le.mp g3))) (fun g3 => h1)⟩)⟩)
    rw [Int32.lt_iff_toInt_lt] at g2
    omega
/-! the calls that store -/
theorem mv_note {post : St1 → Prop} {t c : Nat} (ht : t < 6) (h : ∀ b9, post (fv, fc, cm, a1, a2, a3, a4, a5, a6, a7, a8, b9, a10)) : wpX_note post (fv, fc, cm, a1, a2, a3, a4, a5, a6, a7, a8, a9, a10) (nI t) (nI c) :=
  ⟨pk_in t 6 ht, br_c (fun _ => ⟨pk_in t 6 ht, pk_in t 6 ht, nm_e (h _)⟩) (fun _ => h a9)⟩
theorem mv_read {post : Int32 → St1 → Prop} {t c : Nat} {l : List Nat} (ht : t < 6) (hc : c < 16) (hL : mv_L a3 (a4 c) l) (hl : l.length ≤ 143) (h0 : a5 t = 0 → post 0 (fv, fc, cm, a1, a2, a3, a4, a5, a6, a7, a8, a9, a10)) (h1 : a5 t ≠ 0 → ∀ b9, post (mv_vis a1 a2 a7 a8 a10 l t c) (fv, fc, cm, a1, a2, a3, a4, a5, a6, a7, a8, b9, a10)) : wpX_read post (fv, fc, cm, a1, a2, a3, a4, a5, a6, a7, a8, a9, a10) (nI t) (nI c) := by
  unfold wpX_read
  refine mv_isOpen ht (fun z => br_t rfl (h0 z)) (fun z => br_f (by decide) ?_)
  refine mv_isCell hc (br_f (by decide) ?_)
  exact mv_note ht (fun b9 => mv_visible ht hc hL hl (h1 z b9))
theorem mv_abort {post : Int32 → St1 → Prop} {t : Nat} (ht : t < 6) (h0 : a5 t = 0 → post (-1) (fv, fc, cm, a1, a2, a3, a4, a5, a6, a7, a8, a9, a10)) (h1 : a5 t ≠ 0 → post 0 (fv, fc, cm, a1, a2, a3, a4, upd a5 t 0, a6, a7, a8, a9, a10)) : wpX_abort post (fv, fc, cm, a1, a2, a3, a4, a5, a6, a7, a8, a9, a10) (nI t) := by
  unfold wpX_abort
  refine mv_isOpen ht (fun z => br_t rfl (h0 z)) (fun z => br_f (by decide) ?_)
  exact ⟨pk_in t 6 ht, nm_r (e' := upd a5 t 0) (by rw [nI_clamp (by omega)]) (h1 z)⟩
theorem mv_write {post : Int32 → St1 → Prop} {t c : Nat} {v : Int32} (ht : t < 6) (hc : c < 16) (h0 : a5 t = 0 → post (-1) (fv, fc, cm, a1, a2, a3, a4, a5, a6, a7, a8, a9, a10)) (h1 : a5 t ≠ 0 → post 0 (fv, fc, cm, a1, a2, a3, a4, a5, a6, a7, upd a8 t (a8 t ||| ((1 : Int32) <<< (nI c &&& 31))), a9, upd a10 (16 * t + c) v)) : wpX_write post (fv, fc, cm, a1, a2, a3, a4, a5, a6, a7, a8, a9, a10) (nI t) (nI c) v := by
  unfold wpX_write
  refine mv_isOpen ht (fun z => br_t rfl (h0 z)) (fun z => br_f (by decide) ?_)
  refine mv_isCell hc (br_f (by decide) ?_)
  rw [mv_ix, nI_clamp (show t < 2 ^ 31 by omega), nI_clamp (show 16 * t + c < 2 ^ 31 by omega)]
  exact ⟨vp_in_nI (by omega) (by omega), nm_e ⟨pk_in t 6 ht, pk_in t 6 ht, nm_e (h1 z)⟩⟩
theorem mv_begin {post : Int32 → St1 → Prop} {x : Int32} (h0 : post (-1) (fv, fc, cm, a1, a2, a3, a4, a5, a6, a7, a8, a9, a10)) (h1 : ∀ t, t < 6 → a5 t = 0 → ∀ b6 b9, post (nI t) (fv, fc, cm, a1, a2, a3, a4, upd a5 t 1, b6, upd a7 t cm, upd a8 t 0, b9, a10)) : wpX_begin post (fv, fc, cm, a1, a2, a3, a4, a5, a6, a7, a8, a9, a10) x := by
  refine pk_loop (σ := Unit) (fun n i _ => wX_begin_2 post x fv fc cm a1 a2 a3 a4 a5 a6 a7 a8 a9 a10 n (nI i)) (fun _ _ => True) 6 0 () (by omega) trivial ?_ ?_
  · intro n _ _
    exact pk_le 6 6 (fun _ => h0) (fun z => absurd z (by omega))
  · intro n i _ hi _ hw
    refine pk_le 6 i (fun z => absurd z (by omega)) (fun _ => ⟨pk_in i 6 hi, ?_⟩)
    rw [nI_clamp (show i < 2 ^ 31 by omega)]
    exact br_c (fun g => ⟨pk_in i 6 hi, nm_e ⟨pk_in i 6 hi, nm_e ⟨pk_in i 6 hi, nm_e ⟨pk_in i 6 hi, nm_e ⟨pk_in i 6 hi, nm_e (h1 i hi g _ _)⟩⟩⟩⟩⟩) (fun _ => nm_r (nI_1 i) (hw () trivial))
end
end
section
section
variable {fv fc cm : Int32} {a1 a2 a3 a4 a5 a6 a7 a8 a9 a10 : Nat → Int32}
/-- the moments that somebody may still look at: the present, and the beginnings of the open transactions -/
def mv_rel (cm : Int32) (a5 a7 : Nat → Int32) (m : Int) : Prop := m = cm.toInt ∨ ∃ t, t < 6 ∧ a5 t ≠ 0 ∧ m = (a7 t).toInt
theorem mv_prune_loop {post : St1 → Prop} {c n : Nat} (hc : c < 16) : ∀ (r p : List Nat) (k : Nat) (x4 : Int32) (s f : Nat) (fv fc : Int32) (a3 : Nat → Int32) (ow : Nat → Nat) (ch : Nat → List Nat) (fr : List Nat),
    ch c = p ++ k :: r → mv_I n cm.toInt ch fr ow fv a2 a3 a4 → s + r.length ≤ 143 → r.length < f →
    (∀ m, mv_rel cm a5 a7 m → m < (a2 k).toInt → m < x4.toInt) →
    (∀ (fv' fc' : Int32) (a3' : Nat → Int32) (ow' : Nat → Nat) (ch' : Nat → List Nat) (fr' : List Nat), mv_I n cm.toInt ch' fr' ow' fv' a2 a3' a4 → fr.length ≤ fr'.length →
      (∀ d, d < 16 → ∀ m, mv_rel cm a5 a7 m → mv_V a1 a2 m (ch' d) = mv_V a1 a2 m (ch d)) → post (fv', fc', cm, a1, a2, a3', a4, a5, a6, a7, a8, a9, a10)) →
    wX_prune_30 post cm f (nI k) (a3 k) x4 (nI s) fv fc a1 a2 a3 a4 a5 a6 a7 a8 a9 a10 := by
  intro r
  induction r with
  | nil =>
    intro p k x4 s f fv fc a3 ow ch fr e hI hs hf hr H
    simp only [List.length_nil] at hs hf
    cases f with
    | zero => exact absurd hf (by omega)
    | succ f =>
      have hc0 := (hI.1 c hc).1
      rw [e] at hc0
      have hx : a3 k = -1 := (mv_L_at hc0).2
      rw [hx]
      exact pk_le 144 s (fun z => absurd z (by omega)) (fun _ => br_t (by decide) (H fv fc a3 ow ch fr hI (Nat.le_refl _) (fun _ _ _ _ => rfl)))
  | cons v r ih =>
    intro p k x4 s f fv fc a3 ow ch fr e hI hs hf hr H
    simp only [List.length_cons] at hs hf
    cases f with
    | zero => exact absurd hf (by omega)
    | succ f =>
      have hc0 := hI.1 c hc
      rw [e] at hc0
      have hnd := mv_C_nodup hc0
      obtain ⟨hk, hx, hv, hL'⟩ := mv_L_at hc0.1
      have hkv : k ≠ v := fun z => (List.nodup_cons.mp (List.nodup_append.mp hnd).2.1).1 (by rw [z]; exact List.mem_cons_self)
      rw [hx]
      refine pk_le 144 s (fun z => absurd z (by omega)) (fun _ => pk_lt v 0 (fun z => absurd z (by omega)) (fun _ => ⟨pk_in v 144 hv, ?_⟩))
      rw [nI_clamp (show v < 2 ^ 31 by omega), nI_clamp (show k < 2 ^ 31 by omega)]
      refine nm_e ⟨pk_in v 144 hv, nm_e ?_⟩
      refine mv_isSeen ?_ (fun hns => ?_)
      · exact br_f (by decide) (nm_r (nI_1 s) (ih (p ++ [k]) v (a2 v) (s + 1) f fv fc a3 ow ch fr (by rw [e]; simp) hI (by omega) (by omega) (fun m _ z => z) H))
      · have hr' : ∀ m, mv_rel cm a5 a7 m → m < (a2 k).toInt → m < (a2 v).toInt := by
          intro m hm z
          have z2 := hr m hm z
          rcases hm with e1 | ⟨t, ht, h5, e1⟩
          · have := (hc0.2.1 k (by simp)).2
            omega
          · by_cases q : (a2 v).toInt ≤ (a7 t).toInt
            · have := hns t ht h5 q
              omega
            · omega
        have ih' := ih p k (a2 v) (s + 1) f (nI v) (fc + 1) (upd (upd a3 k (a3 v)) v fv) (mv_up ow v 16) (mv_up ch c (p ++ k :: r)) (v :: fr) mv_us (mv_I_rm hc hI e) (by omega) (by omega) hr'
          (fun fv' fc' a3' ow' ch' fr' hI2 hl hV => H fv' fc' a3' ow' ch' fr' hI2 (by simp only [List.length_cons] at hl; omega) (fun d hd m hm => by
            rw [hV d hd m hm]
            by_cases ed : d = c
            · rw [ed, mv_us, e]
              exact mv_V_rm (hr' m hm) p
            · rw [mv_un ed]))
        have hak : upd (upd a3 k (a3 v)) v fv k = a3 v := by rw [pk_un hkv, pk_us]
        rw [hak] at ih'
        exact br_t rfl ⟨pk_in k 144 hk, nm_e ⟨pk_in v 144 hv, nm_e (nm_e (nm_r (nI_1 s) ih'))⟩⟩
theorem mv_prune {post : St1 → Prop} {c n : Nat} {ow : Nat → Nat} {ch : Nat → List Nat} {fr : List Nat} (hc : c < 16) (hn : n ≤ 143) (hI : mv_I n cm.toInt ch fr ow fv a2 a3 a4)
    (H : ∀ (fv' fc' : Int32) (a3' : Nat → Int32) (ow' : Nat → Nat) (ch' : Nat → List Nat) (fr' : List Nat), mv_I n cm.toInt ch' fr' ow' fv' a2 a3' a4 → fr.length ≤ fr'.length →
      (∀ d, d < 16 → ∀ m, mv_rel cm a5 a7 m → mv_V a1 a2 m (ch' d) = mv_V a1 a2 m (ch d)) → post (fv', fc', cm, a1, a2, a3', a4, a5, a6, a7, a8, a9, a10)) :
    wpX_prune post (fv, fc, cm, a1, a2, a3, a4, a5, a6, a7, a8, a9, a10) (nI c) := by
  refine ⟨pk_in c 16 hc, ?_⟩
  rw [nI_clamp (show c < 2 ^ 31 by omega)]
  refine nm_e ?_
  have hC := hI.1 c hc
  cases hl : ch c with
  | nil =>
    rw [hl] at hC
    have hx : a4 c = -1 := hC.1
    exact br_f (by rw [hx]; decide) (H fv fc a3 ow ch fr hI (Nat.le_refl _) (fun _ _ _ _ => rfl))
  | cons k r =>
    rw [hl] at hC
    obtain ⟨⟨hx, hk, hL⟩, h2, h3, h4⟩ := hC
    simp only [List.length_cons] at h4
    rw [hx]
    refine br_t (nI_pos' (by omega)) ⟨pk_in k 144 hk, ?_⟩
    rw [nI_clamp (show k < 2 ^ 31 by omega)]
    exact nm_e ⟨pk_in k 144 hk, nm_e ⟨r.length + 1, mv_prune_loop hc r [] k (a2 k) 0 _ fv fc a3 ow ch fr hl hI (by omega) (by omega) (fun m _ z => z) H⟩⟩
theorem mv_tidy_loop {post : St1 → Prop} {n : Nat} (hn : n ≤ 143) : ∀ (j i f : Nat) (fv fc : Int32) (a3 : Nat → Int32) (ow : Nat → Nat) (ch : Nat → List Nat) (fr : List Nat), i + j = 16 → j < f → mv_I n cm.toInt ch fr ow fv a2 a3 a4 →
    (∀ (fv' fc' : Int32) (a3' : Nat → Int32) (ow' : Nat → Nat) (ch' : Nat → List Nat) (fr' : List Nat), mv_I n cm.toInt ch' fr' ow' fv' a2 a3' a4 → fr.length ≤ fr'.length →
      (∀ d, d < 16 → ∀ m, mv_rel cm a5 a7 m → mv_V a1 a2 m (ch' d) = mv_V a1 a2 m (ch d)) → post (fv', fc', cm, a1, a2, a3', a4, a5, a6, a7, a8, a9, a10)) →
    wX_tidy_2 post f (nI i) fv fc cm a1 a2 a3 a4 a5 a6 a7 a8 a9 a10 := by
  intro j
  induction j with
  | zero =>
    intro i f fv fc a3 ow ch fr hi hf hI H
    cases f with
    | zero => exact absurd hf (by omega)
    | succ f => exact pk_le 16 i (fun _ => H fv fc a3 ow ch fr hI (Nat.le_refl _) (fun _ _ _ _ => rfl)) (fun z => absurd z (by omega))
  | succ j ih =>
    intro i f fv fc a3 ow ch fr hi hf hI H
    cases f with
    | zero => exact absurd hf (by omega)
    | succ f =>
      refine pk_le 16 i (fun z => absurd z (by omega)) (fun _ => ?_)
      refine mv_prune (by omega) hn hI (fun fv' fc' a3' ow' ch' fr' hI' hl hV => ?_)
      exact nm_r (nI_1 i) (ih (i + 1) f fv' fc' a3' ow' ch' fr' (by omega) (by omega) hI' (fun fv2 fc2 a32 ow2 ch2 fr2 hI2 hl2 hV2 => H fv2 fc2 a32 ow2 ch2 fr2 hI2 (by omega) (fun d hd m hm => by rw [hV2 d hd m hm, hV d hd m hm])))
theorem mv_tidy {post : St1 → Prop} {n : Nat} {ow : Nat → Nat} {ch : Nat → List Nat} {fr : List Nat} (hn : n ≤ 143) (hI : mv_I n cm.toInt ch fr ow fv a2 a3 a4)
    (H : ∀ (fv' fc' : Int32) (a3' : Nat → Int32) (ow' : Nat → Nat) (ch' : Nat → List Nat) (fr' : List Nat), mv_I n cm.toInt ch' fr' ow' fv' a2 a3' a4 → fr.length ≤ fr'.length →
      (∀ d, d < 16 → ∀ m, mv_rel cm a5 a7 m → mv_V a1 a2 m (ch' d) = mv_V a1 a2 m (ch d)) → post (fv', fc', cm, a1, a2, a3', a4, a5, a6, a7, a8, a9, a10)) :
    wpX_tidy post (fv, fc, cm, a1, a2, a3, a4, a5, a6, a7, a8, a9, a10) := ⟨17, mv_tidy_loop hn 16 0 17 fv fc a3 ow ch fr (by omega) (by omega) hI H⟩
end
end
section
section
variable {fv fc cm : Int32} {a1 a2 a3 a4 a5 a6 a7 a8 a9 a10 : Nat → Int32}
theorem mv_s_w (x : Int32) : ∀ i, mv_s (mv_w x) i ≤ i
  | 0 => Nat.le_refl 0
  | i + 1 => by
    have h : mv_w x i ≤ 1 := by unfold mv_w; split <;> omega
    have := mv_s_w x i
    show mv_s (mv_w x) i + mv_w x i ≤ i + 1
    omega
theorem mv_s_s (f : Nat → Nat) (i : Nat) : mv_s f (i + 1) = mv_s f i + f i := rfl
theorem mv_inst_loop {post : St1 → Prop} {t n N : Nat} {C : Int} {y : Int32} (O : Nat → Int → Int32) (ht : t < 6) (hy : y.toInt = C + 1) (hN : 16 ≤ N)
    (H : ∀ (fv' fc' : Int32) (a1' a2' a3' a4' : Nat → Int32) (ow' : Nat → Nat) (ch' : Nat → List Nat) (fr' : List Nat), mv_I (n + 1) (C + 1) ch' fr' ow' fv' a2' a3' a4' → fr'.length + mv_pc (a8 t) = N →
      (∀ d, d < 16 → ∀ m, m ≤ C → mv_V a1' a2' m (ch' d) = O d m) → (∀ d, d < 16 → mv_V a1' a2' (C + 1) (ch' d) = if bt (a8 t) d = true then a10 (16 * t + d) else O d C) →
      post (fv', fc', y, a1', a2', a3', a4', a5, a6, a7, a8, a9, a10)) :
    ∀ (j i f : Nat) (fv fc : Int32) (a1 a2 a3 a4 : Nat → Int32) (ow : Nat → Nat) (ch : Nat → List Nat) (fr : List Nat), i + j = 16 → j < f →
    (∀ d, d < 16 → mv_C (if d < i then n + 1 else n) (if d < i then C + 1 else C) ow a2 a3 (a4 d) d (ch d)) → mv_F ow a3 fv fr → fr.length + mv_s (mv_w (a8 t)) i = N →
    (∀ d, d < 16 → ∀ m, m ≤ C → mv_V a1 a2 m (ch d) = O d m) →
    (∀ d, d < i → mv_V a1 a2 (C + 1) (ch d) = if bt (a8 t) d = true then a10 (16 * t + d) else O d C) →
    wX_install_25 post (nI t) y f (nI i) fv fc a1 a2 a3 a4 a5 a6 a7 a8 a9 a10 := by
  intro j
  induction j with
  | zero =>
    intro i f fv fc a1 a2 a3 a4 ow ch fr hi hf hC hF hL hV hV2
    have e : i = 16 := by omega
    subst e
    cases f with
    | zero => exact absurd hf (by omega)
    | succ f =>
      refine pk_le 16 16 (fun _ => ?_) (fun z => absurd z (by omega))
      refine H fv fc a1 a2 a3 a4 ow ch fr ⟨fun d hd => ?_, hF⟩ hL hV hV2
      have h := hC d hd
      rw [if_pos hd, if_pos hd] at h
      exact h
  | succ j ih =>
    intro i f fv fc a1 a2 a3 a4 ow ch fr hi hf hC hF hL hV hV2
    have hi16 : i < 16 := by omega
    have hCi := hC i hi16
    rw [if_neg (by omega), if_neg (by omega)] at hCi
    cases f with
    | zero => exact absurd hf (by omega)
    | succ f =>
      refine pk_le 16 i (fun z => absurd z (by omega)) (fun _ => ⟨pk_in t 6 ht, ?_⟩)
      rw [nI_clamp (show t < 2 ^ 31 by omega), nI_clamp (show i < 2 ^ 31 by omega), mv_ix, nI_clamp (show 16 * t + i < 2 ^ 31 by omega)]
      cases hb : bt (a8 t) i with
      | false =>
        refine br_t ((mv_bit _ (by omega)).mpr hb) (nm_r (nI_1 i) (ih (i + 1) f fv fc a1 a2 a3 a4 ow ch fr (by omega) (by omega) ?_ hF ?_ hV (lt_s hV2 ?_)))
        · intro d hd
          by_cases e : d = i
          · subst e
            rw [if_pos (by omega), if_pos (by omega)]
            exact mv_C_congr (by omega) (by omega) (fun _ _ => ⟨rfl, rfl, rfl⟩) hCi
          · have h := hC d hd
            by_cases e2 : d < i
            · rw [if_pos e2, if_pos e2] at h
              rw [if_pos (by omega), if_pos (by omega)]
              exact h
            · rw [if_neg e2, if_neg e2] at h
              rw [if_neg (by omega), if_neg (by omega)]
              exact h
        · have : mv_w (a8 t) i = 0 := by unfold mv_w; rw [hb]; rfl
          rw [mv_s_s]
          omega
        · rw [hb, if_neg (by decide), mv_V_up (fun v hv => (hCi.2.1 v hv).2) (by omega), hV i hi16 C (Int.le_refl C)]
      | true =>
        have hw : mv_w (a8 t) i = 1 := by unfold mv_w; rw [hb]; rfl
        cases fr with
        | nil =>
          have := mv_s_w (a8 t) i
          simp only [List.length_nil] at hL
          exact absurd hL (by omega)
        | cons v fr =>
          simp only [List.length_cons] at hL
          have hfv : fv = nI v := hF.1.1
          have hv : v < 144 := hF.1.2.1
          have ov : ow v = 16 := hF.2.1 v List.mem_cons_self
          obtain ⟨hA, hA2⟩ := mv_I_add hi16 hCi hF hy
          have hne : ∀ d, d < 16 → ∀ w ∈ ch d, w ≠ v := fun d hd w hw' z => by
            have := ((hC d hd).2.1 w hw').1
            rw [z, ov] at this
            omega
          rw [hfv, nI_clamp (show v < 2 ^ 31 by omega)]
          refine br_f (fun z => by rw [(mv_bit _ (by omega)).mp z] at hb; cases hb) ⟨pk_in v 144 hv, nm_e (nm_e ⟨vp_in_nI (by omega) (by omega), pk_in v 144 hv, nm_e ⟨pk_in v 144 hv, nm_e ⟨pk_in i 16 hi16, pk_in v 144 hv, nm_e ⟨pk_in i 16 hi16, nm_e (nm_r (nI_1 i) ?_)⟩⟩⟩⟩)⟩
          refine ih (i + 1) f _ _ _ _ _ _ (mv_up ow v i) (mv_up ch i (v :: ch i)) fr (by omega) (by omega) ?_ hA2 ?_ ?_ (lt_s (fun d hd => ?_) ?_)
          · intro d hd
            by_cases e : d = i
            · subst e
              rw [mv_us, pk_us, if_pos (by omega), if_pos (by omega)]
              exact hA
            · rw [mv_un e, pk_un e]
              have h := hC d hd
              have hc2 : ∀ w ∈ ch d, mv_up ow v i w = ow w ∧ upd a2 v y w = a2 w ∧ upd a3 v (a4 i) w = a3 w := fun w hw' => ⟨mv_un (hne d hd w hw'), pk_un (hne d hd w hw'), pk_un (hne d hd w hw')⟩
              by_cases e2 : d < i
              · rw [if_pos e2, if_pos e2] at h
                rw [if_pos (by omega), if_pos (by omega)]
                exact mv_C_congr (Nat.le_refl _) (Int.le_refl _) hc2 h
              · rw [if_neg e2, if_neg e2] at h
                rw [if_neg (by omega), if_neg (by omega)]
                exact mv_C_congr (Nat.le_refl _) (Int.le_refl _) hc2 h
          · rw [mv_s_s]
            omega
          · intro d hd m hm
            rw [← hV d hd m hm]
            by_cases e : d = i
            · subst e
              rw [mv_us]
              show (if (upd a2 v y v).toInt ≤ m then _ else mv_V _ _ m (ch d)) = _
              rw [pk_us, if_neg (by omega)]
              exact mv_V_congr (fun w hw' => ⟨pk_un (hne d hd w hw'), pk_un (hne d hd w hw')⟩)
            · rw [mv_un e]
              exact mv_V_congr (fun w hw' => ⟨pk_un (hne d hd w hw'), pk_un (hne d hd w hw')⟩)
          · rw [← hV2 d hd, mv_un (by omega)]
            exact mv_V_congr (fun w hw' => ⟨pk_un (hne d (by omega) w hw'), pk_un (hne d (by omega) w hw')⟩)
          · rw [hb, if_pos rfl, mv_us]
            show (if (upd a2 v y v).toInt ≤ C + 1 then upd a1 v (a10 (16 * t + i)) v else mv_V _ _ (C + 1) (ch i)) = _
            rw [pk_us, pk_us, if_pos (by omega)]
/-- what a commit leaves: the new picture, and what is seen through it -/
def mv_E (n t : Nat) (cm : Int32) (a1 a2 a5 a7 a8 a10 : Nat → Int32) (ch : Nat → List Nat) (fr : List Nat) (fv' cm' : Int32) (a1' a2' a3' a4' : Nat → Int32) (ow' : Nat → Nat) (ch' : Nat → List Nat) (fr' : List Nat) : Prop :=
  (∃ k, k ≤ n + 1 ∧ cm' = nI k) ∧ cm.toInt ≤ cm'.toInt ∧ mv_I (n + 1) cm'.toInt ch' fr' ow' fv' a2' a3' a4' ∧ fr.length ≤ fr'.length + mv_pc (a8 t) ∧
  (∀ d, d < 16 → ∀ s, s < 6 → a5 s ≠ 0 → mv_V a1' a2' (a7 s).toInt (ch' d) = mv_V a1 a2 (a7 s).toInt (ch d)) ∧
  (∀ d, d < 16 → mv_V a1' a2' cm'.toInt (ch' d) = if bt (a8 t) d = true then a10 (16 * t + d) else mv_V a1 a2 cm.toInt (ch d))
theorem mv_inst13 {post : St1 → Prop} {t n : Nat} {ow : Nat → Nat} {ch : Nat → List Nat} {fr : List Nat} (ht : t < 6) (hn : n ≤ 100) (hcm : ∃ k, k ≤ n ∧ cm = nI k) (hI : mv_I n cm.toInt ch fr ow fv a2 a3 a4) (hfr : 16 ≤ fr.length)
    (h7 : ∀ s, s < 6 → a5 s ≠ 0 → (a7 s).toInt ≤ cm.toInt)
    (H : ∀ (fv' fc' cm' : Int32) (a1' a2' a3' a4' : Nat → Int32) (ow' : Nat → Nat) (ch' : Nat → List Nat) (fr' : List Nat), mv_E n t cm a1 a2 a5 a7 a8 a10 ch fr fv' cm' a1' a2' a3' a4' ow' ch' fr' →
      post (fv', fc', cm', a1', a2', a3', a4', a5, a6, a7, a8, a9, a10)) :
    wX_install_13 post (nI t) fv fc cm a1 a2 a3 a4 a5 a6 a7 a8 a9 a10 := by
  obtain ⟨k, hk, ek⟩ := hcm
  have ey : cm + 1 = nI (k + 1) := by rw [ek, nI_1]
  have eC : cm.toInt = (k : Int) := by rw [ek, nI_toInt (by omega)]
  have eY : (nI (k + 1)).toInt = cm.toInt + 1 := by rw [nI_toInt (by omega), eC]; omega
  refine nm_r ey ⟨17, mv_inst_loop (n := n) (N := fr.length) (C := cm.toInt) (fun d m => mv_V a1 a2 m (ch d)) ht eY hfr ?_ 16 0 17 fv fc a1 a2 a3 a4 ow ch fr (by omega) (by omega) ?_ hI.2 rfl (fun _ _ _ _ => rfl) lt_0⟩
  · intro fv' fc' a1' a2' a3' a4' ow' ch' fr' hI' hl hV hV2
    refine H fv' fc' (nI (k + 1)) a1' a2' a3' a4' ow' ch' fr' ⟨⟨k + 1, by omega, rfl⟩, by omega, ?_, by omega, fun d hd s hs h5 => hV d hd _ (h7 s hs h5), fun d hd => ?_⟩
    · rw [eY]; exact hI'
    · rw [eY]; exact hV2 d hd
  · intro d hd
    rw [if_neg (by omega), if_neg (by omega)]
    exact hI.1 d hd
theorem mv_install {post : St1 → Prop} {t n : Nat} {ow : Nat → Nat} {ch : Nat → List Nat} {fr : List Nat} (ht : t < 6) (hn : n ≤ 100) (hcm : ∃ k, k ≤ n ∧ cm = nI k) (hI : mv_I n cm.toInt ch fr ow fv a2 a3 a4) (hfr : 16 ≤ fr.length)
    (h7 : ∀ s, s < 6 → a5 s ≠ 0 → (a7 s).toInt ≤ cm.toInt)
    (H : ∀ (fv' fc' cm' : Int32) (a1' a2' a3' a4' : Nat → Int32) (ow' : Nat → Nat) (ch' : Nat → List Nat) (fr' : List Nat), mv_E n t cm a1 a2 a5 a7 a8 a10 ch fr fv' cm' a1' a2' a3' a4' ow' ch' fr' →
      post (fv', fc', cm', a1', a2', a3', a4', a5, a6, a7, a8, a9, a10)) :
    wpX_install post (fv, fc, cm, a1, a2, a3, a4, a5, a6, a7, a8, a9, a10) (nI t) := by
  refine br_c (fun _ => mv_inst13 ht hn hcm hI hfr h7 H) (fun _ => ?_)
  refine mv_tidy (by omega) hI (fun fv2 fc2 a32 ow2 ch2 fr2 hI2 hl2 hV2 => ?_)
  refine mv_inst13 ht hn hcm hI2 (by omega) h7 (fun fv' fc' cm' a1' a2' a3' a4' ow' ch' fr' hE => H fv' fc' cm' a1' a2' a3' a4' ow' ch' fr' ?_)
  obtain ⟨e1, e2, e3, e4, e5, e6⟩ := hE
  refine ⟨e1, e2, e3, by omega, fun d hd s hs h5 => ?_, fun d hd => ?_⟩
  · rw [e5 d hd s hs h5, hV2 d hd _ (Or.inr ⟨s, hs, h5, rfl⟩)]
  · rw [e6 d hd, hV2 d hd _ (Or.inl rfl)]
theorem mv_commit {post : Int32 → St1 → Prop} {t n : Nat} {ow : Nat → Nat} {ch : Nat → List Nat} {fr : List Nat} (ht : t < 6) (hn : n ≤ 100) (hcm : ∃ k, k ≤ n ∧ cm = nI k) (hI : mv_I n cm.toInt ch fr ow fv a2 a3 a4) (hfr : 16 ≤ fr.length)
    (h7 : ∀ s, s < 6 → a5 s ≠ 0 → (a7 s).toInt ≤ cm.toInt)
    (h0 : a5 t = 0 → post (-1) (fv, fc, cm, a1, a2, a3, a4, a5, a6, a7, a8, a9, a10)) (h1 : a5 t ≠ 0 → ¬ mv_may a2 a4 a6 a7 a8 a9 t → post 1 (fv, fc, cm, a1, a2, a3, a4, upd a5 t 0, a6, a7, a8, a9, a10))
    (H : a5 t ≠ 0 → mv_may a2 a4 a6 a7 a8 a9 t → ∀ (fv' fc' cm' : Int32) (a1' a2' a3' a4' : Nat → Int32) (ow' : Nat → Nat) (ch' : Nat → List Nat) (fr' : List Nat), mv_E n t cm a1 a2 (upd a5 t 0) a7 a8 a10 ch fr fv' cm' a1' a2' a3' a4' ow' ch' fr' →
      post 0 (fv', fc', cm', a1', a2', a3', a4', upd a5 t 0, a6, a7, a8, a9, a10)) :
    wpX_commit post (fv, fc, cm, a1, a2, a3, a4, a5, a6, a7, a8, a9, a10) (nI t) := by
  have h7' : ∀ s, s < 6 → upd a5 t 0 s ≠ 0 → (a7 s).toInt ≤ cm.toInt := by
    intro s hs h5
    by_cases e : s = t
    · rw [e, pk_us] at h5
      exact absurd rfl h5
    · rw [pk_un e] at h5
      exact h7 s hs h5
  unfold wpX_commit
  refine mv_isOpen ht (fun z => br_t rfl (h0 z)) (fun z => br_f (by decide) ?_)
  refine mv_mayCommit ht (fun c hc => ⟨_, (hI.1 c hc).1⟩) (fun m => ⟨pk_in t 6 ht, ?_⟩) (fun m => ⟨pk_in t 6 ht, ?_⟩)
  · rw [nI_clamp (show t < 2 ^ 31 by omega)]
    refine nm_e (br_f (by decide) ⟨pk_in t 6 ht, br_c (fun g => ?_) (fun g => ?_)⟩)
    · obtain ⟨k, hk, ek⟩ := hcm
      refine H z m fv fc cm a1 a2 a3 a4 ow ch fr ⟨⟨k, by omega, ek⟩, Int.le_refl _, mv_I_mono (by omega) hI, by omega, fun _ _ _ _ _ => rfl, fun d _ => ?_⟩
      rw [g, b_0, if_neg (by decide)]
    · exact mv_install ht hn hcm hI hfr h7' (H z m)
  · rw [nI_clamp (show t < 2 ^ 31 by omega)]
    exact nm_e (br_t rfl (h1 z m))
end
end
section
section
variable {fv fc cm : Int32} {a1 a2 a3 a4 a5 a6 a7 a8 a9 a10 : Nat → Int32}
/-- the law's weighted sum -/
def mv_z (f : Nat → Int32) : Nat → Int32
  | 0 => 0
  | i + 1 => mv_z f i + (nI i + 1) * f i
theorem mv_z_eq {f g : Nat → Int32} : ∀ n, (∀ i, i < n → f i = g i) → mv_z f n = mv_z g n
  | 0, _ => rfl
  | n + 1, h => by
    show mv_z f n + (nI n + 1) * f n = mv_z g n + (nI n + 1) * g n
    rw [mv_z_eq n (fun i hi => h i (by omega)), h n (by omega)]
theorem mv_155 {post : Int32 → St1 → Prop} {x5 x6 x7 x8 : Int32} {ch : Nat → List Nat} (hC : ∀ c, c < 16 → mv_L a3 (a4 c) (ch c) ∧ (ch c).length ≤ 143)
    (h0 : x8 = 0 → mv_z (fun c => mv_V a1 a2 cm.toInt (ch c)) 16 = x5 + x6) (h1 : x8 ≠ 0 → mv_z (fun c => mv_V a1 a2 cm.toInt (ch c)) 16 = x7) (hp : post 1 (fv, fc, cm, a1, a2, a3, a4, a5, a6, a7, a8, a9, a10)) :
    ∃ n, wL_committed_155 post x5 x6 x7 x8 fv fc cm a1 a2 a3 a4 a5 a6 a7 a8 a9 a10 n 0 0 := by
  refine pk_loop (fun n i s => wL_committed_155 post x5 x6 x7 x8 fv fc cm a1 a2 a3 a4 a5 a6 a7 a8 a9 a10 n s (nI i)) (fun i s => s = mv_z (fun c => mv_V a1 a2 cm.toInt (ch c)) i) 16 0 0 (by omega) rfl ?_ ?_
  · intro n s hs
    refine pk_le 16 16 (fun _ => ?_) (fun z => absurd z (by omega))
    exact br_c (fun g => br_t (by rw [hs]; exact h0 g) hp) (fun g => br_t (by rw [hs]; exact h1 g) hp)
  · intro n i s hi hs hw
    refine pk_le 16 i (fun z => absurd z (by omega)) (fun _ => ?_)
    exact mv_committed hi (hC i hi).1 (hC i hi).2 (nm_e (nm_r (nI_1 i) (hw _ (by rw [hs]; rfl))))
theorem mv_134 {post : Int32 → St1 → Prop} {x3 x5 x6 x7 x8 z0 z1 : Int32} (hz : z1 = z0) (hx : x3 = 0 ∨ ¬ x8 = 1) (h : ∃ n, wL_committed_155 post x5 x6 x7 x8 fv fc cm a1 a2 a3 a4 a5 a6 a7 a8 a9 a10 n 0 0) : wL_committed_134 post x3 x5 x6 x7 x8 z0 z1 fv fc cm a1 a2 a3 a4 a5 a6 a7 a8 a9 a10 := by
  refine br_t hz (br_c (fun _ => h) (fun g => br_f ?_ h))
  rcases hx with e | e
  · exact absurd e g
  · exact e
/-- the cells as the law adds them up ahead of the commit -/
def mv_mix (a1 a2 a5 a7 a8 a10 : Nat → Int32) (cm w : Int32) (ch : Nat → List Nat) (t c : Nat) : Int32 :=
  if bt w c = true then (if a5 t = 0 then 0 else mv_vis a1 a2 a7 a8 a10 (ch c) t c) else mv_V a1 a2 cm.toInt (ch c)
section
variable {post : Int32 → St1 → Prop} {t n : Nat} {w al : Int32} {ow : Nat → Nat} {ch : Nat → List Nat} {fr : List Nat}
theorem mv_lc_end {x4 x5 x6 x7 : Int32} (ht : t < 6) (hn : n ≤ 100) (hcm : ∃ k, k ≤ n ∧ cm = nI k) (hI : mv_I n cm.toInt ch fr ow fv a2 a3 a4) (hfr : 16 ≤ fr.length)
    (h7 : ∀ s, s < 6 → a5 s ≠ 0 → (a7 s).toInt ≤ cm.toInt)
    (hw : a5 t ≠ 0 → ∀ c, c < 16 → bt w c = bt (a8 t) c) (hal : al ≠ 0 → a5 t ≠ 0 → mv_may a2 a4 a6 a7 a8 a9 t)
    (h0 : a5 t = 0 → post 1 (fv, fc, cm, a1, a2, a3, a4, a5, a6, a7, a8, a9, a10)) (h1 : a5 t ≠ 0 → ¬ mv_may a2 a4 a6 a7 a8 a9 t → post 1 (fv, fc, cm, a1, a2, a3, a4, upd a5 t 0, a6, a7, a8, a9, a10))
    (H : a5 t ≠ 0 → mv_may a2 a4 a6 a7 a8 a9 t → ∀ (fv' fc' cm' : Int32) (a1' a2' a3' a4' : Nat → Int32) (ow' : Nat → Nat) (ch' : Nat → List Nat) (fr' : List Nat), mv_E n t cm a1 a2 (upd a5 t 0) a7 a8 a10 ch fr fv' cm' a1' a2' a3' a4' ow' ch' fr' →
      post 1 (fv', fc', cm', a1', a2', a3', a4', upd a5 t 0, a6, a7, a8, a9, a10))
    (m0 : a5 t = 0 → x4 = -1) (m1 : a5 t ≠ 0 → mv_may a2 a4 a6 a7 a8 a9 t → x4 = 1) (m2 : a5 t ≠ 0 → ¬ mv_may a2 a4 a6 a7 a8 a9 t → x4 = 0)
    (hx : x5 + x6 = mv_z (mv_mix a1 a2 a5 a7 a8 a10 cm w ch t) 16) (hx7 : x7 = mv_z (fun c => mv_V a1 a2 cm.toInt (ch c)) 16) :
    ∀ f, wL_committed_82 post (nI t) al x4 x5 x6 fv fc cm a1 a2 a3 a4 a5 a6 a7 a8 a9 a10 (f + 1) x7 (nI 16) := by
  intro f
  have hC : ∀ c, c < 16 → mv_L a3 (a4 c) (ch c) ∧ (ch c).length ≤ 143 := fun c hc => ⟨(hI.1 c hc).1, by have := (hI.1 c hc).2.2.2; omega⟩
  refine pk_le 16 16 (fun _ => ?_) (fun z => absurd z (by omega))
  refine mv_commit ht hn hcm hI hfr h7 (fun z => ?_) (fun z m => ?_) (fun z m fv' fc' cm' a1' a2' a3' a4' ow' ch' fr' hE => ?_)
  · exact br_t (m0 z) (mv_134 rfl (Or.inr (by decide)) (mv_155 hC (fun g => absurd g (by decide)) (fun _ => hx7.symm) (h0 z)))
  · have ex := m2 z m
    refine br_f (by rw [ex]; decide) (mv_134 (by rw [ex]; decide) (Or.inl ?_) (mv_155 hC (fun g => absurd g (by decide)) (fun _ => hx7.symm) (h1 z m)))
    by_cases g : al = 0
    · exact g
    · exact absurd (hal g z) m
  · have ex := m1 z m
    have hE' := hE
    obtain ⟨e1, e2, e3, e4, e5, e6⟩ := hE'
    have hC' : ∀ c, c < 16 → mv_L a3' (a4' c) (ch' c) ∧ (ch' c).length ≤ 143 := fun c hc => ⟨(e3.1 c hc).1, by have := (e3.1 c hc).2.2.2; omega⟩
    refine br_f (by rw [ex]; decide) (mv_134 (by rw [ex]; decide) (Or.inr (by decide)) (mv_155 hC' (fun _ => ?_) (fun g => absurd rfl g) (H z m fv' fc' cm' a1' a2' a3' a4' ow' ch' fr' hE)))
    rw [hx]
    refine mv_z_eq 16 (fun c hc => ?_)
    rw [e6 c hc]
    unfold mv_mix
    rw [hw z c hc]
    by_cases hb : bt (a8 t) c = true
    · rw [if_pos hb, if_pos hb, if_neg z, mv_vis_t hb]
    · rw [if_neg hb, if_neg hb]
theorem mv_lc (ht : t < 6) (hn : n ≤ 100) (hcm : ∃ k, k ≤ n ∧ cm = nI k) (hI : mv_I n cm.toInt ch fr ow fv a2 a3 a4) (hfr : 16 ≤ fr.length)
    (h7 : ∀ s, s < 6 → a5 s ≠ 0 → (a7 s).toInt ≤ cm.toInt)
    (hw : a5 t ≠ 0 → ∀ c, c < 16 → bt w c = bt (a8 t) c) (hal : al ≠ 0 → a5 t ≠ 0 → mv_may a2 a4 a6 a7 a8 a9 t)
    (h0 : a5 t = 0 → post 1 (fv, fc, cm, a1, a2, a3, a4, a5, a6, a7, a8, a9, a10)) (h1 : a5 t ≠ 0 → ¬ mv_may a2 a4 a6 a7 a8 a9 t → post 1 (fv, fc, cm, a1, a2, a3, a4, upd a5 t 0, a6, a7, a8, a9, a10))
    (H : a5 t ≠ 0 → mv_may a2 a4 a6 a7 a8 a9 t → ∀ (fv' fc' cm' : Int32) (a1' a2' a3' a4' : Nat → Int32) (ow' : Nat → Nat) (ch' : Nat → List Nat) (fr' : List Nat), mv_E n t cm a1 a2 (upd a5 t 0) a7 a8 a10 ch fr fv' cm' a1' a2' a3' a4' ow' ch' fr' →
      post 1 (fv', fc', cm', a1', a2', a3', a4', upd a5 t 0, a6, a7, a8, a9, a10)) :
    wpL_committed post (fv, fc, cm, a1, a2, a3, a4, a5, a6, a7, a8, a9, a10) (nI t) w al := by
  have hC : ∀ c, c < 16 → mv_L a3 (a4 c) (ch c) ∧ (ch c).length ≤ 143 := fun c hc => ⟨(hI.1 c hc).1, by have := (hI.1 c hc).2.2.2; omega⟩
  have main : ∀ x4 : Int32, (a5 t = 0 → x4 = -1) → (a5 t ≠ 0 → mv_may a2 a4 a6 a7 a8 a9 t → x4 = 1) → (a5 t ≠ 0 → ¬ mv_may a2 a4 a6 a7 a8 a9 t → x4 = 0) → ∃ f, wL_committed_16 post (nI t) w al x4 fv fc cm a1 a2 a3 a4 a5 a6 a7 a8 a9 a10 f 0 0 0 := by
    intro x4 m0 m1 m2
    refine pk_loop (σ := Int32 × Int32) (fun f i s => wL_committed_16 post (nI t) w al x4 fv fc cm a1 a2 a3 a4 a5 a6 a7 a8 a9 a10 f s.1 s.2 (nI i)) (fun i s => s.1 + s.2 = mv_z (mv_mix a1 a2 a5 a7 a8 a10 cm w ch t) i) 16 0 (0, 0) (by omega) (by rfl) ?_ ?_
    · intro f s hs
      refine pk_le 16 16 (fun _ => ?_) (fun z => absurd z (by omega))
      refine pk_loop (fun f i y => wL_committed_82 post (nI t) al x4 s.1 s.2 fv fc cm a1 a2 a3 a4 a5 a6 a7 a8 a9 a10 f y (nI i)) (fun i y => y = mv_z (fun c => mv_V a1 a2 cm.toInt (ch c)) i) 16 0 0 (by omega) rfl ?_ ?_
      · intro f y hy
        exact mv_lc_end ht hn hcm hI hfr h7 hw hal h0 h1 H m0 m1 m2 hs hy f
      · intro f i y hi hy hk
        refine pk_le 16 i (fun z => absurd z (by omega)) (fun _ => ?_)
        exact mv_committed hi (hC i hi).1 (hC i hi).2 (nm_e (nm_r (nI_1 i) (hk _ (by rw [hy]; rfl))))
    · intro f i s hi hs hk
      refine pk_le 16 i (fun z => absurd z (by omega)) (fun _ => ?_)
      have hstep : mv_z (mv_mix a1 a2 a5 a7 a8 a10 cm w ch t) (i + 1) = (s.1 + s.2) + (nI i + 1) * mv_mix a1 a2 a5 a7 a8 a10 cm w ch t i := by rw [hs]; rfl
      cases hb : bt w i with
      | false =>
        have em : mv_mix a1 a2 a5 a7 a8 a10 cm w ch t i = mv_V a1 a2 cm.toInt (ch i) := if_neg (by rw [hb]; decide)
        rw [em] at hstep
        refine br_t ((mv_sbit _ (by omega)).mpr hb) ?_
        refine mv_committed hi (hC i hi).1 (hC i hi).2 (nm_e (nm_r (nI_1 i) (hk (s.1, s.2 + (nI i + 1) * mv_V a1 a2 cm.toInt (ch i)) ?_)))
        rw [hstep]
        exact (Int32.add_assoc _ _ _).symm
      | true =>
        have em : ∀ y, (if a5 t = 0 then 0 else mv_vis a1 a2 a7 a8 a10 (ch i) t i) = y → mv_mix a1 a2 a5 a7 a8 a10 cm w ch t i = y := fun y h => by
          unfold mv_mix
          rw [hb, if_pos rfl, h]
        have go : ∀ y, mv_mix a1 a2 a5 a7 a8 a10 cm w ch t i = y → wL_committed_16 post (nI t) w al x4 fv fc cm a1 a2 a3 a4 a5 a6 a7 a8 a9 a10 f (s.1 + (nI i + 1) * y) s.2 (nI (i + 1)) := fun y h => by
          refine hk (s.1 + (nI i + 1) * y, s.2) ?_
          rw [hstep, h]
          show s.1 + (nI i + 1) * y + s.2 = _
          rw [Int32.add_assoc, Int32.add_comm ((nI i + 1) * y), ← Int32.add_assoc]
        refine br_f (fun z => by rw [(mv_sbit _ (by omega)).mp z] at hb; cases hb) ?_
        exact mv_sum ht hi (hC i hi).1 (hC i hi).2 (fun z => nm_e (nm_r (nI_1 i) (go 0 (em 0 (if_pos z))))) (fun z => nm_e (nm_r (nI_1 i) (go _ (em _ (if_neg z)))))
  unfold wpL_committed
  refine mv_might ht (fun c hc => ⟨_, (hI.1 c hc).1⟩) (fun z => ?_) (fun z m => ?_) (fun z m => ?_)
  · exact main (-1) (fun _ => rfl) (fun g => absurd z g) (fun g => absurd z g)
  · exact main 1 (fun g => absurd g z) (fun _ _ => rfl) (fun _ g => absurd m g)
  · exact main 0 (fun g => absurd g z) (fun _ g => absurd g m) (fun _ _ => rfl)
end
end
end
section
/-- the books of the transactions -/
def mv_T (n : Nat) (fr : List Nat) (cm : Int32) (a5 a7 a8 : Nat → Int32) : Prop :=
  (∃ k, k ≤ n ∧ cm = nI k) ∧ (∀ s, s < 6 → a5 s ≠ 0 → (a7 s).toInt ≤ cm.toInt) ∧ 144 + mv_P a5 a8 ≤ fr.length + n
/-- the law's 'single' -/
def mv_G (sg cm : Int32) (a5 a7 : Nat → Int32) : Prop := ∀ s, s < 6 → sg = nI s → ∀ t, t < 6 → a5 t ≠ 0 → t = s ∧ (a7 t).toInt = cm.toInt
def mv_J (n : Nat) (lo hi : Int64) (sg : Int32) (ow : Nat → Nat) (ch : Nat → List Nat) (fr : List Nat) (fv cm : Int32) (a2 a3 a4 a5 a7 a8 : Nat → Int32) : Prop :=
  mv_I n cm.toInt ch fr ow fv a2 a3 a4 ∧ mv_T n fr cm a5 a7 a8 ∧ mv_M lo hi a5 a8 ∧ mv_G sg cm a5 a7
theorem mv_ne1 : ∀ s, s < 6 → ¬ (-1 : Int32) = nI s := by decide +kernel
theorem mv_G_m1 {cm : Int32} {a5 a7 : Nat → Int32} : mv_G (-1) cm a5 a7 := fun s hs e => absurd e (mv_ne1 s hs)
theorem mv_G_close {sg cm : Int32} {a5 a7 b5 : Nat → Int32} (h : mv_G sg cm a5 a7) (hb : ∀ t, t < 6 → b5 t ≠ 0 → a5 t ≠ 0) : mv_G sg cm b5 a7 := fun s hs e t ht h5 => h s hs e t ht (hb t ht h5)
theorem mv_cl {a5 : Nat → Int32} {t s : Nat} (h : upd a5 t 0 s ≠ 0) : s ≠ t ∧ a5 s ≠ 0 := by
  by_cases e : s = t
  · rw [e, pk_us] at h
    exact absurd rfl h
  · rw [pk_un e] at h
    exact ⟨e, h⟩
theorem mv_T_mono {n : Nat} {fr : List Nat} {cm : Int32} {a5 a7 a8 : Nat → Int32} (h : mv_T n fr cm a5 a7 a8) : mv_T (n + 1) fr cm a5 a7 a8 := by
  obtain ⟨⟨k, hk, e⟩, h2, h3⟩ := h
  exact ⟨⟨k, by omega, e⟩, h2, by omega⟩
theorem mv_T_close {n : Nat} {fr : List Nat} {cm : Int32} {a5 a7 a8 : Nat → Int32} {t : Nat} (ht : t < 6) (h5 : a5 t ≠ 0) (h : mv_T n fr cm a5 a7 a8) : mv_T (n + 1) fr cm (upd a5 t 0) a7 a8 := by
  obtain ⟨⟨k, hk, e⟩, h2, h3⟩ := h
  have := mv_P_close (a8 := a8) ht h5
  exact ⟨⟨k, by omega, e⟩, fun s hs z => h2 s hs (mv_cl z).2, by omega⟩
section
variable {fv fc cm : Int32} {a1 a2 a3 a4 a5 a6 a7 a8 a9 a10 : Nat → Int32} {post : Int32 → Prop} {L : Nat} {xs : Nat → Int32} {J : Int64 → Int64 → Int32 → Int32 → Int32 → Int32 → Int32 → (Nat → Int32) → (Nat → Int32) → (Nat → Int32) → (Nat → Int32) → (Nat → Int32) → (Nat → Int32) → (Nat → Int32) → (Nat → Int32) → (Nat → Int32) → (Nat → Int32) → Prop}
  {w c n i kc ks : Nat} {lo hi : Int64} {sg x13 x14 x15 : Int32} {ow : Nat → Nat} {ch : Nat → List Nat} {fr : List Nat}
theorem mv_J_mono (h : mv_J n lo hi sg ow ch fr fv cm a2 a3 a4 a5 a7 a8) : mv_J (n + 1) lo hi sg ow ch fr fv cm a2 a3 a4 a5 a7 a8 := ⟨mv_I_mono (by omega) h.1, mv_T_mono h.2.1, h.2.2.1, h.2.2.2⟩
theorem mv_J_close {t : Nat} (ht : t < 6) (h5 : a5 t ≠ 0) (h : mv_J n lo hi sg ow ch fr fv cm a2 a3 a4 a5 a7 a8) : mv_J (n + 1) lo hi sg ow ch fr fv cm a2 a3 a4 (upd a5 t 0) a7 a8 :=
  ⟨mv_I_mono (by omega) h.1, mv_T_close ht h5 h.2.1, mv_M_close h.2.2.1 (fun _ _ z => (mv_cl z).2), mv_G_close h.2.2.2 (fun _ _ z => (mv_cl z).2)⟩
/-- the check behind an operation -/
theorem mv_519 (hw : w < 6) (hc : c < 16) (hn : n ≤ 143) (hJ : mv_J n lo hi sg ow ch fr fv cm a2 a3 a4 a5 a7 a8) (hk : x15 ≠ 0 → a5 w ≠ 0 ∧ mv_vis a1 a2 a7 a8 a10 (ch c) w c = x14)
    (HJ : ∀ b9, J lo hi sg (nI (i + 4)) fv fc cm a1 a2 a3 a4 a5 a6 a7 a8 b9 a10) : wL_law_519 post L xs J (nI w) (nI c) lo hi sg (nI i) x13 x14 x15 kc ks fv fc cm a1 a2 a3 a4 a5 a6 a7 a8 a9 a10 := by
  have h4 : nI i + 4 = nI (i + 4) := nI_add i 4
  have hL := (hJ.1.1 c hc).1
  have hl : (ch c).length ≤ 143 := by
    have := (hJ.1.1 c hc).2.2.2
    omega
  refine br_c (fun _ => nm_r h4 (HJ a9)) (fun g => ?_)
  refine mv_sum hw hc hL hl (fun z => absurd z (hk g).1) (fun z => br_t (hk g).2 (br_c (fun _ => ?_) (fun _ => nm_r h4 (HJ a9))))
  exact mv_read hw hc hL hl (fun z => absurd z (hk g).1) (fun z b9 => br_t (hk g).2 (nm_r h4 (HJ b9)))
/-! begin -/
theorem mv_277 {lo' hi' : Int64} {sg' : Int32} {s : Nat} (hw : w < 6) (hs : s < 6) (k0 : wL_law_519 post L xs J (nI w) (nI c) lo' hi' sg' (nI i) x13 x14 0 kc ks fv fc cm a1 a2 a3 a4 a5 a6 a7 a8 a9 a10)
    (k1 : x15 ≠ 0 → s ≠ w → wL_law_519 post L xs J (nI w) (nI c) lo' hi' sg' (nI i) x13 x14 1 kc ks fv fc cm a1 a2 a3 a4 a5 a6 a7 a8 a9 a10) :
    wL_law_277 post L xs J (nI w) (nI c) lo' sg' (nI i) x13 x14 x15 (nI s) hi' kc ks fv fc cm a1 a2 a3 a4 a5 a6 a7 a8 a9 a10 := by
  unfold wL_law_277 wL_law_294 wL_law_295 wL_law_297
  exact br_c (fun _ => k0) (fun g => pk_eq s w (fun _ => k0) (fun e => k1 g e))
theorem mv_op_begin {x18 z0 : Int32} (hw : w < 6) (K : ∀ {lo hi : Int64} {sg x15 : Int32} {fv fc cm : Int32} {a1 a2 a3 a4 a5 a6 a7 a8 a9 a10 : Nat → Int32} {ow : Nat → Nat} {ch : Nat → List Nat} {fr : List Nat}, mv_J (n + 1) lo hi sg ow ch fr fv cm a2 a3 a4 a5 a7 a8 → (x15 ≠ 0 → a5 w ≠ 0 ∧ mv_vis a1 a2 a7 a8 a10 (ch c) w c = x14) →
      wL_law_519 post L xs J (nI w) (nI c) lo hi sg (nI i) x13 x14 x15 kc ks fv fc cm a1 a2 a3 a4 a5 a6 a7 a8 a9 a10) (hJ : mv_J n lo hi sg ow ch fr fv cm a2 a3 a4 a5 a7 a8) (hk : x15 ≠ 0 → a5 w ≠ 0 ∧ mv_vis a1 a2 a7 a8 a10 (ch c) w c = x14)
    (hno : x18 ≠ 0 → ∀ t, t < 6 → a5 t = 0) : wL_law_203 post L xs J (nI w) (nI c) lo hi sg (nI i) x13 x14 x15 x18 z0 kc ks fv fc cm a1 a2 a3 a4 a5 a6 a7 a8 a9 a10 := by
  unfold wL_law_203
  refine mv_begin ?_ ?_
  · unfold wL_law_297
    exact br_t (by decide) (K (mv_J_mono hJ) hk)
  · intro s hs h5 b6 b9
    obtain ⟨hI, ⟨⟨k, hkk, ek⟩, hT2, hT3⟩, hM, hG⟩ := hJ
    have hP := mv_P_begin (a5 := a5) (a8 := a8) hs
    have HT : mv_T (n + 1) fr cm (upd a5 s 1) (upd a7 s cm) (upd a8 s 0) := by
      refine ⟨⟨k, by omega, ek⟩, fun u hu z => ?_, by omega⟩
      by_cases e : u = s
      · rw [e, pk_us]
        exact Int.le_refl _
      · rw [pk_un e] at z
        rw [pk_un e]
        exact hT2 u hu z
    have hk2 : x15 ≠ 0 → s ≠ w → ((1 : Int32) ≠ 0 → upd a5 s 1 w ≠ 0 ∧ mv_vis a1 a2 (upd a7 s cm) (upd a8 s 0) a10 (ch c) w c = x14) := by
      intro g e _
      have e' : w ≠ s := fun z => e z.symm
      rw [pk_un e']
      refine ⟨(hk g).1, ?_⟩
      rw [← (hk g).2]
      unfold mv_vis
      rw [pk_un e', pk_un e']
    have fin : ∀ sg', mv_G sg' cm (upd a5 s 1) (upd a7 s cm) → wL_law_224 post L xs J (nI w) (nI c) lo hi (nI i) x13 x14 x15 (nI s) sg' kc ks fv fc cm a1 a2 a3 a4 (upd a5 s 1) b6 (upd a7 s cm) (upd a8 s 0) b9 a10 := by
      intro sg' hG'
      have HM := mv_M_begin hs hM _ rfl
      refine ⟨by decide, nm_e ?_⟩
      by_cases g3 : s < 3
      · rw [if_pos g3, if_pos g3] at HM
        refine pk_le 3 s (fun z => absurd z (by omega)) (fun _ => ?_)
        refine pk_le 3 s (fun z => absurd z (by omega)) (fun _ => ?_)
        exact mv_277 hw hs (K ⟨mv_I_mono (by omega) hI, HT, HM, hG'⟩ (fun z => absurd rfl z)) (fun g e => K ⟨mv_I_mono (by omega) hI, HT, HM, hG'⟩ (hk2 g e))
      · rw [if_neg g3, if_neg g3] at HM
        refine pk_le 3 s (fun _ => ?_) (fun z => absurd z (by omega))
        refine pk_le 3 s (fun _ => ?_) (fun z => absurd z (by omega))
        exact mv_277 hw hs (K ⟨mv_I_mono (by omega) hI, HT, HM, hG'⟩ (fun z => absurd rfl z)) (fun g e => K ⟨mv_I_mono (by omega) hI, HT, HM, hG'⟩ (hk2 g e))
    refine br_f (nI_pos (by omega)) (br_c (fun _ => fin (-1) mv_G_m1) (fun g => fin (nI s) ?_))
    intro s' hs' e t ht z
    have es : s = s' := (nI_eq (by omega) (by omega)).mp e
    by_cases et : t = s
    · rw [et, pk_us]
      exact ⟨es, rfl⟩
    · rw [pk_un et] at z
      exact absurd (hno g t ht) z
/-! write -/
theorem mv_372 {lo' hi' : Int64} {t k : Nat} (hw : w < 6) (hc : c < 16) (ht : t < 6) (hk : k < 16) (k0 : wL_law_519 post L xs J (nI w) (nI c) lo' hi' sg (nI i) x13 x14 0 kc ks fv fc cm a1 a2 a3 a4 a5 a6 a7 a8 a9 a10)
    (k1 : x15 ≠ 0 → (t ≠ w ∨ k ≠ c) → wL_law_519 post L xs J (nI w) (nI c) lo' hi' sg (nI i) x13 x14 1 kc ks fv fc cm a1 a2 a3 a4 a5 a6 a7 a8 a9 a10) :
    wL_law_372 post L xs J (nI w) (nI c) lo' sg (nI i) (nI t) (nI k) x13 x14 x15 hi' kc ks fv fc cm a1 a2 a3 a4 a5 a6 a7 a8 a9 a10 := by
  unfold wL_law_372 wL_law_395 wL_law_391 wL_law_396
  exact br_c (fun _ => k0) (fun g => pk_eq t w (fun _ => pk_eq k c (fun _ => k0) (fun e => k1 g (Or.inr e))) (fun e => k1 g (Or.inl e)))
theorem mv_w_vis {t k : Nat} {v : Int32} (hc : c < 16) (hk : k < 16) (h : t ≠ w ∨ k ≠ c) (l : List Nat) :
    mv_vis a1 a2 a7 (upd a8 t (a8 t ||| ((1 : Int32) <<< (nI k &&& 31)))) (upd a10 (16 * t + k) v) l w c = mv_vis a1 a2 a7 a8 a10 l w c := by
  have e1 : bt (upd a8 t (a8 t ||| ((1 : Int32) <<< (nI k &&& 31))) w) c = bt (a8 w) c := by
    by_cases e : w = t
    · rw [e, pk_us, mv_set _ (by omega) (by omega), decide_eq_false (by omega), Bool.or_false]
    · rw [pk_un e]
  unfold mv_vis
  rw [e1, pk_un (by omega)]
/-! commit -/
theorem mv_get_wp {q : Int32 → Prop} {t : Nat} (ht : t < 6) (h : ∀ r, (∀ c, c < 16 → bt r c = mv_q (if t < 3 then lo else hi) (16 * (t % 3) + c)) → q r) : wpL_get q () lo hi (nI t) :=
  pk_le 3 t (fun z => ⟨by decide, h _ (fun c hc => by rw [if_neg (by omega)]; exact mv_get hi ht hc)⟩) (fun z => ⟨by decide, h _ (fun c hc => by rw [if_pos (by omega)]; exact mv_get lo ht hc)⟩)
theorem mv_460 {t : Nat} {z0 : Int32} (k : ∀ sg', sg' = -1 ∨ (sg' = sg ∧ ¬ nI t = sg) → wL_law_519 post L xs J (nI w) (nI c) lo hi sg' (nI i) x13 x14 z0 kc ks fv fc cm a1 a2 a3 a4 a5 a6 a7 a8 a9 a10) :
    wL_law_460 post L xs J (nI w) (nI c) lo hi sg (nI i) (nI t) x13 x14 z0 kc ks fv fc cm a1 a2 a3 a4 a5 a6 a7 a8 a9 a10 := by
  unfold wL_law_460 wL_law_475
  exact br_c (fun _ => k (-1) (Or.inl rfl)) (fun e => k sg (Or.inr ⟨rfl, e⟩))
theorem mv_may_all {t : Nat} (hI : mv_I n cm.toInt ch fr ow fv a2 a3 a4) (h : (a7 t).toInt = cm.toInt) : mv_may a2 a4 a6 a7 a8 a9 t := by
  intro d hd hb
  obtain ⟨_, h2, h3⟩ := hb
  obtain ⟨hL, hm, _, _⟩ := hI.1 d hd
  obtain ⟨v, r, e, hv, ex⟩ := mv_head hL h2
  rw [e] at hm
  have := (hm v List.mem_cons_self).2
  rw [ex, nI_clamp (by omega), Int32.le_iff_toInt_le] at h3
  omega
theorem mv_op_commit {t : Nat} {al wr : Int32} (hw : w < 6) (hc : c < 16) (ht : t < 6) (hn : n ≤ 64) (K : ∀ {lo hi : Int64} {sg x15 : Int32} {fv fc cm : Int32} {a1 a2 a3 a4 a5 a6 a7 a8 a9 a10 : Nat → Int32} {ow : Nat → Nat} {ch : Nat → List Nat} {fr : List Nat}, mv_J (n + 1) lo hi sg ow ch fr fv cm a2 a3 a4 a5 a7 a8 → (x15 ≠ 0 → a5 w ≠ 0 ∧ mv_vis a1 a2 a7 a8 a10 (ch c) w c = x14) →
      wL_law_519 post L xs J (nI w) (nI c) lo hi sg (nI i) x13 x14 x15 kc ks fv fc cm a1 a2 a3 a4 a5 a6 a7 a8 a9 a10) (hJ : mv_J n lo hi sg ow ch fr fv cm a2 a3 a4 a5 a7 a8) (hk : x15 ≠ 0 → a5 w ≠ 0 ∧ mv_vis a1 a2 a7 a8 a10 (ch c) w c = x14)
    (hal : al ≠ 0 → nI t = sg) (hwr : ∀ d, d < 16 → bt wr d = mv_q (if t < 3 then lo else hi) (16 * (t % 3) + d)) :
    wL_law_436 post L xs J (nI w) (nI c) lo hi sg (nI i) (nI t) x13 x14 x15 al wr (nI t) kc ks fv fc cm a1 a2 a3 a4 a5 a6 a7 a8 a9 a10 := by
  have hJ' := hJ
  obtain ⟨hI, ⟨hcm, hT2, hT3⟩, hM, hG⟩ := hJ
  unfold wL_law_436 wL_law_459
  refine mv_lc (n := n) (ch := ch) (fr := fr) (ow := ow) ht (by omega) hcm hI (by omega) hT2 (fun z d hd => by rw [hwr d hd, hM t ht z d hd]) (fun g z => mv_may_all hI (hG t ht (hal g).symm t ht z).2) (fun z => ?_) (fun z m => ?_) (fun z m fv' fc' cm' a1' a2' a3' a4' ow' ch' fr' hE => ?_)
  · have hA : ∀ sg', sg' = -1 ∨ (sg' = sg ∧ ¬ nI t = sg) → mv_J (n + 1) lo hi sg' ow ch fr fv cm a2 a3 a4 a5 a7 a8 := by
      intro sg' h
      have := mv_J_mono hJ'
      rcases h with e | ⟨e, _⟩
      · rw [e]
        exact ⟨this.1, this.2.1, this.2.2.1, mv_G_m1⟩
      · rw [e]
        exact this
    exact br_f (by decide) (br_c (fun _ => mv_460 (fun sg' h => K (hA sg' h) (fun z => absurd rfl z))) (fun g => pk_eq t w (fun _ => mv_460 (fun sg' h => K (hA sg' h) (fun z => absurd rfl z))) (fun e => mv_460 (fun sg' h => K (hA sg' h) (fun _ => hk g)))))
  · have hA : ∀ sg', sg' = -1 ∨ (sg' = sg ∧ ¬ nI t = sg) → mv_J (n + 1) lo hi sg' ow ch fr fv cm a2 a3 a4 (upd a5 t 0) a7 a8 := by
      intro sg' h
      have := mv_J_close ht z hJ'
      rcases h with e | ⟨e, _⟩
      · rw [e]
        exact ⟨this.1, this.2.1, this.2.2.1, mv_G_m1⟩
      · rw [e]
        exact this
    exact br_f (by decide) (br_c (fun _ => mv_460 (fun sg' h => K (hA sg' h) (fun z => absurd rfl z))) (fun g => pk_eq t w (fun _ => mv_460 (fun sg' h => K (hA sg' h) (fun z => absurd rfl z))) (fun e => mv_460 (fun sg' h => K (hA sg' h) (fun _ => by
      rw [pk_un (fun q => e q.symm)]
      exact hk g)))))
  · obtain ⟨e1, e2, e3, e4, e5, e6⟩ := hE
    have hP := mv_P_close (a8 := a8) ht z
    have hA : ∀ sg', sg' = -1 ∨ (sg' = sg ∧ ¬ nI t = sg) → mv_J (n + 1) lo hi sg' ow' ch' fr' fv' cm' a2' a3' a4' (upd a5 t 0) a7 a8 := by
      intro sg' h
      refine ⟨e3, ⟨e1, fun s hs h5 => ?_, by omega⟩, mv_M_close hM (fun _ _ q => (mv_cl q).2), ?_⟩
      · have := hT2 s hs (mv_cl h5).2
        omega
      · rcases h with e | ⟨e, ne⟩
        · rw [e]
          exact mv_G_m1
        · intro s hs es
          rw [e] at es
          have := (hG s hs es t ht z).1
          exact absurd (by rw [es, this]) ne
    refine br_f (by decide) (br_c (fun _ => mv_460 (fun sg' h => K (hA sg' h) (fun z => absurd rfl z))) (fun g => pk_eq t w (fun _ => mv_460 (fun sg' h => K (hA sg' h) (fun z => absurd rfl z))) (fun e => mv_460 (fun sg' h => K (hA sg' h) (fun _ => ?_)))))
    have e' : w ≠ t := fun q => e q.symm
    rw [pk_un e']
    refine ⟨(hk g).1, ?_⟩
    rw [← (hk g).2]
    have h5 := e5 c hc w hw (by rw [pk_un e']; exact (hk g).1)
    unfold mv_vis
    rw [h5]
end
end
section
section
variable {fv fc cm : Int32} {a1 a2 a3 a4 a5 a6 a7 a8 a9 a10 : Nat → Int32} {post : Int32 → Prop} {L : Nat} {xs : Nat → Int32} {J : Int64 → Int64 → Int32 → Int32 → Int32 → Int32 → Int32 → (Nat → Int32) → (Nat → Int32) → (Nat → Int32) → (Nat → Int32) → (Nat → Int32) → (Nat → Int32) → (Nat → Int32) → (Nat → Int32) → (Nat → Int32) → (Nat → Int32) → Prop}
  {w c n i kc ks : Nat} {lo hi : Int64} {sg x13 x14 x15 : Int32} {ow : Nat → Nat} {ch : Nat → List Nat} {fr : List Nat}
/-- one operation -/
theorem mv_154 {t k : Nat} {x10 : Int32} (hw : w < 6) (hc : c < 16) (ht : t < 6) (hkk : k < 16) (hn : n ≤ 64) (K : ∀ {lo hi : Int64} {sg x15 : Int32} {fv fc cm : Int32} {a1 a2 a3 a4 a5 a6 a7 a8 a9 a10 : Nat → Int32} {ow : Nat → Nat} {ch : Nat → List Nat} {fr : List Nat}, mv_J (n + 1) lo hi sg ow ch fr fv cm a2 a3 a4 a5 a7 a8 → (x15 ≠ 0 → a5 w ≠ 0 ∧ mv_vis a1 a2 a7 a8 a10 (ch c) w c = x14) →
      wL_law_519 post L xs J (nI w) (nI c) lo hi sg (nI i) x13 x14 x15 kc ks fv fc cm a1 a2 a3 a4 a5 a6 a7 a8 a9 a10) (hJ : mv_J n lo hi sg ow ch fr fv cm a2 a3 a4 a5 a7 a8) (hk : x15 ≠ 0 → a5 w ≠ 0 ∧ mv_vis a1 a2 a7 a8 a10 (ch c) w c = x14) :
    wL_law_154 post L xs J (nI w) (nI c) lo hi sg (nI i) x10 (nI t) (nI k) x13 x14 x15 kc ks fv fc cm a1 a2 a3 a4 a5 a6 a7 a8 a9 a10 := by
  have hLc : ∀ d, d < 16 → mv_L a3 (a4 d) (ch d) ∧ (ch d).length ≤ 143 := fun d hd => ⟨(hJ.1.1 d hd).1, by have := (hJ.1.1 d hd).2.2.2; omega⟩
  unfold wL_law_154
  refine ⟨by decide, nm_e (br_c (fun _ => br_c (fun _ => br_c (fun _ => br_c (fun _ => br_c (fun _ => ?_) (fun _ => ?_)) (fun _ => ?_)) (fun _ => ?_)) (fun _ => ?_)) (fun _ => ?_))⟩
  · -- abort
    unfold wL_law_509 wL_law_510
    refine mv_abort ht (fun z => ?_) (fun z => ?_)
    · exact br_c (fun _ => K (mv_J_mono hJ) (fun z => absurd rfl z)) (fun g => pk_eq t w (fun _ => K (mv_J_mono hJ) (fun z => absurd rfl z)) (fun _ => K (mv_J_mono hJ) (fun _ => hk g)))
    · refine br_c (fun _ => K (mv_J_close ht z hJ) (fun z => absurd rfl z)) (fun g => pk_eq t w (fun _ => K (mv_J_close ht z hJ) (fun z => absurd rfl z)) (fun e => K (mv_J_close ht z hJ) (fun _ => ?_)))
      rw [pk_un (fun q => e q.symm)]
      exact hk g
  · -- tidy
    refine mv_tidy (n := n) (by omega) hJ.1 (fun fv' fc' a3' ow' ch' fr' hI' hl hV => ?_)
    obtain ⟨hI, ⟨⟨q, hq, eq⟩, hT2, hT3⟩, hM, hG⟩ := hJ
    refine K (ow := ow') (ch := ch') (fr := fr') ⟨mv_I_mono (by omega) hI', ⟨⟨q, by omega, eq⟩, hT2, by omega⟩, hM, hG⟩ (fun g => ⟨(hk g).1, ?_⟩)
    rw [← (hk g).2]
    have h5 := hV c hc _ (Or.inr ⟨w, hw, (hk g).1, rfl⟩)
    unfold mv_vis
    rw [h5]
  · -- commit
    exact mv_get_wp ht (fun r hr => br_c (fun e => mv_op_commit hw hc ht hn K hJ hk (fun _ => e) hr) (fun _ => mv_op_commit hw hc ht hn K hJ hk (fun z => absurd rfl z) hr))
  · -- write
    refine mv_write ht hkk (fun z => br_f (by decide) (K (mv_J_mono hJ) hk)) (fun z => br_t rfl ?_)
    obtain ⟨hI, ⟨⟨q, hq, eq⟩, hT2, hT3⟩, hM, hG⟩ := hJ
    have HM := mv_M_write ht hkk hM _ rfl
    have hP := mv_P_write (a5 := a5) (a8 := a8) ht hkk
    have HT : mv_T (n + 1) fr cm a5 a7 (upd a8 t (a8 t ||| ((1 : Int32) <<< (nI k &&& 31)))) := ⟨⟨q, by omega, eq⟩, hT2, by omega⟩
    have hI2 := mv_I_mono (Nat.le_succ n) hI
    have hk2 : x15 ≠ 0 → (t ≠ w ∨ k ≠ c) → (a5 w ≠ 0 ∧ mv_vis a1 a2 a7 (upd a8 t (a8 t ||| ((1 : Int32) <<< (nI k &&& 31)))) (upd a10 (16 * t + k) x13) (ch c) w c = x14) := fun g h => ⟨(hk g).1, by rw [mv_w_vis hc hkk h]; exact (hk g).2⟩
    by_cases g3 : t < 3
    · rw [if_pos g3, if_pos g3] at HM
      refine pk_le 3 t (fun z => absurd z (by omega)) (fun _ => ?_)
      refine pk_le 3 t (fun z => absurd z (by omega)) (fun _ => ?_)
      exact mv_372 hw hc ht hkk (K ⟨hI2, HT, HM, hG⟩ (fun z => absurd rfl z)) (fun g h => K ⟨hI2, HT, HM, hG⟩ (fun _ => hk2 g h))
    · rw [if_neg g3, if_neg g3] at HM
      refine pk_le 3 t (fun _ => ?_) (fun z => absurd z (by omega))
      refine pk_le 3 t (fun _ => ?_) (fun z => absurd z (by omega))
      exact mv_372 hw hc ht hkk (K ⟨hI2, HT, HM, hG⟩ (fun z => absurd rfl z)) (fun g h => K ⟨hI2, HT, HM, hG⟩ (fun _ => hk2 g h))
  · -- read
    exact mv_read ht hkk (hLc k hkk).1 (hLc k hkk).2 (fun _ => K (mv_J_mono hJ) hk) (fun _ b9 => K (mv_J_mono hJ) hk)
  · -- begin
    unfold wL_law_188
    refine mv_open (fun hno => br_t rfl ?_) (fun r hr => br_f hr ?_)
    · exact br_c (fun _ => mv_op_begin hw K hJ hk (fun _ => hno)) (fun _ => mv_op_begin hw K hJ hk (fun _ => hno))
    · exact br_c (fun _ => mv_op_begin hw K hJ hk (fun z => absurd rfl z)) (fun _ => mv_op_begin hw K hJ hk (fun z => absurd rfl z))
theorem mv_122 {t k : Nat} {x10 : Int32} (hw : w < 6) (hc : c < 16) (ht : t < 6) (hkk : k < 16) (hn : n ≤ 64) (hi' : i + 3 < L) (hL : L < 2 ^ 31) (hJ : mv_J n lo hi sg ow ch fr fv cm a2 a3 a4 a5 a7 a8)
    (HJ : ∀ {lo hi : Int64} {sg : Int32} {fv fc cm : Int32} {a1 a2 a3 a4 a5 a6 a7 a8 a9 a10 : Nat → Int32} {ow : Nat → Nat} {ch : Nat → List Nat} {fr : List Nat}, mv_J (n + 1) lo hi sg ow ch fr fv cm a2 a3 a4 a5 a7 a8 → J lo hi sg (nI (i + 4)) fv fc cm a1 a2 a3 a4 a5 a6 a7 a8 a9 a10) :
    wL_law_122 post L xs J (nI w) (nI c) lo hi sg (nI i) x10 (nI t) (nI k) kc ks fv fc cm a1 a2 a3 a4 a5 a6 a7 a8 a9 a10 := by
  have h3 : nI i + 3 = nI (i + 3) := nI_add i 3
  have hLc : ∀ d, d < 16 → mv_L a3 (a4 d) (ch d) ∧ (ch d).length ≤ 143 := fun d hd => ⟨(hJ.1.1 d hd).1, by have := (hJ.1.1 d hd).2.2.2; omega⟩
  unfold wL_law_122
  rw [h3]
  refine ⟨vp_in_nI hi' hL, nm_e ?_⟩
  refine mv_sum hw hc (hLc c hc).1 (hLc c hc).2 (fun z => ?_) (fun z => ?_)
  · exact mv_might hw (fun d hd => ⟨_, (hLc d hd).1⟩) (fun _ => br_t (by decide) (mv_154 hw hc ht hkk hn (fun hJ2 hk2 => mv_519 hw hc (by omega) hJ2 hk2 (fun b9 => HJ hJ2)) hJ (fun g => absurd rfl g))) (fun g => absurd z g) (fun g => absurd z g)
  · exact mv_might hw (fun d hd => ⟨_, (hLc d hd).1⟩) (fun g => absurd g z)
      (fun _ _ => br_f (by decide) (mv_154 hw hc ht hkk hn (fun hJ2 hk2 => mv_519 hw hc (by omega) hJ2 hk2 (fun b9 => HJ hJ2)) hJ (fun _ => ⟨z, rfl⟩)))
      (fun _ _ => br_f (by decide) (mv_154 hw hc ht hkk hn (fun hJ2 hk2 => mv_519 hw hc (by omega) hJ2 hk2 (fun b9 => HJ hJ2)) hJ (fun _ => ⟨z, rfl⟩)))
end
theorem mv_mod6 (x : Int32) : ∃ t, t < 6 ∧ (x &&& 255) - (x &&& 255) / 6 * 6 = nI t := by
  obtain ⟨j, hj, e⟩ := pk_andE x (m := 255) 8 (by decide)
  refine ⟨j % 6, Nat.mod_lt _ (by omega), ?_⟩
  rw [e]
  exact pk_rem (d := 6) (by omega) (by omega) (by omega)
/-- the law's loop -/
theorem mv_loop {post : Int32 → Prop} {L : Nat} {xs : Nat → Int32} {w c kc ks : Nat} (hw : w < 6) (hc : c < 16) (hL : L ≤ 260) (hp : post 1) : ∀ (f n i : Nat) {lo hi : Int64} {sg : Int32} {fv fc cm : Int32} {a1 a2 a3 a4 a5 a6 a7 a8 a9 a10 : Nat → Int32} {ow : Nat → Nat} {ch : Nat → List Nat} {fr : List Nat},
    i = 4 * n + 2 → n + f = 70 → n ≤ 64 → mv_J n lo hi sg ow ch fr fv cm a2 a3 a4 a5 a7 a8 → wL_law_57 post L xs (nI w) (nI c) kc ks f lo hi sg (nI i) fv fc cm a1 a2 a3 a4 a5 a6 a7 a8 a9 a10 := by
  intro f
  induction f with
  | zero =>
    intro n i lo hi sg fv fc cm a1 a2 a3 a4 a5 a6 a7 a8 a9 a10 ow ch fr ei hf hn hJ
    exact absurd hf (by omega)
  | succ f ih =>
    intro n i lo hi sg fv fc cm a1 a2 a3 a4 a5 a6 a7 a8 a9 a10 ow ch fr ei hf hn hJ
    refine pk_lt L (i + 4) (fun _ => hp) (fun z => ?_) rfl (nI_add i 4)
    have h1 : nI i + 1 = nI (i + 1) := nI_1 i
    have h2 : nI i + 2 = nI (i + 2) := nI_add i 2
    refine ⟨pk_in i L (by omega), nm_e ?_⟩
    rw [h1, h2]
    obtain ⟨t, ht, et⟩ := mv_mod6 (xs (nI (i + 1)).toNatClampNeg)
    refine ⟨pk_in (i + 1) L (by omega), by decide, nm_r et ⟨pk_in (i + 2) L (by omega), ?_⟩⟩
    obtain ⟨k3, hk3, ek3⟩ := pk_andE (xs (nI (i + 2)).toNatClampNeg) (m := 3) 2 (by decide)
    obtain ⟨k15, hk15, ek15⟩ := pk_andE (xs (nI (i + 2)).toNatClampNeg) (m := 15) 4 (by decide)
    rw [ek3, ek15]
    refine br_c (fun _ => ⟨pk_in (i + 2) L (by omega), ?_⟩) (fun _ => ⟨pk_in (i + 2) L (by omega), ?_⟩)
    · exact mv_122 hw hc ht (by omega) hn (by omega) (by omega) hJ (fun hJ2 => ih (n + 1) (i + 4) (by omega) (by omega) (by omega) hJ2)
    · exact mv_122 hw hc ht (by omega) hn (by omega) (by omega) hJ (fun hJ2 => ih (n + 1) (i + 4) (by omega) (by omega) (by omega) hJ2)
/-! the beginning -/
theorem mv_L_init {a3 : Nat → Int32} (h : ∀ j, j < 144 → a3 j = if j = 143 then -1 else nI (j + 1)) : ∀ j i, i + j = 144 → mv_L a3 (if j = 0 then -1 else nI i) (List.range' i j)
  | 0, _, _ => rfl
  | j + 1, i, e => by
    refine ⟨if_neg (by omega), by omega, ?_⟩
    rw [h i (by omega)]
    have t := mv_L_init h j (i + 1) (by omega)
    by_cases q : j = 0
    · rw [if_pos q] at t
      rw [if_pos (by omega)]
      exact t
    · rw [if_neg q] at t
      rw [if_neg (by omega)]
      exact t
theorem mv_J_init {a3 a4 : Nat → Int32} (h3 : ∀ j, j < 144 → a3 j = if j = 143 then -1 else nI (j + 1)) (h4 : ∀ j, j < 16 → a4 j = -1) :
    mv_J 0 0 0 (-1) (fun _ => 16) (fun _ => []) (List.range' 0 144) 0 0 (fun _ => 0) a3 a4 (fun _ => 0) (fun _ => 0) (fun _ => 0) := by
  refine ⟨⟨fun c hc => ⟨h4 c hc, fun v hv => absurd hv List.not_mem_nil, List.Pairwise.nil, Nat.le_refl _⟩, ⟨?_, fun _ _ => rfl, List.nodup_range'⟩⟩, ⟨⟨0, Nat.le_refl _, rfl⟩, fun s _ z => absurd rfl z, ?_⟩, fun t _ z => absurd rfl z, mv_G_m1⟩
  · exact mv_L_init h3 144 0 (by omega)
  · have hP : mv_P (fun _ => 0) (fun _ => 0) = 0 := rfl
    rw [hP, List.length_range']
    exact Nat.le_refl _
theorem mv_fill {f s : Nat → Int32} {i : Nat} {x : Int32} (h : ∀ j, j < i → s j = f j) (hx : x = f i) : ∀ j, j < i + 1 → upd s i x j = f j := by
  intro j hj
  by_cases e : j = i
  · rw [e, pk_us, hx]
  · rw [pk_un e]
    exact h j (by omega)
theorem mv_init {post : St1 → Prop} {mc ms : Nat} (hm : 10 ≤ mc) (hs : 574 ≤ ms)
    (H : ∀ (fc : Int32) (a3 a4 : Nat → Int32), (∀ j, j < 144 → a3 j = if j = 143 then -1 else nI (j + 1)) → (∀ j, j < 16 → a4 j = -1) →
      post (0, fc, 0, (fun _ => 0), (fun _ => 0), a3, a4, (fun _ => 0), (fun _ => 0), (fun _ => 0), (fun _ => 0), (fun _ => 0), (fun _ => 0))) : wpX_init post mc ms (0, 0, 0) := by
  refine ⟨by omega, by omega, by omega, by omega, by omega, by omega, by omega, by omega, by omega, by omega, by omega, by omega, by omega, by omega, by omega, by omega, by omega, by omega, by omega, by omega, ?_⟩
  refine pk_loop (fun n i s => wX_init_89 post mc ms 10 574 0 0 0 n (nI i) (fun _ => 0) (fun _ => 0) s (fun _ => 0) (fun _ => 0) (fun _ => 0) (fun _ => 0) (fun _ => 0) (fun _ => 0) (fun _ => 0)) (fun i s => ∀ j, j < i → s j = if j = 143 then -1 else nI (j + 1)) 144 0 (fun _ => 0) (by omega) lt_0 ?_ ?_
  · intro n a3 h3
    refine pk_le 144 144 (fun _ => ?_) (fun z => absurd z (by omega))
    refine pk_loop (fun n i s => wX_init_131 post mc ms 10 574 0 144 0 n (nI i) (fun _ => 0) (fun _ => 0) a3 s (fun _ => 0) (fun _ => 0) (fun _ => 0) (fun _ => 0) (fun _ => 0) (fun _ => 0)) (fun i s => ∀ j, j < i → s j = -1) 16 0 (fun _ => 0) (by omega) lt_0 ?_ ?_
    · intro n a4 h4
      exact pk_le 16 16 (fun _ => H 144 a3 a4 h3 h4) (fun z => absurd z (by omega))
    · intro n i s hi h hw
      refine pk_le 16 i (fun z => absurd z (by omega)) (fun _ => ⟨pk_in i 16 hi, ?_⟩)
      rw [nI_clamp (show i < 2 ^ 31 by omega)]
      exact nm_e (nm_r (nI_1 i) (hw _ (mv_fill (f := fun _ => -1) h rfl)))
  · intro n i s hi h hw
    refine pk_le 144 i (fun z => absurd z (by omega)) (fun _ => pk_eq i 143 (fun e => ⟨pk_in i 144 hi, ?_⟩) (fun e => ⟨pk_in i 144 hi, ?_⟩))
    · rw [nI_clamp (show i < 2 ^ 31 by omega)]
      exact nm_e (nm_r (nI_1 i) (hw _ (mv_fill (f := fun j => if j = 143 then -1 else nI (j + 1)) h (if_pos e).symm)))
    · rw [nI_clamp (show i < 2 ^ 31 by omega)]
      exact nm_e (nm_r (nI_1 i) (hw _ (mv_fill (f := fun j => if j = 143 then -1 else nI (j + 1)) h (by rw [if_neg e, nI_1]))))
end
section
theorem mv_27 {post : Int32 → Prop} {L : Nat} {xs : Nat → Int32} {w kc ks : Nat} {fc : Int32} {a3 a4 : Nat → Int32} (hw : w < 6) (hL : L ≤ 260) (hp : post 1) (h3 : ∀ j, j < 144 → a3 j = if j = 143 then -1 else nI (j + 1)) (h4 : ∀ j, j < 16 → a4 j = -1) :
    wL_law_27 post L xs (nI w) kc ks 0 fc 0 (fun _ => 0) (fun _ => 0) a3 a4 (fun _ => 0) (fun _ => 0) (fun _ => 0) (fun _ => 0) (fun _ => 0) (fun _ => 0) := by
  have main : ∀ c, c < 16 → wL_law_44 post L xs (nI w) (nI c) kc ks 0 fc 0 (fun _ => 0) (fun _ => 0) a3 a4 (fun _ => 0) (fun _ => 0) (fun _ => 0) (fun _ => 0) (fun _ => 0) (fun _ => 0) :=
    fun c hc => ⟨70, mv_loop hw hc hL hp 70 0 2 (by omega) (by omega) (by omega) (mv_J_init h3 h4)⟩
  unfold wL_law_27
  refine pk_le L 1 (fun _ => main 0 (by omega)) (fun z => ⟨pk_in 1 L z, ?_⟩)
  obtain ⟨k, hk, ek⟩ := pk_andE (xs (1 : Int32).toNatClampNeg) (m := 15) 4 (by decide)
  rw [ek]
  exact main k (by omega)
theorem i_vc (xs : Nat → Int32) (L : Nat) (hL : L ≤ 260) : wpL_law (fun r => r = 1) L xs := by
  refine ⟨10, 574, by omega, by omega, ?_⟩
  refine mv_init (by omega) (by omega) (fun fc a3 a4 h3 h4 => ?_)
  refine pk_le L 0 (fun _ => mv_27 (w := 0) (by omega) hL rfl h3 h4) (fun z => ⟨pk_in 0 L z, by decide, ?_⟩)
  obtain ⟨t, ht, et⟩ := mv_mod6 (xs (0 : Int32).toNatClampNeg)
  rw [et]
  exact mv_27 ht hL rfl h3 h4
end
