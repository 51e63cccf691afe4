section
/-! pure rows: namings, stores, counting, bits -/
/-- a naming of N places: into itself, one to one, the first keeps its name -/
def rl_nu (N : Nat) (ν : Nat → Nat) : Prop := (∀ b, b < N → ν b < N) ∧ (∀ a b, a < N → b < N → ν a = ν b → a = b) ∧ ν 0 = 0
theorem rl_nu_id (N : Nat) : rl_nu N (fun b => b) := ⟨fun _ h => h, fun _ _ _ _ h => h, rfl⟩
/-- three places a block -/
def rl_pi (ν : Nat → Nat) (j : Nat) : Nat := 3 * ν (j / 3) + j % 3
theorem rl_pi_at (ν : Nat → Nat) {b i : Nat} (hi : i < 3) : rl_pi ν (3 * b + i) = 3 * ν b + i := by
  unfold rl_pi
  rw [show (3 * b + i) / 3 = b by omega, show (3 * b + i) % 3 = i by omega]
theorem rl_pi_nu {ν : Nat → Nat} (h : rl_nu 10 ν) : rl_nu 30 (rl_pi ν) := by
  refine ⟨fun j hj => ?_, fun a b ha hb e => ?_, ?_⟩
  · have := h.1 (j / 3) (by omega)
    unfold rl_pi
    omega
  · unfold rl_pi at e
    have e1 : ν (a / 3) = ν (b / 3) := by omega
    have e2 := h.2.1 (a / 3) (b / 3) (by omega) (by omega) e1
    omega
  · unfold rl_pi
    have := h.2.2
    show 3 * ν 0 + 0 % 3 = 0
    omega
theorem rl_upd {N : Nat} {ν : Nat → Nat} (h : rl_nu N ν) {a g : Nat → Int32} (hm : ∀ b, b < N → a (ν b) = g b) {b0 : Nat} (h0 : b0 < N) (v : Int32) : ∀ b, b < N → upd a (ν b0) v (ν b) = upd g b0 v b := by
  intro b hb
  by_cases e : b = b0
  · rw [e, pk_us, pk_us]
  · rw [pk_un (fun z => e (h.2.1 b b0 hb h0 z)), pk_un e]
    exact hm b hb
/-- where an end goes, under a naming -/
def rl_sv (ν : Nat → Nat) : Option Nat → Int32
  | none => -1
  | some t => nI (ν t)
def rl_upo (f : Nat → Option Nat) (k : Nat) (x : Option Nat) : Nat → Option Nat := fun j => if j = k then x else f j
theorem rl_upo_s {f : Nat → Option Nat} {k : Nat} {x : Option Nat} : rl_upo f k x k = x := if_pos rfl
theorem rl_upo_n {f : Nat → Option Nat} {k j : Nat} {x : Option Nat} (h : j ≠ k) : rl_upo f k x j = f j := if_neg h
theorem rl_updO {ν : Nat → Nat} (h : rl_nu 10 ν) {a : Nat → Int32} {F : Nat → Option Nat} (hm : ∀ b, b < 10 → a (ν b) = rl_sv ν (F b)) {b0 : Nat} (h0 : b0 < 10) (o : Option Nat) : ∀ b, b < 10 → upd a (ν b0) (rl_sv ν o) (ν b) = rl_sv ν (rl_upo F b0 o b) := by
  intro b hb
  by_cases e : b = b0
  · rw [e, pk_us, rl_upo_s]
  · rw [pk_un (fun z => e (h.2.1 b b0 hb h0 z)), rl_upo_n e]
    exact hm b hb
def rl_upn (s : Nat → Nat) (k v : Nat) : Nat → Nat := fun j => if j = k then v else s j
theorem rl_upn_s {s : Nat → Nat} {k v : Nat} : rl_upn s k v k = v := if_pos rfl
theorem rl_upn_n {s : Nat → Nat} {k v j : Nat} (h : j ≠ k) : rl_upn s k v j = s j := if_neg h
/-- the pigeons -/
theorem rl_pig : ∀ (n k : Nat) (g : Nat → Nat), (∀ l, l < k → g l < n) → (∀ a b, a < k → b < k → g a = g b → a = b) → k ≤ n := by
  intro n
  induction n with
  | zero =>
    intro k g h _
    rcases Nat.eq_zero_or_pos k with z | z
    · omega
    · exact absurd (h 0 z) (by omega)
  | succ n ih =>
    intro k g h hi
    cases k with
    | zero => omega
    | succ k =>
      have hk := h k (by omega)
      have key : k ≤ n := by
        refine ih k (fun l => if g l = n then g k else g l) (fun l hl => ?_) (fun a b ha hb e => ?_)
        · have h1 := h l (by omega)
          show (if g l = n then g k else g l) < n
          by_cases e : g l = n
          · rw [if_pos e]
            rcases Nat.lt_or_ge (g k) n with z | z
            · exact z
            · exact absurd (hi l k (by omega) (by omega) (by omega)) (by omega)
          · rw [if_neg e]
            omega
        · have e' : (if g a = n then g k else g a) = (if g b = n then g k else g b) := e
          by_cases ea : g a = n
          · by_cases eb : g b = n
            · exact hi a b (by omega) (by omega) (by omega)
            · rw [if_pos ea, if_neg eb] at e'
              exact absurd (hi k b (by omega) (by omega) e') (by omega)
          · by_cases eb : g b = n
            · rw [if_neg ea, if_pos eb] at e'
              exact absurd (hi a k (by omega) (by omega) e') (by omega)
            · rw [if_neg ea, if_neg eb] at e'
              exact hi a b (by omega) (by omega) e'
      omega
/-! sums and counts -/
def rl_sm (s : Nat → Nat) : Nat → Nat
  | 0 => 0
  | n + 1 => rl_sm s n + s n
theorem rl_sm_lo {s : Nat → Nat} {k v : Nat} : ∀ n, n ≤ k → rl_sm (rl_upn s k v) n = rl_sm s n := by
  intro n
  induction n with
  | zero => intro _; rfl
  | succ n ih =>
    intro h
    show rl_sm (rl_upn s k v) n + rl_upn s k v n = rl_sm s n + s n
    rw [ih (by omega), rl_upn_n (by omega)]
theorem rl_sm_up {s : Nat → Nat} {k v : Nat} : ∀ n, k < n → rl_sm (rl_upn s k v) n + s k = rl_sm s n + v := by
  intro n
  induction n with
  | zero => intro h; omega
  | succ n ih =>
    intro h
    show rl_sm (rl_upn s k v) n + rl_upn s k v n + s k = rl_sm s n + s n + v
    by_cases e : k = n
    · subst e
      rw [rl_sm_lo k (Nat.le_refl k), rl_upn_s]
      omega
    · have := ih (by omega)
      rw [rl_upn_n (fun z => e z.symm)]
      omega
theorem rl_sm_le {s : Nat → Nat} {v : Nat} : ∀ n, (∀ i, i < n → s i ≤ v) → rl_sm s n ≤ v * n := by
  intro n
  induction n with
  | zero => intro _; exact Nat.zero_le _
  | succ n ih =>
    intro h
    have h1 := ih (fun i hi => h i (by omega))
    have h2 := h n (by omega)
    show rl_sm s n + s n ≤ v * (n + 1)
    rw [Nat.mul_add]
    omega
theorem rl_sm_ge {s : Nat → Nat} {k : Nat} : ∀ n, k < n → s k ≤ rl_sm s n := by
  intro n
  induction n with
  | zero => intro h; omega
  | succ n ih =>
    intro h
    show s k ≤ rl_sm s n + s n
    by_cases e : k = n
    · subst e
      omega
    · have := ih (by omega)
      omega
theorem rl_sm_0 : ∀ n, rl_sm (fun _ => 0) n = 0 := by
  intro n
  induction n with
  | zero => rfl
  | succ n ih =>
    show rl_sm (fun _ => 0) n + 0 = 0
    omega
def rl_ct (s : Nat → Nat) : Nat → Nat
  | 0 => 0
  | n + 1 => rl_ct s n + (if 0 < s n then 1 else 0)
theorem rl_ct_lo {s : Nat → Nat} {k v : Nat} : ∀ n, n ≤ k → rl_ct (rl_upn s k v) n = rl_ct s n := by
  intro n
  induction n with
  | zero => intro _; rfl
  | succ n ih =>
    intro h
    show rl_ct (rl_upn s k v) n + (if 0 < rl_upn s k v n then 1 else 0) = rl_ct s n + (if 0 < s n then 1 else 0)
    rw [ih (by omega), rl_upn_n (by omega)]
theorem rl_ct_up {s : Nat → Nat} {k v : Nat} (h0 : s k = 0) (hv : 0 < v) : ∀ n, k < n → rl_ct (rl_upn s k v) n = rl_ct s n + 1 := by
  intro n
  induction n with
  | zero => intro h; omega
  | succ n ih =>
    intro h
    show rl_ct (rl_upn s k v) n + (if 0 < rl_upn s k v n then 1 else 0) = rl_ct s n + (if 0 < s n then 1 else 0) + 1
    by_cases e : k = n
    · subst e
      rw [rl_ct_lo k (Nat.le_refl k), rl_upn_s, if_pos hv, if_neg (by omega)]
    · have := ih (by omega)
      rw [rl_upn_n (fun z => e z.symm)]
      omega
theorem rl_ct_le (s : Nat → Nat) : ∀ n, rl_ct s n ≤ n := by
  intro n
  induction n with
  | zero => exact Nat.le_refl 0
  | succ n ih =>
    show rl_ct s n + (if 0 < s n then 1 else 0) ≤ n + 1
    split <;> omega
theorem rl_ct_lt {s : Nat → Nat} {k n : Nat} (h : k < n) (h0 : s k = 0) : rl_ct s n < n := by
  have h1 := rl_ct_up h0 (v := 1) (by omega) n h
  have h2 := rl_ct_le (rl_upn s k 1) n
  omega
theorem rl_ct_z {s : Nat → Nat} : ∀ n, (∀ b, b < n → s b = 0) → rl_ct s n = 0 := by
  intro n
  induction n with
  | zero => intro _; rfl
  | succ n ih =>
    intro h
    show rl_ct s n + (if 0 < s n then 1 else 0) = 0
    rw [ih (fun b hb => h b (by omega)), if_neg (by rw [h n (by omega)]; omega)]
theorem rl_ct_rm {s : Nat → Nat} {k : Nat} : ∀ n, rl_ct s n ≤ rl_ct (rl_upn s k 0) n + 1 := by
  intro n
  induction n with
  | zero => exact Nat.zero_le _
  | succ n ih =>
    show rl_ct s n + (if 0 < s n then 1 else 0) ≤ rl_ct (rl_upn s k 0) n + (if 0 < rl_upn s k 0 n then 1 else 0) + 1
    by_cases e : k = n
    · subst e
      rw [rl_ct_lo k (Nat.le_refl k)]
      split <;> omega
    · rw [rl_upn_n (fun z => e z.symm)]
      omega
/-- what lies in the image of c places is c places at most -/
theorem rl_ct_im (ord : Nat → Nat) (n : Nat) : ∀ (c : Nat) (s : Nat → Nat), (∀ b, b < n → 0 < s b → ∃ p, p < c ∧ ord p = b) → rl_ct s n ≤ c := by
  intro c
  induction c with
  | zero =>
    intro s h
    rw [rl_ct_z n (fun b hb => ?_)]
    · exact Nat.le_refl 0
    · rcases Nat.eq_zero_or_pos (s b) with z | z
      · exact z
      · obtain ⟨p, hp, _⟩ := h b hb z
        omega
  | succ c ih =>
    intro s h
    have h1 := ih (rl_upn s (ord c) 0) (fun b hb hs => by
      by_cases e : b = ord c
      · rw [e, rl_upn_s] at hs
        omega
      · rw [rl_upn_n e] at hs
        obtain ⟨p, hp, hq⟩ := h b hb hs
        refine ⟨p, ?_, hq⟩
        rcases Nat.lt_or_ge p c with z | z
        · exact z
        · exact absurd (by rw [← hq, show p = c by omega]) e)
    have h2 := rl_ct_rm (s := s) (k := ord c) n
    omega
/-! bits (turned from the kit's rows to paste) -/
def rl_bt (x : Int32) (i : Nat) : Bool := x.toBitVec.getLsbD i
theorem rl_bext {x y : Int32} (h : ∀ i, i < 32 → rl_bt x i = rl_bt y i) : x = y := Int32.toBitVec_inj.mp (BitVec.eq_of_getLsbD_eq (fun i hi => h i hi))
theorem rl_bor (x y : Int32) (i : Nat) : rl_bt (x ||| y) i = (rl_bt x i || rl_bt y i) := by unfold rl_bt; rw [Int32.toBitVec_or, BitVec.getLsbD_or]
theorem rl_band (x y : Int32) (i : Nat) : rl_bt (x &&& y) i = (rl_bt x i && rl_bt y i) := by unfold rl_bt; rw [Int32.toBitVec_and, BitVec.getLsbD_and]
theorem rl_b0 (i : Nat) : rl_bt 0 i = false := BitVec.getLsbD_zero
theorem rl_bone : ∀ i, i < 32 → rl_bt 1 i = decide (i = 0) := by decide +kernel
theorem rl_sl : ∀ n, n < 32 → ((nI n &&& 31).toBitVec.smod 32).toNat = n := by decide +kernel
theorem rl_bshl (n : Nat) (hn : n < 32) (x : Int32) {i : Nat} (hi : i < 32) : rl_bt (x <<< (nI n &&& 31)) i = (decide (n ≤ i) && rl_bt x (i - n)) := by
  unfold rl_bt
  rw [Int32.toBitVec_shiftLeft]
  show (x.toBitVec <<< ((nI n &&& 31).toBitVec.smod 32).toNat).getLsbD i = _
  rw [rl_sl n hn, BitVec.getLsbD_shiftLeft]
  rcases Nat.lt_or_ge i n with h | h
  · simp [h, Nat.not_le.mpr h]
  · simp [hi, h, Nat.not_lt.mpr h]
theorem rl_bshr (n : Nat) (hn : n < 32) (x : Int32) {i : Nat} (hi : i < 32) : rl_bt (x >>> (nI n &&& 31)) i = if n + i < 32 then rl_bt x (n + i) else rl_bt x 31 := by
  unfold rl_bt
  rw [Int32.toBitVec_shiftRight]
  show (x.toBitVec.sshiftRight ((nI n &&& 31).toBitVec.smod 32).toNat).getLsbD i = _
  rw [rl_sl n hn, BitVec.getLsbD_sshiftRight, BitVec.msb_eq_getLsbD_last]
  simp [hi]
theorem rl_band1 (x : Int32) : x &&& 1 = 0 ↔ rl_bt x 0 = false := by
  constructor
  · intro h
    have e := rl_band x 1 0
    rw [h, rl_b0, rl_bone 0 (by omega)] at e
    simpa using e.symm
  · intro h
    refine rl_bext (fun i hi => ?_)
    rw [rl_band, rl_b0, rl_bone i hi]
    by_cases e : i = 0
    · rw [e, h, Bool.false_and]
    · rw [decide_eq_false e, Bool.and_false]
theorem rl_b1 (m : Int32) {j : Nat} (hj : j < 31) : ((m >>> (nI j &&& 31)) &&& 1) = 0 ↔ rl_bt m j = false := by
  rw [rl_band1, rl_bshr j (by omega) m (by omega), if_pos (by omega), Nat.add_zero]
theorem rl_b2 (m : Int32) {j k : Nat} (hj : j < 31) (hk : k < 31) : rl_bt (m ||| ((1 : Int32) <<< (nI k &&& 31))) j = (rl_bt m j || decide (j = k)) := by
  rw [rl_bor, rl_bshl k (by omega) 1 (by omega), rl_bone (j - k) (by omega)]
  by_cases e : j = k
  · rw [e, decide_eq_true (Nat.le_refl k), decide_eq_true (Nat.sub_self k), decide_eq_true rfl]
    rfl
  · rw [decide_eq_false e]
    by_cases h : k ≤ j
    · rw [decide_eq_false (show ¬ j - k = 0 by omega), Bool.and_false]
    · rw [decide_eq_false h, Bool.false_and]
end
section
/-! the law's names: four bits a block -/
def rl_nm (names : Int64) (ν : Nat → Nat) : Prop := ∀ b, b < 10 → ((names >>> ((4 * nI b).toInt64 &&& 63)) &&& 15).toInt32 = nI (ν b)
theorem rl_nm_plain : rl_nm 654820258320 (fun b => b) := by
  have h : ∀ b, b < 10 → (((654820258320 : Int64) >>> ((4 * nI b).toInt64 &&& 63)) &&& 15).toInt32 = nI b := by decide +kernel
  exact h
def rl_rs (z x4 : Int32) (b : Nat) (x1 : Int64) : Int64 := x1 ||| ((1 + ((((nI b - 1) * z) + x4) - (((nI b - 1) * z) + x4) / 9 * 9)).toInt64 <<< ((4 * nI b).toInt64 &&& 63))
def rl_ra (z x4 : Int32) : Nat → Int64
  | 0 => 0
  | n + 1 => rl_rs z x4 (n + 1) (rl_ra z x4 n)
def rl_rv (z s b : Nat) : Nat := if b = 0 then 0 else 1 + ((b - 1) * z + s) % 9
theorem rl_rv_nu : ∀ z, z ∈ [1, 2, 4, 8] → ∀ s, s < 9 → rl_nu 10 (rl_rv z s) := by
  intro z hz s hs
  have h1 : ∀ z, z ∈ [1, 2, 4, 8] → ∀ s, s < 9 → ∀ b, b < 10 → rl_rv z s b < 10 := by decide +kernel
  have h2 : ∀ z, z ∈ [1, 2, 4, 8] → ∀ s, s < 9 → ∀ a, a < 10 → ∀ b, b < 10 → rl_rv z s a = rl_rv z s b → a = b := by decide +kernel
  exact ⟨h1 z hz s hs, fun a b ha hb => h2 z hz s hs a ha b hb, rfl⟩
theorem rl_ra_nm : ∀ z, z ∈ [1, 2, 4, 8] → ∀ s, s < 9 → rl_nm (rl_ra (nI z) (nI s) 9) (rl_rv z s) := by
  intro z hz s hs
  have h1 : ∀ z, z ∈ [1, 2, 4, 8] → ∀ s, s < 9 → ∀ b, b < 10 → ((rl_ra (nI z) (nI s) 9 >>> ((4 * nI b).toInt64 &&& 63)) &&& 15).toInt32 = nI (rl_rv z s b) := by decide +kernel
  exact h1 z hz s hs
theorem rl_ren52 {post : Int64 → Prop} (z x4 : Int32) (H : post (rl_ra z x4 9)) : ∃ n, wL_renamed_52 post z x4 n 0 1 :=
  pk_loop (fun n i s => wL_renamed_52 post z x4 n s (nI i)) (fun i s => 1 ≤ i ∧ s = rl_ra z x4 (i - 1)) 10 1 0 (by omega) ⟨by omega, rfl⟩
    (fun n s h => pk_le 10 10 (fun _ => by rw [h.2]; exact H) (fun z => absurd z (by omega)))
    (fun n i s hi h hw => pk_le 10 i (fun z => absurd z (by omega)) (fun _ => ⟨by decide, nm_e (nm_e (nm_r (nI_1 i) (hw _ ⟨by omega, by
          obtain ⟨h1, rfl⟩ := h
          obtain ⟨j, rfl⟩ : ∃ j, i = j + 1 := ⟨i - 1, by omega⟩
          rfl⟩)))⟩))
theorem rl_ren36 {post : Int64 → Prop} (x0 : Int32) (z : Nat) (hz : z ∈ [1, 2, 4, 8]) (H : ∀ names ν, rl_nu 10 ν → rl_nm names ν → post names) : wL_renamed_36 post x0 0 (nI z) := by
  have e : ((x0 >>> ((2 : Int32) &&& 31)) &&& 255) = nI ((x0 >>> ((2 : Int32) &&& 31)).toBitVec.toNat % 2 ^ 8) := pk_and _ 8 (by decide)
  have hm : (x0 >>> ((2 : Int32) &&& 31)).toBitVec.toNat % 2 ^ 8 < 2 ^ 8 := Nat.mod_lt _ (by decide)
  generalize (x0 >>> ((2 : Int32) &&& 31)).toBitVec.toNat % 2 ^ 8 = y at e hm
  have e2 : ((x0 >>> ((2 : Int32) &&& 31)) &&& 255) - ((x0 >>> ((2 : Int32) &&& 31)) &&& 255) / 9 * 9 = nI (y % 9) := by
    rw [e]
    exact pk_rem (d := 9) (by omega) (by omega) (by omega)
  have hs : y % 9 < 9 := Nat.mod_lt _ (by decide)
  exact ⟨by decide, nm_r e2 (rl_ren52 (nI z) (nI (y % 9)) (H _ _ (rl_rv_nu z hz _ hs) (rl_ra_nm z hz _ hs)))⟩
theorem rl_ren {post : Int64 → Prop} (x0 : Int32) (H : ∀ names ν, rl_nu 10 ν → rl_nm names ν → post names) : wpL_renamed post () x0 :=
  br_c (fun _ => rl_ren36 x0 1 (by decide) H) (fun _ => br_c (fun _ => rl_ren36 x0 2 (by decide) H) (fun _ => br_c (fun _ => rl_ren36 x0 4 (by decide) H) (fun _ => rl_ren36 x0 8 (by decide) H)))
end
section
/-! orderBlocks -/
theorem ob_201 (c left : Nat) (oA : Nat → Nat) (hc : left + c = 10) (hA : ∀ i, left ≤ i → i < 10 → oA i < 10) : ∀ m p, p + m = c → ∀ Pl : Nat → Int32, (∀ b, b < 10 → Pl b = -1 ∨ ∃ q, q < c ∧ Pl b = nI q) →
    ∃ P : Nat → Int32, (∀ b, b < 10 → P b = -1 ∨ ∃ q, q < c ∧ P b = nI q) ∧ ∀ ν, rl_nu 10 ν → ∀ n, m < n → ∀ {post : St1 → Prop} {rdy lps lng lbl ent edd wrt : Int32} {a1 a2 a3 a4 a5 a6 a7 a8 a9 a10 a11 a12 a13 a14 a15 a16 a17 a18 a19 : Nat → Int32}, (∀ i, i < p → a8 i = nI (ν (oA (left + i)))) → (∀ i, p ≤ i → left ≤ i → i < 10 → a8 i = nI (ν (oA i))) → (∀ b, b < 10 → a9 (ν b) = Pl b) →
      (∀ a8' a9' : Nat → Int32, (∀ i, i < c → a8' i = nI (ν (oA (left + i)))) → (∀ b, b < 10 → a9' (ν b) = P b) → post (rdy, nI c, lps, lng, lbl, ent, edd, wrt, a1, a2, a3, a4, a5, a6, a7, a8', a9', a10, a11, a12, a13, a14, a15, a16, a17, a18, a19)) →
      wX_orderBlocks_201 post (nI left) rdy (nI c) lps lng lbl ent edd wrt n (nI p) a1 a2 a3 a4 a5 a6 a7 a8 a9 a10 a11 a12 a13 a14 a15 a16 a17 a18 a19 := by
  intro m
  induction m with
  | zero =>
    intro p hp Pl hPl
    refine ⟨Pl, hPl, ?_⟩
    intro ν hν n hn post rdy lps lng lbl ent edd wrt a1 a2 a3 a4 a5 a6 a7 a8 a9 a10 a11 a12 a13 a14 a15 a16 a17 a18 a19 h1 h2 h3 H
    cases n with
    | zero => omega
    | succ n => exact pk_le c p (fun _ => H a8 a9 (fun i hi => h1 i (by omega)) h3) (fun z => absurd z (by omega))
  | succ m ih =>
    intro p hp Pl hPl
    have hb := hA (left + p) (by omega) (by omega)
    obtain ⟨P, hP, W⟩ := ih (p + 1) (by omega) (upd Pl (oA (left + p)) (nI p)) (fun b h => by
      by_cases e : b = oA (left + p)
      · rw [e, pk_us]
        exact Or.inr ⟨p, by omega, rfl⟩
      · rw [pk_un e]
        exact hPl b h)
    refine ⟨P, hP, ?_⟩
    intro ν hν n hn post rdy lps lng lbl ent edd wrt a1 a2 a3 a4 a5 a6 a7 a8 a9 a10 a11 a12 a13 a14 a15 a16 a17 a18 a19 h1 h2 h3 H
    cases n with
    | zero => omega
    | succ n =>
      have hv := hν.1 _ hb
      have e0 : nI left + nI p = nI (left + p) := nI_add left p
      have e1 : (nI left + nI p).toNatClampNeg = left + p := by rw [e0, nI_clamp (by omega)]
      have e2 : upd a8 (nI p).toNatClampNeg (a8 (nI left + nI p).toNatClampNeg) = upd a8 p (nI (ν (oA (left + p)))) := by
        rw [e1, nI_clamp (by omega), h2 (left + p) (by omega) (by omega) (by omega)]
      have e3 : upd a8 p (nI (ν (oA (left + p)))) (nI p).toNatClampNeg = nI (ν (oA (left + p))) := by rw [nI_clamp (by omega), pk_us]
      have e4 : upd a9 (upd a8 p (nI (ν (oA (left + p)))) (nI p).toNatClampNeg).toNatClampNeg (nI p) = upd a9 (ν (oA (left + p))) (nI p) := by
        rw [e3, nI_clamp (by omega)]
      refine pk_le c p (fun z => absurd z (by omega)) (fun _ => ⟨pk_in (left + p) 10 (by omega) e0, pk_in p 10 (by omega), nm_r e2 ⟨pk_in p 10 (by omega), pk_in (ν (oA (left + p))) 10 hv e3, nm_r e4 (nm_r (nI_1 p) ?_)⟩⟩)
      refine W ν hν n (by omega) (fun i hi => ?_) (fun i hi hi2 hi3 => ?_) (rl_upd hν h3 hb (nI p)) H
      · by_cases e : i = p
        · rw [e, pk_us]
        · rw [pk_un e]
          exact h1 i (by omega)
      · rw [pk_un (by omega)]
        exact h2 i (by omega) hi2 hi3
/-- the walk's head: what stands on the stack is read, its side counted up -/
theorem ob_head {post : St1 → Prop} {rdy cnt lps lng lbl ent edd wrt : Int32} {a1 a2 a3 a4 a5 a6 a7 a8 a9 a10 a11 a12 a13 a14 a15 a16 a17 a18 a19 : Nat → Int32} {n left d stp s b : Nat} {met z : Int32} (hd : d < 10) (hstp : stp < 40) (hs : s ≤ 2) (hb : b < 10) (h10 : a10 d = nI b) (h11 : a11 d = nI s) (hz0 : s = 0 → a6 b = z) (hz1 : s = 1 → a7 b = z) (hz2 : s = 2 → z = -1)
    (H : wX_orderBlocks_120 post (wX_orderBlocks_45 post rdy cnt lps lng lbl ent edd wrt n) (nI left) met (nI (d + 1)) (nI stp) (nI b) (nI s) z rdy cnt lps lng lbl ent edd wrt a1 a2 a3 a4 a5 a6 a7 a8 a9 a10 (upd a11 d (nI (s + 1))) a12 a13 a14 a15 a16 a17 a18 a19) :
    wX_orderBlocks_45 post rdy cnt lps lng lbl ent edd wrt (n + 1) (nI left) met (nI (d + 1)) (nI stp) a1 a2 a3 a4 a5 a6 a7 a8 a9 a10 a11 a12 a13 a14 a15 a16 a17 a18 a19 := by
  have e : nI (d + 1) - 1 = nI d := nI_pred d
  have e2 : (nI (d + 1) - 1).toNatClampNeg = d := by rw [e, nI_clamp (by omega)]
  have e3 : a10 (nI (d + 1) - 1).toNatClampNeg = nI b := by rw [e2, h10]
  have e4 : a11 (nI (d + 1) - 1).toNatClampNeg = nI s := by rw [e2, h11]
  have e5 : upd a11 (nI (d + 1) - 1).toNatClampNeg (a11 (nI (d + 1) - 1).toNatClampNeg + 1) = upd a11 d (nI (s + 1)) := by rw [e2, h11, nI_1]
  have hv : vp_in (nI (d + 1) - 1) 11 := pk_in d 11 (by omega) e
  refine pk_le 40 stp (fun z => absurd z (by omega)) (fun _ => pk_le (d + 1) 0 (fun z => absurd z (by omega)) (fun _ => ⟨hv, nm_r e3 ⟨hv, nm_r e4 ⟨hv, hv, nm_r e5 ?_⟩⟩⟩))
  refine pk_eq s 0 (fun z => ⟨pk_in b 10 hb, ?_⟩) (fun z => pk_eq s 1 (fun z' => ⟨pk_in b 10 hb, ?_⟩) (fun z' => ?_))
  · rw [nI_clamp (by omega), hz0 z]
    exact H
  · rw [nI_clamp (by omega), hz1 z']
    exact H
  · rw [hz2 (by omega)] at H
    exact H
theorem ob_pop {post : St1 → Prop} {J : Int32 → Int32 → Int32 → Int32 → (Nat → Int32) → (Nat → Int32) → (Nat → Int32) → (Nat → Int32) → (Nat → Int32) → (Nat → Int32) → (Nat → Int32) → (Nat → Int32) → (Nat → Int32) → (Nat → Int32) → (Nat → Int32) → (Nat → Int32) → (Nat → Int32) → (Nat → Int32) → (Nat → Int32) → (Nat → Int32) → (Nat → Int32) → (Nat → Int32) → (Nat → Int32) → Prop} {rdy cnt lps lng lbl ent edd wrt : Int32} {a1 a2 a3 a4 a5 a6 a7 a8 a9 a10 a11 a12 a13 a14 a15 a16 a17 a18 a19 : Nat → Int32} {left d stp : Nat} {met x z : Int32} (hl : left < 10)
    (H : J (nI left) met (nI d) (nI (stp + 1)) a1 a2 a3 a4 a5 a6 a7 (upd a8 left x) a9 a10 a11 a12 a13 a14 a15 a16 a17 a18 a19) :
    wX_orderBlocks_120 post J (nI (left + 1)) met (nI (d + 1)) (nI stp) x (nI 2) z rdy cnt lps lng lbl ent edd wrt a1 a2 a3 a4 a5 a6 a7 a8 a9 a10 a11 a12 a13 a14 a15 a16 a17 a18 a19 := by
  have e : upd a8 (nI left).toNatClampNeg x = upd a8 left x := by rw [nI_clamp (by omega)]
  exact pk_eq 2 2 (fun _ => nm_r (pk_m1 left) ⟨pk_in left 10 hl, nm_r e (nm_r (pk_m1 d) (nm_r (nI_1 stp) H))⟩) (fun z => absurd rfl z)
theorem ob_no {post : St1 → Prop} {J : Int32 → Int32 → Int32 → Int32 → (Nat → Int32) → (Nat → Int32) → (Nat → Int32) → (Nat → Int32) → (Nat → Int32) → (Nat → Int32) → (Nat → Int32) → (Nat → Int32) → (Nat → Int32) → (Nat → Int32) → (Nat → Int32) → (Nat → Int32) → (Nat → Int32) → (Nat → Int32) → (Nat → Int32) → (Nat → Int32) → (Nat → Int32) → (Nat → Int32) → (Nat → Int32) → Prop} {rdy cnt lps lng lbl ent edd wrt : Int32} {a1 a2 a3 a4 a5 a6 a7 a8 a9 a10 a11 a12 a13 a14 a15 a16 a17 a18 a19 : Nat → Int32} {stp s : Nat} {x1 x3 met x z : Int32} (hs : s < 2) (hz : z < 0)
    (H : J x1 met x3 (nI (stp + 1)) a1 a2 a3 a4 a5 a6 a7 a8 a9 a10 a11 a12 a13 a14 a15 a16 a17 a18 a19) :
    wX_orderBlocks_120 post J x1 met x3 (nI stp) x (nI s) z rdy cnt lps lng lbl ent edd wrt a1 a2 a3 a4 a5 a6 a7 a8 a9 a10 a11 a12 a13 a14 a15 a16 a17 a18 a19 :=
  pk_eq s 2 (fun z => absurd z (by omega)) (fun _ => br_t hz (nm_r (nI_1 stp) H))
theorem ob_met {post : St1 → Prop} {J : Int32 → Int32 → Int32 → Int32 → (Nat → Int32) → (Nat → Int32) → (Nat → Int32) → (Nat → Int32) → (Nat → Int32) → (Nat → Int32) → (Nat → Int32) → (Nat → Int32) → (Nat → Int32) → (Nat → Int32) → (Nat → Int32) → (Nat → Int32) → (Nat → Int32) → (Nat → Int32) → (Nat → Int32) → (Nat → Int32) → (Nat → Int32) → (Nat → Int32) → (Nat → Int32) → Prop} {rdy cnt lps lng lbl ent edd wrt : Int32} {a1 a2 a3 a4 a5 a6 a7 a8 a9 a10 a11 a12 a13 a14 a15 a16 a17 a18 a19 : Nat → Int32} {stp s t : Nat} {x1 x3 met x : Int32} (hs : s < 2) (ht : t < 10) (hm : rl_bt met t = true)
    (H : J x1 met x3 (nI (stp + 1)) a1 a2 a3 a4 a5 a6 a7 a8 a9 a10 a11 a12 a13 a14 a15 a16 a17 a18 a19) :
    wX_orderBlocks_120 post J x1 met x3 (nI stp) x (nI s) (nI t) rdy cnt lps lng lbl ent edd wrt a1 a2 a3 a4 a5 a6 a7 a8 a9 a10 a11 a12 a13 a14 a15 a16 a17 a18 a19 :=
  pk_eq s 2 (fun z => absurd z (by omega)) (fun _ => br_f (nI_pos (by omega)) (br_f (fun z => by rw [(rl_b1 met (by omega)).mp z] at hm; exact absurd hm (by decide)) (nm_r (nI_1 stp) H)))
theorem ob_push {post : St1 → Prop} {J : Int32 → Int32 → Int32 → Int32 → (Nat → Int32) → (Nat → Int32) → (Nat → Int32) → (Nat → Int32) → (Nat → Int32) → (Nat → Int32) → (Nat → Int32) → (Nat → Int32) → (Nat → Int32) → (Nat → Int32) → (Nat → Int32) → (Nat → Int32) → (Nat → Int32) → (Nat → Int32) → (Nat → Int32) → (Nat → Int32) → (Nat → Int32) → (Nat → Int32) → (Nat → Int32) → Prop} {rdy cnt lps lng lbl ent edd wrt : Int32} {a1 a2 a3 a4 a5 a6 a7 a8 a9 a10 a11 a12 a13 a14 a15 a16 a17 a18 a19 : Nat → Int32} {stp s t D : Nat} {x1 met x : Int32} (hs : s < 2) (ht : t < 10) (hD : D < 11) (hm : rl_bt met t = false)
    (H : J x1 (met ||| ((1 : Int32) <<< (nI t &&& 31))) (nI (D + 1)) (nI (stp + 1)) a1 a2 a3 a4 a5 a6 a7 a8 a9 (upd a10 D (nI t)) (upd a11 D 0) a12 a13 a14 a15 a16 a17 a18 a19) :
    wX_orderBlocks_120 post J x1 met (nI D) (nI stp) x (nI s) (nI t) rdy cnt lps lng lbl ent edd wrt a1 a2 a3 a4 a5 a6 a7 a8 a9 a10 a11 a12 a13 a14 a15 a16 a17 a18 a19 := by
  have e1 : upd a10 (nI D).toNatClampNeg (nI t) = upd a10 D (nI t) := by rw [nI_clamp (by omega)]
  have e2 : upd a11 (nI D).toNatClampNeg 0 = upd a11 D 0 := by rw [nI_clamp (by omega)]
  exact pk_eq s 2 (fun z => absurd z (by omega)) (fun _ => br_f (nI_pos (by omega)) (br_t ((rl_b1 met (by omega)).mpr hm) (nm_e ⟨pk_in D 11 hD, nm_r e1 ⟨pk_in D 11 hD, nm_r e2 (nm_r (nI_1 D) (nm_r (nI_1 stp) H))⟩⟩)))
/-- the order's picture: c blocks, the p-th is ord p, P b: its place or -1 -/
def rl_ok1 (c : Nat) (ord : Nat → Nat) (P : Nat → Int32) : Prop := 1 ≤ c ∧ c ≤ 10 ∧ (∀ p, p < c → ord p < 10) ∧ (∀ b, b < 10 → P b = -1 ∨ ∃ q, q < c ∧ P b = nI q)
/-- the walk's picture -/
def ob_I (left D stp : Nat) (M side stk oA : Nat → Nat) : Prop := left ≤ 10 ∧ rl_ct M 10 = D + (10 - left) ∧ 0 < D + (10 - left) ∧ (∀ i, i < D → stk i < 10) ∧ (∀ i, i < D → side i ≤ 2) ∧ (∀ i, left ≤ i → i < 10 → oA i < 10) ∧ stp = 3 * (10 - left) + rl_sm side D
theorem ob_I_no {left d stp : Nat} {M side stk oA : Nat → Nat} (h : ob_I left (d + 1) stp M side stk oA) (hs : side d < 2) : ob_I left (d + 1) (stp + 1) M (rl_upn side d (side d + 1)) stk oA := by
  obtain ⟨h1, h2, h3, h4, h5, h6, h7⟩ := h
  have e := rl_sm_up (s := side) (k := d) (v := side d + 1) (d + 1) (by omega)
  refine ⟨h1, h2, h3, h4, fun i hi => ?_, h6, by omega⟩
  by_cases ei : i = d
  · rw [ei, rl_upn_s]
    omega
  · rw [rl_upn_n ei]
    exact h5 i hi
theorem ob_I_push {left d stp t : Nat} {M side stk oA : Nat → Nat} (h : ob_I left (d + 1) stp M side stk oA) (hs : side d < 2) (ht : t < 10) (hm : M t = 0) : ob_I left (d + 2) (stp + 1) (rl_upn M t 1) (rl_upn (rl_upn side d (side d + 1)) (d + 1) 0) (rl_upn stk (d + 1) t) oA := by
  obtain ⟨h1, h2, h3, h4, h5, h6, h7⟩ := ob_I_no h hs
  have e1 := rl_ct_up hm (v := 1) (by omega) 10 ht
  have e2 : rl_sm (rl_upn (rl_upn side d (side d + 1)) (d + 1) 0) (d + 2) = rl_sm (rl_upn side d (side d + 1)) (d + 1) := by
    show rl_sm (rl_upn (rl_upn side d (side d + 1)) (d + 1) 0) (d + 1) + rl_upn (rl_upn side d (side d + 1)) (d + 1) 0 (d + 1) = _
    rw [rl_upn_s, rl_sm_lo (d + 1) (Nat.le_refl _)]
    omega
  refine ⟨h1, by omega, by omega, fun i hi => ?_, fun i hi => ?_, h6, by omega⟩
  · by_cases ei : i = d + 1
    · rw [ei, rl_upn_s]
      exact ht
    · rw [rl_upn_n ei]
      exact h4 i (by omega)
  · by_cases ei : i = d + 1
    · rw [ei, rl_upn_s]
      omega
    · rw [rl_upn_n ei]
      exact h5 i (by omega)
theorem ob_I_pop {left d stp : Nat} {M side stk oA : Nat → Nat} (h : ob_I (left + 1) (d + 1) stp M side stk oA) (hs : side d = 2) : ob_I left d (stp + 1) M (rl_upn side d (side d + 1)) stk (rl_upn oA left (stk d)) := by
  obtain ⟨h1, h2, h3, h4, h5, h6, h7⟩ := h
  have e : rl_sm (rl_upn side d (side d + 1)) d = rl_sm side d := rl_sm_lo d (Nat.le_refl d)
  have e7 : stp = 3 * (10 - (left + 1)) + (rl_sm side d + side d) := h7
  refine ⟨by omega, by omega, by omega, fun i hi => h4 i (by omega), fun i hi => ?_, fun i hi hi2 => ?_, by omega⟩
  · rw [rl_upn_n (by omega)]
    exact h5 i (by omega)
  · by_cases ei : i = left
    · rw [ei, rl_upn_s]
      exact h4 d (by omega)
    · rw [rl_upn_n ei]
      exact h6 i (by omega) hi2
theorem ob_I_stp {left D stp : Nat} {M side stk oA : Nat → Nat} (h : ob_I left D stp M side stk oA) : stp ≤ 30 ∧ D + (10 - left) ≤ 10 := by
  obtain ⟨h1, h2, h3, h4, h5, h6, h7⟩ := h
  have e1 := rl_ct_le M 10
  have e2 := rl_sm_le D h5
  omega
theorem ob_45 (F S : Nat → Option Nat) (hF : ∀ b, b < 10 → ∀ t, F b = some t → t < 10) (hS : ∀ b, b < 10 → ∀ t, S b = some t → t < 10) : ∀ m stp, stp + m = 40 → ∀ (left D : Nat) (M side stk oA : Nat → Nat), ob_I left D stp M side stk oA →
    ∃ (c : Nat) (ord : Nat → Nat) (P : Nat → Int32), rl_ok1 c ord P ∧ ∀ ν, rl_nu 10 ν → ∀ n, m < n → ∀ {post : St1 → Prop} {rdy cnt lps lng lbl ent edd wrt : Int32} {a1 a2 a3 a4 a5 a6 a7 a8 a9 a10 a11 a12 a13 a14 a15 a16 a17 a18 a19 : Nat → Int32} {met : Int32}, (∀ b, b < 10 → a6 (ν b) = rl_sv ν (F b)) → (∀ b, b < 10 → a7 (ν b) = rl_sv ν (S b)) → (∀ b, b < 10 → rl_bt met (ν b) = decide (0 < M b)) →
      (∀ i, i < D → a10 i = nI (ν (stk i))) → (∀ i, i < D → a11 i = nI (side i)) → (∀ i, left ≤ i → i < 10 → a8 i = nI (ν (oA i))) → (∀ b, b < 10 → a9 (ν b) = -1) →
      (∀ a8' a9' a10' a11' : Nat → Int32, (∀ p, p < c → a8' p = nI (ν (ord p))) → (∀ b, b < 10 → a9' (ν b) = P b) → post (rdy, nI c, lps, lng, lbl, ent, edd, wrt, a1, a2, a3, a4, a5, a6, a7, a8', a9', a10', a11', a12, a13, a14, a15, a16, a17, a18, a19)) →
      wX_orderBlocks_45 post rdy cnt lps lng lbl ent edd wrt n (nI left) met (nI D) (nI stp) a1 a2 a3 a4 a5 a6 a7 a8 a9 a10 a11 a12 a13 a14 a15 a16 a17 a18 a19 := by
  intro m
  induction m with
  | zero =>
    intro stp hm left D M side stk oA hI
    have := ob_I_stp hI
    omega
  | succ m ih =>
    intro stp hm left D M side stk oA hI
    have hstp := ob_I_stp hI
    cases D with
    | zero =>
      obtain ⟨h1, h2, h3, h4, h5, h6, h7⟩ := hI
      obtain ⟨P, hP, W⟩ := ob_201 (10 - left) left oA (by omega) h6 (10 - left) 0 (by omega) (fun _ => -1) (fun b _ => Or.inl rfl)
      refine ⟨10 - left, fun p => oA (left + p), P, ⟨by omega, by omega, fun p hp => h6 _ (by omega) (by omega), hP⟩, ?_⟩
      intro ν hν n hn post rdy cnt lps lng lbl ent edd wrt a1 a2 a3 a4 a5 a6 a7 a8 a9 a10 a11 a12 a13 a14 a15 a16 a17 a18 a19 met g1 g2 g3 g4 g5 g6 g7 H
      cases n with
      | zero => omega
      | succ n =>
        have e : (10 : Int32) - nI left = nI (10 - left) := pk_sub (a := 10) h1
        exact pk_le 40 stp (fun z => absurd z (by omega)) (fun _ => pk_le 0 0 (fun _ => nm_r e ⟨10 - left + 1, W ν hν (10 - left + 1) (by omega) (fun i hi => absurd hi (by omega)) (fun i _ hi hi2 => g6 i hi hi2) g7 (fun a8' a9' q1 q2 => H a8' a9' a10 a11 q1 q2)⟩) (fun z => absurd z (by omega)))
    | succ d =>
      have hI' := hI
      obtain ⟨h1, h2, h3, h4, h5, h6, h7⟩ := hI
      have hb := h4 d (by omega)
      have hs := h5 d (by omega)
      have hsd : ∀ (ν : Nat → Nat) (a11 : Nat → Int32), (∀ i, i < d + 1 → a11 i = nI (side i)) → ∀ i, i < d + 1 → upd a11 d (nI (side d + 1)) i = nI (rl_upn side d (side d + 1) i) := by
        intro ν a11 g i hi
        by_cases ei : i = d
        · rw [ei, pk_us, rl_upn_s]
        · rw [pk_un ei, rl_upn_n ei]
          exact g i hi
      by_cases e2 : side d = 2
      · -- the block is left
        obtain ⟨l, rfl⟩ : ∃ l, left = l + 1 := ⟨left - 1, by omega⟩
        obtain ⟨c, ord, P, hP, W⟩ := ih (stp + 1) (by omega) _ _ _ _ _ _ (ob_I_pop hI' e2)
        refine ⟨c, ord, P, hP, ?_⟩
        intro ν hν n hn post rdy cnt lps lng lbl ent edd wrt a1 a2 a3 a4 a5 a6 a7 a8 a9 a10 a11 a12 a13 a14 a15 a16 a17 a18 a19 met g1 g2 g3 g4 g5 g6 g7 H
        cases n with
        | zero => omega
        | succ n =>
          refine ob_head (s := side d) (b := ν (stk d)) (z := -1) (by omega) (by omega) hs (hν.1 _ hb) (g4 d (by omega)) (g5 d (by omega)) (fun z => by omega) (fun z => by omega) (fun _ => rfl) ?_
          rw [show nI (side d) = nI 2 by rw [e2]]
          refine ob_pop (by omega) (W ν hν n (by omega) g1 g2 g3 (fun i hi => g4 i (by omega)) (fun i hi => hsd ν a11 g5 i (by omega)) (fun i hi hi2 => ?_) g7 (fun a8' a9' a10' a11' q1 q2 => H a8' a9' a10' a11' q1 q2))
          by_cases ei : i = l
          · rw [ei, pk_us, rl_upn_s]
          · rw [pk_un ei, rl_upn_n ei]
            exact g6 i (by omega) hi2
      · have hs2 : side d < 2 := by omega
        have hS0 : ∀ (ν : Nat → Nat) (o : Option Nat) (a6 a7 : Nat → Int32), o = (if side d = 0 then F (stk d) else S (stk d)) → (∀ b, b < 10 → a6 (ν b) = rl_sv ν (F b)) → (∀ b, b < 10 → a7 (ν b) = rl_sv ν (S b)) → (side d = 0 → a6 (ν (stk d)) = rl_sv ν o) ∧ (side d = 1 → a7 (ν (stk d)) = rl_sv ν o) := by
          intro ν o a6 a7 ho q1 q2
          refine ⟨fun z => ?_, fun z => ?_⟩
          · rw [ho, if_pos z]
            exact q1 _ hb
          · rw [ho, if_neg (by omega)]
            exact q2 _ hb
        cases ho : (if side d = 0 then F (stk d) else S (stk d)) with
        | none =>
          obtain ⟨c, ord, P, hP, W⟩ := ih (stp + 1) (by omega) _ _ _ _ _ _ (ob_I_no hI' hs2)
          refine ⟨c, ord, P, hP, ?_⟩
          intro ν hν n hn post rdy cnt lps lng lbl ent edd wrt a1 a2 a3 a4 a5 a6 a7 a8 a9 a10 a11 a12 a13 a14 a15 a16 a17 a18 a19 met g1 g2 g3 g4 g5 g6 g7 H
          cases n with
          | zero => omega
          | succ n =>
            obtain ⟨q1, q2⟩ := hS0 ν none a6 a7 ho.symm g1 g2
            refine ob_head (s := side d) (b := ν (stk d)) (z := -1) (by omega) (by omega) hs (hν.1 _ hb) (g4 d (by omega)) (g5 d (by omega)) q1 q2 (fun _ => rfl) ?_
            exact ob_no hs2 (by decide) (W ν hν n (by omega) g1 g2 g3 g4 (hsd ν a11 g5) g6 g7 H)
        | some t =>
          have ht : t < 10 := by
            by_cases z : side d = 0
            · rw [if_pos z] at ho
              exact hF _ hb t ho
            · rw [if_neg z] at ho
              exact hS _ hb t ho
          by_cases hm0 : M t = 0
          · obtain ⟨c, ord, P, hP, W⟩ := ih (stp + 1) (by omega) _ _ _ _ _ _ (ob_I_push hI' hs2 ht hm0)
            refine ⟨c, ord, P, hP, ?_⟩
            intro ν hν n hn post rdy cnt lps lng lbl ent edd wrt a1 a2 a3 a4 a5 a6 a7 a8 a9 a10 a11 a12 a13 a14 a15 a16 a17 a18 a19 met g1 g2 g3 g4 g5 g6 g7 H
            cases n with
            | zero => omega
            | succ n =>
              obtain ⟨q1, q2⟩ := hS0 ν (some t) a6 a7 ho.symm g1 g2
              have hlt := rl_ct_lt ht hm0
              refine ob_head (s := side d) (b := ν (stk d)) (z := nI (ν t)) (by omega) (by omega) hs (hν.1 _ hb) (g4 d (by omega)) (g5 d (by omega)) q1 q2 (fun z => absurd z (by omega)) ?_
              refine ob_push hs2 (hν.1 t ht) (by omega) (by rw [g3 t ht, hm0]; rfl) (W ν hν n (by omega) g1 g2 (fun b hb' => ?_) (fun i hi => ?_) (fun i hi => ?_) g6 g7 (fun a8' a9' a10' a11' q1 q2 => H a8' a9' a10' a11' q1 q2))
              · have hb1 := hν.1 b hb'
                have ht1 := hν.1 t ht
                rw [rl_b2 met (by omega) (by omega), g3 b hb']
                by_cases e : b = t
                · rw [e, rl_upn_s, decide_eq_true rfl]
                  simp
                · rw [rl_upn_n e, decide_eq_false (fun z => e (hν.2.1 b t hb' ht z)), Bool.or_false]
              · by_cases ei : i = d + 1
                · rw [ei, pk_us, rl_upn_s]
                · rw [pk_un ei, rl_upn_n ei]
                  exact g4 i (by omega)
              · by_cases ei : i = d + 1
                · rw [ei, pk_us, rl_upn_s]
                  rfl
                · rw [pk_un ei, rl_upn_n ei]
                  exact hsd ν a11 g5 i (by omega)
          · obtain ⟨c, ord, P, hP, W⟩ := ih (stp + 1) (by omega) _ _ _ _ _ _ (ob_I_no hI' hs2)
            refine ⟨c, ord, P, hP, ?_⟩
            intro ν hν n hn post rdy cnt lps lng lbl ent edd wrt a1 a2 a3 a4 a5 a6 a7 a8 a9 a10 a11 a12 a13 a14 a15 a16 a17 a18 a19 met g1 g2 g3 g4 g5 g6 g7 H
            cases n with
            | zero => omega
            | succ n =>
              obtain ⟨q1, q2⟩ := hS0 ν (some t) a6 a7 ho.symm g1 g2
              refine ob_head (s := side d) (b := ν (stk d)) (z := nI (ν t)) (by omega) (by omega) hs (hν.1 _ hb) (g4 d (by omega)) (g5 d (by omega)) q1 q2 (fun z => absurd z (by omega)) ?_
              exact ob_met hs2 (hν.1 t ht) (by rw [g3 t ht]; exact decide_eq_true (by omega)) (W ν hν n (by omega) g1 g2 g3 g4 (hsd ν a11 g5) g6 g7 H)
theorem ob_main (F S : Nat → Option Nat) (hF : ∀ b, b < 10 → ∀ t, F b = some t → t < 10) (hS : ∀ b, b < 10 → ∀ t, S b = some t → t < 10) :
    ∃ (c : Nat) (ord : Nat → Nat) (P : Nat → Int32), rl_ok1 c ord P ∧ ∀ ν, rl_nu 10 ν → ∀ {post : St1 → Prop} {rdy cnt lps lng lbl ent edd wrt : Int32} {a1 a2 a3 a4 a5 a6 a7 a8 a9 a10 a11 a12 a13 a14 a15 a16 a17 a18 a19 : Nat → Int32}, (∀ b, b < 10 → a6 (ν b) = rl_sv ν (F b)) → (∀ b, b < 10 → a7 (ν b) = rl_sv ν (S b)) →
      (∀ a8' a9' a10' a11' : Nat → Int32, (∀ p, p < c → a8' p = nI (ν (ord p))) → (∀ b, b < 10 → a9' (ν b) = P b) → post (rdy, nI c, lps, lng, lbl, ent, edd, wrt, a1, a2, a3, a4, a5, a6, a7, a8', a9', a10', a11', a12, a13, a14, a15, a16, a17, a18, a19)) →
      wpX_orderBlocks post (rdy, cnt, lps, lng, lbl, ent, edd, wrt, a1, a2, a3, a4, a5, a6, a7, a8, a9, a10, a11, a12, a13, a14, a15, a16, a17, a18, a19) := by
  have hI : ob_I 10 1 0 (rl_upn (fun _ => 0) 0 1) (fun _ => 0) (fun _ => 0) (fun _ => 0) := by
    refine ⟨by omega, ?_, by omega, fun i hi => by show 0 < 10; omega, fun i hi => by show 0 ≤ 2; omega, fun i h1 h2 => by omega, rfl⟩
    rw [rl_ct_up rfl (by omega) 10 (by omega), rl_ct_z 10 (fun _ _ => rfl)]
  obtain ⟨c, ord, P, hP, W⟩ := ob_45 F S hF hS 40 0 (by omega) _ _ _ _ _ _ hI
  refine ⟨c, ord, P, hP, ?_⟩
  intro ν hν post rdy cnt lps lng lbl ent edd wrt a1 a2 a3 a4 a5 a6 a7 a8 a9 a10 a11 a12 a13 a14 a15 a16 a17 a18 a19 g1 g2 H
  unfold wpX_orderBlocks
  refine pk_loop (fun n i s => wX_orderBlocks_2 post rdy cnt lps lng lbl ent edd wrt n (nI i) a1 a2 a3 a4 a5 a6 a7 a8 s a10 a11 a12 a13 a14 a15 a16 a17 a18 a19) (fun i s => ∀ j, j < i → s j = -1) 10 0 a9 (by omega) (fun j hj => absurd hj (by omega)) (fun n s h => pk_le 10 10 (fun _ => nm_e (nm_e ⟨41, ?_⟩)) (fun z => absurd z (by omega))) (fun n i s hi h hw => pk_le 10 i (fun z => absurd z (by omega)) (fun _ => ⟨pk_in i 10 hi, nm_e (nm_r (nI_1 i) (hw _ (fun j hj => ?_)))⟩))
  · refine W ν hν 41 (by omega) g1 g2 (fun b hb => ?_) (fun i hi => ?_) (fun i hi => ?_) (fun i h1 h2 => absurd h1 (by omega)) (fun b hb => h _ (hν.1 b hb)) (fun a8' a9' a10' a11' q1 q2 => H a8' a9' a10' a11' q1 q2)
    · have hb1 := hν.1 b hb
      rw [rl_bone _ (by omega)]
      by_cases e : b = 0
      · rw [e, hν.2.2, rl_upn_s]
        rfl
      · rw [rl_upn_n e, decide_eq_false (fun z => e (hν.2.1 b 0 hb (by omega) (by rw [z, hν.2.2])))]
        rfl
    · rw [show i = 0 by omega, pk_us]
      show (0 : Int32) = nI (ν 0)
      rw [hν.2.2]
      rfl
    · rw [show i = 0 by omega, pk_us]
      rfl
  · rw [nI_clamp (by omega)]
    by_cases e : j = i
    · rw [e, pk_us]
    · rw [pk_un e]
      exact h j (by omega)
end
section
/-! addLoop, findLoops -/
/-- the table of loops: k of them, from f to t, no two begin alike -/
def rl_LT (c k : Nat) (f t : Nat → Int32) : Prop := (∀ l, l < k → (f l = -1 ∨ ∃ q, q < c ∧ f l = nI q) ∧ (∃ e, e < c ∧ t l = nI e) ∧ f l ≤ t l) ∧ (∀ l l', l < k → l' < k → f l = f l' → l = l')
theorem al_walk {post : St1 → Prop} {x1 x2 : Int32} {rdy cnt lng lbl ent edd wrt : Int32} {a1 a2 a3 a4 a5 a6 a7 a8 a9 a10 a11 a12 a13 a14 a15 a16 a17 a18 a19 : Nat → Int32} {k l : Nat} (hk : k ≤ 20) (hl : l ≤ k) (hne : ∀ i, i < l → ¬ a12 i = x1)
    (H : ∀ n, wX_addLoop_2 post x1 x2 rdy cnt (nI k) lng lbl ent edd wrt a1 a2 a3 a4 a5 a6 a7 a8 a9 a10 a11 a12 a13 a14 a15 a16 a17 a18 a19 (n + 1) (nI l)) : ∀ m j, j + m = l → ∀ n, m < n → wX_addLoop_2 post x1 x2 rdy cnt (nI k) lng lbl ent edd wrt a1 a2 a3 a4 a5 a6 a7 a8 a9 a10 a11 a12 a13 a14 a15 a16 a17 a18 a19 n (nI j) := by
  intro m
  induction m with
  | zero =>
    intro j hj n hn
    cases n with
    | zero => omega
    | succ n =>
      rw [show j = l by omega]
      exact H n
  | succ m ih =>
    intro j hj n hn
    cases n with
    | zero => omega
    | succ n => exact pk_le k j (fun z => absurd z (by omega)) (fun _ => ⟨pk_in j 20 (by omega), br_f (by rw [nI_clamp (by omega)]; exact hne j (by omega)) (nm_r (nI_1 j) (ih (j + 1) (by omega) n (by omega)))⟩)
theorem al_main {c k : Nat} {f t : Nat → Int32} (hT : rl_LT c k f t) (hk : k < 20) (a : Int32) (ha : a = -1 ∨ ∃ q, q < c ∧ a = nI q) {p : Nat} (hp : p < c) (hap : a ≤ nI p) :
    ∃ (k' : Nat) (f' t' : Nat → Int32), rl_LT c k' f' t' ∧ k ≤ k' ∧ k' ≤ k + 1 ∧ (∃ l, l < k' ∧ f' l = a ∧ nI p ≤ t' l) ∧ (∀ l, l < k → f' l = f l ∧ t l ≤ t' l) ∧
      ∀ {post : St1 → Prop} {rdy cnt lng lbl ent edd wrt : Int32} {a1 a2 a3 a4 a5 a6 a7 a8 a9 a10 a11 a14 a15 a16 a17 a18 a19 : Nat → Int32}, post (rdy, cnt, nI k', lng, lbl, ent, edd, wrt, a1, a2, a3, a4, a5, a6, a7, a8, a9, a10, a11, f', t', a14, a15, a16, a17, a18, a19) → wpX_addLoop post (rdy, cnt, nI k, lng, lbl, ent, edd, wrt, a1, a2, a3, a4, a5, a6, a7, a8, a9, a10, a11, f, t, a14, a15, a16, a17, a18, a19) a (nI p) := by
  by_cases h : ∃ l, l < k ∧ f l = a
  · obtain ⟨l, hl, hfl⟩ := h
    have hne : ∀ i, i < l → ¬ f i = a := fun i hi z => absurd (hT.2 i l (by omega) hl (by rw [z, hfl])) (by omega)
    by_cases hle : nI p ≤ t l
    · refine ⟨k, f, t, hT, by omega, by omega, ⟨l, hl, hfl, hle⟩, fun i _ => ⟨rfl, Int32.le_refl _⟩, ?_⟩
      intro post rdy cnt lng lbl ent edd wrt a1 a2 a3 a4 a5 a6 a7 a8 a9 a10 a11 a14 a15 a16 a17 a18 a19 H
      unfold wpX_addLoop
      refine ⟨l + 1, al_walk (by omega) (by omega) hne (fun n => ?_) l 0 (by omega) (l + 1) (by omega)⟩
      exact pk_le k l (fun z => absurd z (by omega)) (fun _ => ⟨pk_in l 20 (by omega), br_t (by rw [nI_clamp (by omega)]; exact hfl) ⟨pk_in l 20 (by omega), br_t (by rw [nI_clamp (by omega)]; exact hle) H⟩⟩)
    · refine ⟨k, f, upd t l (nI p), ⟨fun i hi => ?_, hT.2⟩, by omega, by omega, ⟨l, hl, hfl, by rw [pk_us]; exact Int32.le_refl _⟩, fun i hi => ⟨rfl, ?_⟩, ?_⟩
      · by_cases e : i = l
        · rw [e, pk_us, hfl]
          exact ⟨ha, ⟨p, hp, rfl⟩, hap⟩
        · rw [pk_un e]
          exact hT.1 i hi
      · by_cases e : i = l
        · rw [e, pk_us]
          exact Int32.le_of_lt (Int32.not_le.mp hle)
        · rw [pk_un e]
          exact Int32.le_refl _
      intro post rdy cnt lng lbl ent edd wrt a1 a2 a3 a4 a5 a6 a7 a8 a9 a10 a11 a14 a15 a16 a17 a18 a19 H
      unfold wpX_addLoop
      have e : upd t (nI l).toNatClampNeg (nI p) = upd t l (nI p) := by rw [nI_clamp (by omega)]
      refine ⟨l + 1, al_walk (by omega) (by omega) hne (fun n => ?_) l 0 (by omega) (l + 1) (by omega)⟩
      exact pk_le k l (fun z => absurd z (by omega)) (fun _ => ⟨pk_in l 20 (by omega), br_t (by rw [nI_clamp (by omega)]; exact hfl) ⟨pk_in l 20 (by omega), br_f (by rw [nI_clamp (by omega)]; exact hle) ⟨pk_in l 20 (by omega), nm_r e H⟩⟩⟩)
  · have hne : ∀ i, i < k → ¬ f i = a := fun i hi z => h ⟨i, hi, z⟩
    refine ⟨k + 1, upd f k a, upd t k (nI p), ⟨fun i hi => ?_, fun i j hi hj z => ?_⟩, by omega, by omega, ⟨k, by omega, pk_us, by rw [pk_us]; exact Int32.le_refl _⟩, fun i hi => ?_, ?_⟩
    · by_cases e : i = k
      · rw [e, pk_us, pk_us]
        exact ⟨ha, ⟨p, hp, rfl⟩, hap⟩
      · rw [pk_un e, pk_un e]
        exact hT.1 i (by omega)
    · by_cases ei : i = k
      · by_cases ej : j = k
        · omega
        · rw [ei, pk_us, pk_un ej] at z
          exact absurd z.symm (hne j (by omega))
      · by_cases ej : j = k
        · rw [ej, pk_us, pk_un ei] at z
          exact absurd z (hne i (by omega))
        · rw [pk_un ei, pk_un ej] at z
          exact hT.2 i j (by omega) (by omega) z
    · rw [pk_un (by omega), pk_un (by omega)]
      exact ⟨rfl, Int32.le_refl _⟩
    intro post rdy cnt lng lbl ent edd wrt a1 a2 a3 a4 a5 a6 a7 a8 a9 a10 a11 a14 a15 a16 a17 a18 a19 H
    unfold wpX_addLoop
    have e1 : upd f (nI k).toNatClampNeg a = upd f k a := by rw [nI_clamp (by omega)]
    have e2 : upd t (nI k).toNatClampNeg (nI p) = upd t k (nI p) := by rw [nI_clamp (by omega)]
    refine ⟨k + 1, al_walk (by omega) (Nat.le_refl k) hne (fun n => ?_) k 0 (by omega) (k + 1) (by omega)⟩
    exact pk_le k k (fun _ => ⟨pk_in k 20 hk, nm_r e1 ⟨pk_in k 20 hk, nm_r e2 (nm_r (nI_1 k) H)⟩⟩) (fun z => absurd z (by omega))
/-- one edge of the graph: a loop is added if it goes back -/
theorem fl_edge {c k : Nat} {f t : Nat → Int32} (hT : rl_LT c k f t) (hk : k < 20) {P : Nat → Int32} (hP : ∀ b, b < 10 → P b = -1 ∨ ∃ q, q < c ∧ P b = nI q) {p : Nat} (hp : p < c) (o : Option Nat) (ho : ∀ s, o = some s → s < 10) :
    ∃ (k' : Nat) (f' t' : Nat → Int32), rl_LT c k' f' t' ∧ k ≤ k' ∧ k' ≤ k + 1 ∧ (∀ s, o = some s → P s ≤ nI p → ∃ l, l < k' ∧ f' l = P s ∧ nI p ≤ t' l) ∧ (∀ l, l < k → f' l = f l ∧ t l ≤ t' l) ∧
      ((∀ s, o = some s → ¬ P s ≤ nI p) → k' = k ∧ f' = f ∧ t' = t) ∧
      (∀ s, o = some s → P s ≤ nI p → ∀ {post : St1 → Prop} {rdy cnt lng lbl ent edd wrt : Int32} {a1 a2 a3 a4 a5 a6 a7 a8 a9 a10 a11 a14 a15 a16 a17 a18 a19 : Nat → Int32}, post (rdy, cnt, nI k', lng, lbl, ent, edd, wrt, a1, a2, a3, a4, a5, a6, a7, a8, a9, a10, a11, f', t', a14, a15, a16, a17, a18, a19) → wpX_addLoop post (rdy, cnt, nI k, lng, lbl, ent, edd, wrt, a1, a2, a3, a4, a5, a6, a7, a8, a9, a10, a11, f, t, a14, a15, a16, a17, a18, a19) (P s) (nI p)) := by
  by_cases h : ∃ s, o = some s ∧ P s ≤ nI p
  · obtain ⟨s, hs, hle⟩ := h
    obtain ⟨k', f', t', h1, h2, h3, h4, h5, W⟩ := al_main hT hk (P s) (hP s (ho s hs)) hp hle
    refine ⟨k', f', t', h1, h2, h3, fun s' hs' _ => ?_, h5, fun z => absurd hle (z s hs), fun s' hs' _ => ?_⟩
    · rw [hs] at hs'
      cases hs'
      exact h4
    · rw [hs] at hs'
      cases hs'
      exact W
  · exact ⟨k, f, t, hT, by omega, by omega, fun s hs hle => absurd ⟨s, hs, hle⟩ h, fun l _ => ⟨rfl, Int32.le_refl _⟩, fun _ => ⟨rfl, rfl, rfl⟩, fun s hs hle => absurd ⟨s, hs, hle⟩ h⟩
/-- every edge that goes back has its loop -/
def rl_Cov (F S : Nat → Option Nat) (ord : Nat → Nat) (P : Nat → Int32) (p k : Nat) (f t : Nat → Int32) : Prop := ∀ p', p' < p → ∀ s, (F (ord p') = some s ∨ S (ord p') = some s) → P s ≤ nI p' → ∃ l, l < k ∧ f l = P s ∧ nI p' ≤ t l
theorem rl_Cov_up {F S : Nat → Option Nat} {ord : Nat → Nat} {P : Nat → Int32} {p k k' : Nat} {f t f' t' : Nat → Int32} (h : rl_Cov F S ord P p k f t) (hk : k ≤ k') (hg : ∀ l, l < k → f' l = f l ∧ t l ≤ t' l) : rl_Cov F S ord P p k' f' t' := by
  intro p' hp' s hs hle
  obtain ⟨l, hl, h1, h2⟩ := h p' hp' s hs hle
  exact ⟨l, by omega, by rw [(hg l hl).1, h1], Int32.le_trans h2 (hg l hl).2⟩
theorem fl_7 {F S : Nat → Option Nat} (hF : ∀ b, b < 10 → ∀ t, F b = some t → t < 10) (hS : ∀ b, b < 10 → ∀ t, S b = some t → t < 10) {c : Nat} {ord : Nat → Nat} {P : Nat → Int32} (hO : rl_ok1 c ord P) : ∀ m p, p + m = c → ∀ (k : Nat) (f t : Nat → Int32), rl_LT c k f t → k ≤ 2 * p → rl_Cov F S ord P p k f t →
    ∃ (k' : Nat) (f' t' : Nat → Int32), rl_LT c k' f' t' ∧ k' ≤ 20 ∧ rl_Cov F S ord P c k' f' t' ∧ ∀ ν, rl_nu 10 ν → ∀ n, m < n → ∀ {post : St1 → Prop} {rdy lng lbl ent edd wrt : Int32} {a1 a2 a3 a4 a5 a6 a7 a8 a9 a10 a11 a14 a15 a16 a17 a18 a19 : Nat → Int32}, (∀ b, b < 10 → a6 (ν b) = rl_sv ν (F b)) → (∀ b, b < 10 → a7 (ν b) = rl_sv ν (S b)) → (∀ p, p < c → a8 p = nI (ν (ord p))) → (∀ b, b < 10 → a9 (ν b) = P b) →
      post (rdy, nI c, nI k', lng, lbl, ent, edd, wrt, a1, a2, a3, a4, a5, a6, a7, a8, a9, a10, a11, f', t', a14, a15, a16, a17, a18, a19) → wX_findLoops_7 post n (nI p) rdy (nI c) (nI k) lng lbl ent edd wrt a1 a2 a3 a4 a5 a6 a7 a8 a9 a10 a11 f t a14 a15 a16 a17 a18 a19 := by
  obtain ⟨hc1, hc2, hord, hP⟩ := hO
  intro m
  induction m with
  | zero =>
    intro p hp k f t hT hk hC
    refine ⟨k, f, t, hT, by omega, by rw [show c = p by omega]; exact hC, ?_⟩
    intro ν hν n hn post rdy lng lbl ent edd wrt a1 a2 a3 a4 a5 a6 a7 a8 a9 a10 a11 a14 a15 a16 a17 a18 a19 g1 g2 g3 g4 H
    cases n with
    | zero => omega
    | succ n => exact pk_le c p (fun _ => H) (fun z => absurd z (by omega))
  | succ m ih =>
    intro p hp k f t hT hk hC
    have hb := hord p (by omega)
    obtain ⟨k1, f1, t1, h1, h2, h3, h4, h5, h6, W1⟩ := fl_edge hT (by omega) hP (p := p) (by omega) (F (ord p)) (hF _ hb)
    obtain ⟨k2, f2, t2, r1, r2, r3, r4, r5, r6, W2⟩ := fl_edge h1 (by omega) hP (p := p) (by omega) (S (ord p)) (hS _ hb)
    have hC2 : rl_Cov F S ord P (p + 1) k2 f2 t2 := by
      intro p' hp' s hs hle
      by_cases e : p' = p
      · subst e
        rcases hs with hs | hs
        · obtain ⟨l, hl, q1, q2⟩ := h4 s hs hle
          exact ⟨l, by omega, by rw [(r5 l hl).1, q1], Int32.le_trans q2 (r5 l hl).2⟩
        · exact r4 s hs hle
      · exact rl_Cov_up (rl_Cov_up hC h2 h5) r2 r5 p' (by omega) s hs hle
    obtain ⟨k', f', t', s1, s2, s3, W⟩ := ih (p + 1) (by omega) k2 f2 t2 r1 (by omega) hC2
    refine ⟨k', f', t', s1, s2, s3, ?_⟩
    intro ν hν n hn post rdy lng lbl ent edd wrt a1 a2 a3 a4 a5 a6 a7 a8 a9 a10 a11 a14 a15 a16 a17 a18 a19 g1 g2 g3 g4 H
    cases n with
    | zero => omega
    | succ n =>
      have hv := hν.1 _ hb
      have e8 : a8 (nI p).toNatClampNeg = nI (ν (ord p)) := by rw [nI_clamp (by omega), g3 p (by omega)]
      have e6 : a6 (a8 (nI p).toNatClampNeg).toNatClampNeg = rl_sv ν (F (ord p)) := by rw [e8, nI_clamp (by omega), g1 _ hb]
      have e7 : a7 (a8 (nI p).toNatClampNeg).toNatClampNeg = rl_sv ν (S (ord p)) := by rw [e8, nI_clamp (by omega), g2 _ hb]
      have hi8 : vp_in (a8 (nI p).toNatClampNeg) 10 := pk_in (ν (ord p)) 10 hv e8
      have hip : vp_in (nI p) 10 := pk_in p 10 (by omega)
      have K : wX_findLoops_64 post (wX_findLoops_7 post n) (nI p) (rl_sv ν (S (ord p))) rdy (nI c) (nI k1) lng lbl ent edd wrt a1 a2 a3 a4 a5 a6 a7 a8 a9 a10 a11 f1 t1 a14 a15 a16 a17 a18 a19 := by
        unfold wX_findLoops_64
        have HW : wX_findLoops_7 post n (nI (p + 1)) rdy (nI c) (nI k2) lng lbl ent edd wrt a1 a2 a3 a4 a5 a6 a7 a8 a9 a10 a11 f2 t2 a14 a15 a16 a17 a18 a19 := W ν hν n (by omega) g1 g2 g3 g4 H
        cases hs : S (ord p) with
        | none =>
          obtain ⟨rfl, rfl, rfl⟩ := r6 (fun s z => absurd (hs.symm.trans z) (by simp))
          exact br_t (show (-1 : Int32) < 0 by decide) (nm_r (nI_1 p) HW)
        | some s =>
          have hs10 := hS _ hb s hs
          have hvs := hν.1 s hs10
          have e9 : a9 (rl_sv ν (some s)).toNatClampNeg = P s := by
            show a9 (nI (ν s)).toNatClampNeg = P s
            rw [nI_clamp (by omega), g4 s hs10]
          refine br_f (nI_pos (by omega)) ⟨pk_in (ν s) 10 hvs, ?_⟩
          rw [e9]
          by_cases hle : P s ≤ nI p
          · exact br_f (Int32.not_lt.mpr hle) ⟨pk_in (ν s) 10 hvs, W2 s hs hle (nm_r (nI_1 p) HW)⟩
          · obtain ⟨rfl, rfl, rfl⟩ := r6 (fun s' z => by
              rw [hs] at z
              cases z
              exact hle)
            exact br_t (Int32.not_le.mp hle) (nm_r (nI_1 p) HW)
      refine pk_le c p (fun z => absurd z (by omega)) (fun _ => ⟨hip, hi8, nm_r e6 ⟨hip, hi8, nm_r e7 ?_⟩⟩)
      cases hs : F (ord p) with
      | none =>
        obtain ⟨rfl, rfl, rfl⟩ := h6 (fun s z => absurd (hs.symm.trans z) (by simp))
        exact br_t (show (-1 : Int32) < 0 by decide) K
      | some s =>
        have hs10 := hF _ hb s hs
        have hvs := hν.1 s hs10
        have e9 : a9 (rl_sv ν (some s)).toNatClampNeg = P s := by
          show a9 (nI (ν s)).toNatClampNeg = P s
          rw [nI_clamp (by omega), g4 s hs10]
        refine br_f (nI_pos (by omega)) ⟨pk_in (ν s) 10 hvs, ?_⟩
        rw [e9]
        by_cases hle : P s ≤ nI p
        · exact br_f (Int32.not_lt.mpr hle) ⟨pk_in (ν s) 10 hvs, W1 s hs hle K⟩
        · obtain ⟨rfl, rfl, rfl⟩ := h6 (fun s' z => by
            rw [hs] at z
            cases z
            exact hle)
          exact br_t (Int32.not_le.mp hle) K
theorem fl_main {F S : Nat → Option Nat} (hF : ∀ b, b < 10 → ∀ t, F b = some t → t < 10) (hS : ∀ b, b < 10 → ∀ t, S b = some t → t < 10) {c : Nat} {ord : Nat → Nat} {P : Nat → Int32} (hO : rl_ok1 c ord P) (f t : Nat → Int32) :
    ∃ (k' : Nat) (f' t' : Nat → Int32), rl_LT c k' f' t' ∧ k' ≤ 20 ∧ rl_Cov F S ord P c k' f' t' ∧ ∀ ν, rl_nu 10 ν → ∀ {post : St1 → Prop} {rdy lps lng lbl ent edd wrt : Int32} {a1 a2 a3 a4 a5 a6 a7 a8 a9 a10 a11 a14 a15 a16 a17 a18 a19 : Nat → Int32}, (∀ b, b < 10 → a6 (ν b) = rl_sv ν (F b)) → (∀ b, b < 10 → a7 (ν b) = rl_sv ν (S b)) → (∀ p, p < c → a8 p = nI (ν (ord p))) → (∀ b, b < 10 → a9 (ν b) = P b) →
      post (rdy, nI c, nI k', lng, lbl, ent, edd, wrt, a1, a2, a3, a4, a5, a6, a7, a8, a9, a10, a11, f', t', a14, a15, a16, a17, a18, a19) → wpX_findLoops post (rdy, nI c, lps, lng, lbl, ent, edd, wrt, a1, a2, a3, a4, a5, a6, a7, a8, a9, a10, a11, f, t, a14, a15, a16, a17, a18, a19) := by
  obtain ⟨k', f', t', h1, h2, h3, W⟩ := fl_7 hF hS hO c 0 (by omega) 0 f t ⟨fun l hl => absurd hl (by omega), fun l _ hl => absurd hl (by omega)⟩ (by omega) (fun p' hp' => absurd hp' (by omega))
  refine ⟨k', f', t', h1, h2, h3, ?_⟩
  intro ν hν post rdy lps lng lbl ent edd wrt a1 a2 a3 a4 a5 a6 a7 a8 a9 a10 a11 a14 a15 a16 a17 a18 a19 g1 g2 g3 g4 H
  unfold wpX_findLoops
  exact ⟨c + 1, W ν hν (c + 1) (by omega) g1 g2 g3 g4 H⟩
/-- k loops begin at k of the places -1 .. c - 1 -/
theorem rl_LT_k {c k : Nat} {f t : Nat → Int32} (hT : rl_LT c k f t) (hc : c ≤ 10) : k ≤ 11 := by
  refine rl_pig 11 k (fun l => if f l = -1 then 10 else (f l).toNatClampNeg) (fun l hl => ?_) (fun a b ha hb e => hT.2 a b ha hb ?_)
  · show (if f l = -1 then 10 else (f l).toNatClampNeg) < 11
    rcases (hT.1 l hl).1 with h | ⟨q, hq, h⟩
    · rw [if_pos h]
      omega
    · rw [h]
      split
      · omega
      · rw [nI_clamp (by omega)]
        omega
  · have hn : ∀ q, q < 10 → ¬ nI q = -1 := by decide +kernel
    have e' : (if f a = -1 then 10 else (f a).toNatClampNeg) = (if f b = -1 then 10 else (f b).toNatClampNeg) := e
    rcases (hT.1 a ha).1 with h | ⟨q, hq, h⟩
    · rcases (hT.1 b hb).1 with g | ⟨r, hr, g⟩
      · rw [h, g]
      · rw [h, g, if_pos rfl, if_neg (hn r (by omega)), nI_clamp (by omega)] at e'
        omega
    · rcases (hT.1 b hb).1 with g | ⟨r, hr, g⟩
      · rw [h, g, if_pos rfl, if_neg (hn q (by omega)), nI_clamp (by omega)] at e'
        omega
      · rw [h, g, if_neg (hn q (by omega)), if_neg (hn r (by omega)), nI_clamp (by omega), nI_clamp (by omega)] at e'
        rw [h, g, e']
end
section
/-! widenOnce and prepare's loop: ends only grow -/
/-- a wider table over the same beginnings -/
def rl_gr (k : Nat) (t t' : Nat → Int32) : Prop := ∀ l, l < k → t l ≤ t' l
theorem rl_gr_refl (k : Nat) (t : Nat → Int32) : rl_gr k t t := fun _ _ => Int32.le_refl _
theorem rl_gr_trans {k : Nat} {t t' t'' : Nat → Int32} (h : rl_gr k t t') (h' : rl_gr k t' t'') : rl_gr k t t'' := fun l hl => Int32.le_trans (h l hl) (h' l hl)
theorem wi_up {c k i j : Nat} {f t : Nat → Int32} (hT : rl_LT c k f t) (hj : j < k) (hlt : ¬ t j ≤ t i) : rl_LT c k f (upd t i (t j)) ∧ rl_gr k t (upd t i (t j)) := by
  have hle : t i ≤ t j := Int32.le_of_lt (Int32.not_le.mp hlt)
  refine ⟨⟨fun l hl => ?_, hT.2⟩, fun l hl => ?_⟩
  · by_cases e : l = i
    · subst e
      rw [pk_us]
      exact ⟨(hT.1 l hl).1, (hT.1 j hj).2.1, Int32.le_trans (hT.1 l hl).2.2 hle⟩
    · rw [pk_un e]
      exact hT.1 l hl
  · by_cases e : l = i
    · subst e
      rw [pk_us]
      exact hle
    · rw [pk_un e]
      exact Int32.le_refl _
theorem wi_14 {c k : Nat} {f : Nat → Int32} (hk : k ≤ 20) {i : Nat} (hi : i < k) : ∀ m j, j + m = k → ∀ (r : Int32) (t : Nat → Int32), (r = 0 ∨ r = 1) → rl_LT c k f t →
    ∃ (r' : Int32) (t' : Nat → Int32), (r' = 0 ∨ r' = 1) ∧ rl_LT c k f t' ∧ rl_gr k t t' ∧ ∀ n, m < n → ∀ {post : Int32 → St1 → Prop} {J : Int32 → Int32 → (Nat → Int32) → (Nat → Int32) → (Nat → Int32) → (Nat → Int32) → (Nat → Int32) → (Nat → Int32) → (Nat → Int32) → (Nat → Int32) → (Nat → Int32) → (Nat → Int32) → (Nat → Int32) → (Nat → Int32) → (Nat → Int32) → (Nat → Int32) → (Nat → Int32) → (Nat → Int32) → (Nat → Int32) → (Nat → Int32) → (Nat → Int32) → Prop} {rdy cnt lng lbl ent edd wrt : Int32} {a1 a2 a3 a4 a5 a6 a7 a8 a9 a10 a11 a14 a15 a16 a17 a18 a19 : Nat → Int32}, J r' (nI (i + 1)) a1 a2 a3 a4 a5 a6 a7 a8 a9 a10 a11 f t' a14 a15 a16 a17 a18 a19 → wX_widenOnce_14 post J (nI i) rdy cnt (nI k) lng lbl ent edd wrt n r (nI j) a1 a2 a3 a4 a5 a6 a7 a8 a9 a10 a11 f t a14 a15 a16 a17 a18 a19 := by
  intro m
  induction m with
  | zero =>
    intro j hj r t hr hT
    refine ⟨r, t, hr, hT, rl_gr_refl k t, ?_⟩
    intro n hn post J rdy cnt lng lbl ent edd wrt a1 a2 a3 a4 a5 a6 a7 a8 a9 a10 a11 a14 a15 a16 a17 a18 a19 H
    cases n with
    | zero => omega
    | succ n => exact pk_le k j (fun _ => nm_r (nI_1 i) H) (fun z => absurd z (by omega))
  | succ m ih =>
    intro j hj r t hr hT
    have ci : (nI i).toNatClampNeg = i := nI_clamp (by omega)
    have cj : (nI j).toNatClampNeg = j := nI_clamp (by omega)
    have vi : vp_in (nI i) 20 := pk_in i 20 (by omega)
    have vj : vp_in (nI j) 20 := pk_in j 20 (by omega)
    by_cases c1 : f j ≤ f i
    · obtain ⟨r', t', h1, h2, h3, W⟩ := ih (j + 1) (by omega) r t hr hT
      refine ⟨r', t', h1, h2, h3, ?_⟩
      intro n hn post J rdy cnt lng lbl ent edd wrt a1 a2 a3 a4 a5 a6 a7 a8 a9 a10 a11 a14 a15 a16 a17 a18 a19 H
      cases n with
      | zero => omega
      | succ n => exact pk_le k j (fun z => absurd z (by omega)) (fun _ => ⟨vi, vj, br_t (by rw [ci, cj]; exact c1) (nm_r (nI_1 j) (W n (by omega) H))⟩)
    · by_cases c2 : t i < f j
      · obtain ⟨r', t', h1, h2, h3, W⟩ := ih (j + 1) (by omega) r t hr hT
        refine ⟨r', t', h1, h2, h3, ?_⟩
        intro n hn post J rdy cnt lng lbl ent edd wrt a1 a2 a3 a4 a5 a6 a7 a8 a9 a10 a11 a14 a15 a16 a17 a18 a19 H
        cases n with
        | zero => omega
        | succ n => exact pk_le k j (fun z => absurd z (by omega)) (fun _ => ⟨vi, vj, br_f (by rw [ci, cj]; exact c1) ⟨vj, vi, br_t (by rw [ci, cj]; exact c2) (nm_r (nI_1 j) (W n (by omega) H))⟩⟩)
      · by_cases c3 : t j ≤ t i
        · obtain ⟨r', t', h1, h2, h3, W⟩ := ih (j + 1) (by omega) r t hr hT
          refine ⟨r', t', h1, h2, h3, ?_⟩
          intro n hn post J rdy cnt lng lbl ent edd wrt a1 a2 a3 a4 a5 a6 a7 a8 a9 a10 a11 a14 a15 a16 a17 a18 a19 H
          cases n with
          | zero => omega
          | succ n => exact pk_le k j (fun z => absurd z (by omega)) (fun _ => ⟨vi, vj, br_f (by rw [ci, cj]; exact c1) ⟨vj, vi, br_f (by rw [ci, cj]; exact c2) ⟨vi, vj, br_t (by rw [ci, cj]; exact c3) (nm_r (nI_1 j) (W n (by omega) H))⟩⟩⟩)
        · obtain ⟨hT', hg⟩ := wi_up (i := i) hT (by omega) c3
          obtain ⟨r', t', h1, h2, h3, W⟩ := ih (j + 1) (by omega) 1 (upd t i (t j)) (Or.inr rfl) hT'
          refine ⟨r', t', h1, h2, rl_gr_trans hg h3, ?_⟩
          intro n hn post J rdy cnt lng lbl ent edd wrt a1 a2 a3 a4 a5 a6 a7 a8 a9 a10 a11 a14 a15 a16 a17 a18 a19 H
          have e : upd t (nI i).toNatClampNeg (t (nI j).toNatClampNeg) = upd t i (t j) := by rw [ci, cj]
          cases n with
          | zero => omega
          | succ n => exact pk_le k j (fun z => absurd z (by omega)) (fun _ => ⟨vi, vj, br_f (by rw [ci, cj]; exact c1) ⟨vj, vi, br_f (by rw [ci, cj]; exact c2) ⟨vi, vj, br_f (by rw [ci, cj]; exact c3) ⟨vj, vi, nm_r e (nm_r (nI_1 j) (W n (by omega) H))⟩⟩⟩⟩)
theorem wi_4 {c k : Nat} {f : Nat → Int32} (hk : k ≤ 20) : ∀ m i, i + m = k → ∀ (r : Int32) (t : Nat → Int32), (r = 0 ∨ r = 1) → rl_LT c k f t →
    ∃ (r' : Int32) (t' : Nat → Int32), (r' = 0 ∨ r' = 1) ∧ rl_LT c k f t' ∧ rl_gr k t t' ∧ ∀ n, m < n → ∀ {post : Int32 → St1 → Prop} {rdy cnt lng lbl ent edd wrt : Int32} {a1 a2 a3 a4 a5 a6 a7 a8 a9 a10 a11 a14 a15 a16 a17 a18 a19 : Nat → Int32}, post r' (rdy, cnt, nI k, lng, lbl, ent, edd, wrt, a1, a2, a3, a4, a5, a6, a7, a8, a9, a10, a11, f, t', a14, a15, a16, a17, a18, a19) → wX_widenOnce_4 post rdy cnt (nI k) lng lbl ent edd wrt n r (nI i) a1 a2 a3 a4 a5 a6 a7 a8 a9 a10 a11 f t a14 a15 a16 a17 a18 a19 := by
  intro m
  induction m with
  | zero =>
    intro i hi r t hr hT
    refine ⟨r, t, hr, hT, rl_gr_refl k t, ?_⟩
    intro n hn post rdy cnt lng lbl ent edd wrt a1 a2 a3 a4 a5 a6 a7 a8 a9 a10 a11 a14 a15 a16 a17 a18 a19 H
    cases n with
    | zero => omega
    | succ n =>
      refine pk_le k i (fun _ => ⟨?_, H⟩) (fun z => absurd z (by omega))
      rcases hr with h | h <;> rw [h] <;> rfl
  | succ m ih =>
    intro i hi r t hr hT
    obtain ⟨r1, t1, h1, h2, h3, W1⟩ := wi_14 (c := c) (f := f) hk (i := i) (by omega) k 0 (by omega) r t hr hT
    obtain ⟨r', t', g1, g2, g3, W⟩ := ih (i + 1) (by omega) r1 t1 h1 h2
    refine ⟨r', t', g1, g2, rl_gr_trans h3 g3, ?_⟩
    intro n hn post rdy cnt lng lbl ent edd wrt a1 a2 a3 a4 a5 a6 a7 a8 a9 a10 a11 a14 a15 a16 a17 a18 a19 H
    cases n with
    | zero => omega
    | succ n => exact pk_le k i (fun z => absurd z (by omega)) (fun _ => ⟨k + 1, W1 (k + 1) (by omega) (W n (by omega) H)⟩)
theorem wi_main {c k : Nat} {f : Nat → Int32} (hk : k ≤ 20) (t : Nat → Int32) (hT : rl_LT c k f t) :
    ∃ (r' : Int32) (t' : Nat → Int32), (r' = 0 ∨ r' = 1) ∧ rl_LT c k f t' ∧ rl_gr k t t' ∧ ∀ {post : Int32 → St1 → Prop} {rdy cnt lng lbl ent edd wrt : Int32} {a1 a2 a3 a4 a5 a6 a7 a8 a9 a10 a11 a14 a15 a16 a17 a18 a19 : Nat → Int32}, post r' (rdy, cnt, nI k, lng, lbl, ent, edd, wrt, a1, a2, a3, a4, a5, a6, a7, a8, a9, a10, a11, f, t', a14, a15, a16, a17, a18, a19) → wpX_widenOnce post (rdy, cnt, nI k, lng, lbl, ent, edd, wrt, a1, a2, a3, a4, a5, a6, a7, a8, a9, a10, a11, f, t, a14, a15, a16, a17, a18, a19) := by
  obtain ⟨r', t', g1, g2, g3, W⟩ := wi_4 (c := c) (f := f) hk k 0 (by omega) 0 t (Or.inl rfl) hT
  refine ⟨r', t', g1, g2, g3, ?_⟩
  intro post rdy cnt lng lbl ent edd wrt a1 a2 a3 a4 a5 a6 a7 a8 a9 a10 a11 a14 a15 a16 a17 a18 a19 H
  unfold wpX_widenOnce
  exact ⟨k + 1, W (k + 1) (by omega) H⟩
theorem wi_25 {c k : Nat} {f : Nat → Int32} (hk : k ≤ 20) : ∀ m i, i + m = 100 → ∀ (r : Int32) (t : Nat → Int32), rl_LT c k f t →
    ∃ t' : Nat → Int32, rl_LT c k f t' ∧ rl_gr k t t' ∧ ∀ n, m < n → ∀ {post : St1 → Prop} {rdy cnt lng lbl ent edd wrt : Int32} {a1 a2 a3 a4 a5 a6 a7 a8 a9 a10 a11 a14 a15 a16 a17 a18 a19 : Nat → Int32}, wX_prepare_46 post rdy cnt (nI k) lng lbl ent edd wrt a1 a2 a3 a4 a5 a6 a7 a8 a9 a10 a11 f t' a14 a15 a16 a17 a18 a19 → wX_prepare_25 post n r (nI i) rdy cnt (nI k) lng lbl ent edd wrt a1 a2 a3 a4 a5 a6 a7 a8 a9 a10 a11 f t a14 a15 a16 a17 a18 a19 := by
  intro m
  induction m with
  | zero =>
    intro i hi r t hT
    refine ⟨t, hT, rl_gr_refl k t, ?_⟩
    intro n hn post rdy cnt lng lbl ent edd wrt a1 a2 a3 a4 a5 a6 a7 a8 a9 a10 a11 a14 a15 a16 a17 a18 a19 H
    cases n with
    | zero => omega
    | succ n => exact pk_le 100 i (fun _ => H) (fun z => absurd z (by omega))
  | succ m ih =>
    intro i hi r t hT
    by_cases hr : r = 0
    · refine ⟨t, hT, rl_gr_refl k t, ?_⟩
      intro n hn post rdy cnt lng lbl ent edd wrt a1 a2 a3 a4 a5 a6 a7 a8 a9 a10 a11 a14 a15 a16 a17 a18 a19 H
      cases n with
      | zero => omega
      | succ n => exact pk_le 100 i (fun z => absurd z (by omega)) (fun _ => br_t hr H)
    · obtain ⟨r1, t1, h1, h2, h3, W1⟩ := wi_main (c := c) (f := f) hk t hT
      obtain ⟨t', g2, g3, W⟩ := ih (i + 1) (by omega) r1 t1 h2
      refine ⟨t', g2, rl_gr_trans h3 g3, ?_⟩
      intro n hn post rdy cnt lng lbl ent edd wrt a1 a2 a3 a4 a5 a6 a7 a8 a9 a10 a11 a14 a15 a16 a17 a18 a19 H
      cases n with
      | zero => omega
      | succ n => exact pk_le 100 i (fun z => absurd z (by omega)) (fun _ => br_f hr (W1 (nm_r (nI_1 i) (W n (by omega) H))))
end
section
/-! the structured code, as a picture: LOOP words of the loops in A, CODE words of the places below B, REPEAT words of the loops in C -/
def em_I (k B : Nat) (f t : Nat → Int32) (A C : Nat → Prop) (len : Nat) (w x ls : Nat → Int32) (cp rp : Nat → Nat) : Prop :=
  (∀ i, i < len → (w i = 0 ∧ ∃ l, l < k ∧ x i = nI l ∧ ls l = nI i ∧ A l) ∨ (w i = 1 ∧ ∃ p, p < B ∧ x i = nI p ∧ cp p = i) ∨ (w i = 2 ∧ ∃ l, l < k ∧ x i = nI l ∧ rp l = i ∧ C l)) ∧
  (∀ p, p < B → cp p < len ∧ w (cp p) = 1 ∧ x (cp p) = nI p) ∧
  (∀ p p', p < p' → p' < B → cp p < cp p') ∧
  (∀ l, l < k → A l → ∃ s q, s < len ∧ ls l = nI s ∧ q < 10 ∧ f l = nI q ∧ (q < B → s < cp q)) ∧
  (∀ l, l < k → C l → rp l < len ∧ w (rp l) = 2 ∧ x (rp l) = nI l ∧ ∃ q e, q < 10 ∧ e < 10 ∧ f l = nI q ∧ t l = nI e ∧ q ≤ e ∧ e < B ∧ cp e < rp l ∧ A l)
theorem em_loop {k B : Nat} {f t : Nat → Int32} {A C : Nat → Prop} {len : Nat} {w x ls : Nat → Int32} {cp rp : Nat → Nat} (h : em_I k B f t A C len w x ls cp rp) {l : Nat} (hl : l < k) (hA : ¬ A l) (hB : B < 10) (hf : f l = nI B) :
    em_I k B f t (fun j => A j ∨ j = l) C (len + 1) (upd w len 0) (upd x len (nI l)) (upd ls l (nI len)) cp rp := by
  obtain ⟨h1, h2, h3, h4, h5⟩ := h
  refine ⟨fun i hi => ?_, fun p hp => ?_, h3, fun j hj hj2 => ?_, fun j hj hj2 => ?_⟩
  · by_cases e : i = len
    · rw [e, pk_us, pk_us]
      exact Or.inl ⟨rfl, l, hl, rfl, pk_us, Or.inr rfl⟩
    · rw [pk_un e, pk_un e]
      rcases h1 i (by omega) with ⟨a, j, b, c, d, d'⟩ | q | q
      · refine Or.inl ⟨a, j, b, c, ?_, Or.inl d'⟩
        rw [pk_un (fun z : j = l => hA (z ▸ d'))]
        exact d
      · exact Or.inr (Or.inl q)
      · exact Or.inr (Or.inr q)
  · obtain ⟨a, b, c⟩ := h2 p hp
    rw [pk_un (by omega), pk_un (by omega)]
    exact ⟨by omega, b, c⟩
  · by_cases e : j = l
    · rw [e, pk_us]
      exact ⟨len, B, by omega, rfl, hB, hf, fun z => absurd z (by omega)⟩
    · rw [pk_un e]
      obtain ⟨s, q, a, b, c⟩ := h4 j hj (by rcases hj2 with z | z; exact z; exact absurd z e)
      exact ⟨s, q, by omega, b, c⟩
  · obtain ⟨a, b, c, q, e, d1, d2, d3, d4, d5, d6, d7, d8⟩ := h5 j hj hj2
    rw [pk_un (by omega), pk_un (by omega)]
    exact ⟨by omega, b, c, q, e, d1, d2, d3, d4, d5, d6, d7, Or.inl d8⟩
theorem em_code {k B : Nat} {f t : Nat → Int32} {A C : Nat → Prop} {len : Nat} {w x ls : Nat → Int32} {cp rp : Nat → Nat} (h : em_I k B f t A C len w x ls cp rp) :
    em_I k (B + 1) f t A C (len + 1) (upd w len 1) (upd x len (nI B)) ls (rl_upn cp B len) rp := by
  obtain ⟨h1, h2, h3, h4, h5⟩ := h
  refine ⟨fun i hi => ?_, fun p hp => ?_, fun p p' hp hp' => ?_, fun j hj hj2 => ?_, fun j hj hj2 => ?_⟩
  · by_cases e : i = len
    · rw [e, pk_us, pk_us]
      exact Or.inr (Or.inl ⟨rfl, B, by omega, rfl, rl_upn_s⟩)
    · rw [pk_un e, pk_un e]
      rcases h1 i (by omega) with q | ⟨a, p, b, c, d⟩ | q
      · exact Or.inl q
      · exact Or.inr (Or.inl ⟨a, p, by omega, c, by rw [rl_upn_n (by omega)]; exact d⟩)
      · exact Or.inr (Or.inr q)
  · by_cases e : p = B
    · rw [e, rl_upn_s, pk_us, pk_us]
      exact ⟨by omega, rfl, rfl⟩
    · obtain ⟨a, b, c⟩ := h2 p (by omega)
      rw [rl_upn_n e, pk_un (by omega), pk_un (by omega)]
      exact ⟨by omega, b, c⟩
  · rw [rl_upn_n (by omega)]
    by_cases e : p' = B
    · rw [e, rl_upn_s]
      exact (h2 p (by omega)).1
    · rw [rl_upn_n e]
      exact h3 p p' hp (by omega)
  · obtain ⟨s, q, a, b, c, d, d'⟩ := h4 j hj hj2
    refine ⟨s, q, by omega, b, c, d, fun z => ?_⟩
    by_cases e : q = B
    · rw [e, rl_upn_s]
      exact a
    · rw [rl_upn_n e]
      exact d' (by omega)
  · obtain ⟨a, b, c, q, e, d1, d2, d3, d4, d5, d6, d7, d8⟩ := h5 j hj hj2
    rw [pk_un (by omega), pk_un (by omega)]
    exact ⟨by omega, b, c, q, e, d1, d2, d3, d4, d5, by omega, by rw [rl_upn_n (by omega)]; exact d7, d8⟩
theorem em_rep {k B : Nat} {f t : Nat → Int32} {A C : Nat → Prop} {len : Nat} {w x ls : Nat → Int32} {cp rp : Nat → Nat} (h : em_I k B f t A C len w x ls cp rp) {l q e : Nat} (hl : l < k) (hC : ¬ C l) (hA : A l) (hq : q < 10) (he : e < 10) (hf : f l = nI q) (ht : t l = nI e) (hqe : q ≤ e) (heB : e < B) :
    em_I k B f t A (fun j => C j ∨ j = l) (len + 1) (upd w len 2) (upd x len (nI l)) ls cp (rl_upn rp l len) := by
  obtain ⟨h1, h2, h3, h4, h5⟩ := h
  refine ⟨fun i hi => ?_, fun p hp => ?_, h3, fun j hj hj2 => ?_, fun j hj hj2 => ?_⟩
  · by_cases e : i = len
    · rw [e, pk_us, pk_us]
      exact Or.inr (Or.inr ⟨rfl, l, hl, rfl, rl_upn_s, Or.inr rfl⟩)
    · rw [pk_un e, pk_un e]
      rcases h1 i (by omega) with q | q | ⟨a, j, b, c, d, d'⟩
      · exact Or.inl q
      · exact Or.inr (Or.inl q)
      · refine Or.inr (Or.inr ⟨a, j, b, c, ?_, Or.inl d'⟩)
        rw [rl_upn_n (fun z : j = l => hC (z ▸ d'))]
        exact d
  · obtain ⟨a, b, c⟩ := h2 p hp
    rw [pk_un (by omega), pk_un (by omega)]
    exact ⟨by omega, b, c⟩
  · obtain ⟨s, q, a, b, c⟩ := h4 j hj hj2
    exact ⟨s, q, by omega, b, c⟩
  · by_cases ej : j = l
    · rw [ej, rl_upn_s, pk_us, pk_us]
      exact ⟨by omega, rfl, rfl, q, e, hq, he, hf, ht, hqe, heB, (h2 e heB).1, hA⟩
    · obtain ⟨a, b, c, q, e, d⟩ := h5 j hj (by rcases hj2 with z | z; exact z; exact absurd z ej)
      rw [rl_upn_n ej, pk_un (by omega), pk_un (by omega)]
      exact ⟨by omega, b, c, q, e, d⟩
theorem em_cong {k B : Nat} {f t : Nat → Int32} {A C A' C' : Nat → Prop} {len : Nat} {w x ls : Nat → Int32} {cp rp : Nat → Nat} (h : em_I k B f t A C len w x ls cp rp) (hA : ∀ l, l < k → (A l ↔ A' l)) (hC : ∀ l, l < k → (C l ↔ C' l)) : em_I k B f t A' C' len w x ls cp rp := by
  obtain ⟨h1, h2, h3, h4, h5⟩ := h
  refine ⟨fun i hi => ?_, h2, h3, fun j hj hj2 => h4 j hj ((hA j hj).mpr hj2), fun j hj hj2 => ?_⟩
  · rcases h1 i hi with ⟨a, j, b, c, d, d'⟩ | q | ⟨a, j, b, c, d, d'⟩
    · exact Or.inl ⟨a, j, b, c, d, (hA j b).mp d'⟩
    · exact Or.inr (Or.inl q)
    · exact Or.inr (Or.inr ⟨a, j, b, c, d, (hC j b).mp d'⟩)
  · obtain ⟨a, b, c, q, e, d1, d2, d3, d4, d5, d6, d7, d8⟩ := h5 j hj ((hC j hj).mpr hj2)
    exact ⟨a, b, c, q, e, d1, d2, d3, d4, d5, d6, d7, (hA j hj).mp d8⟩
/-- each word stands once: at most 11 + 10 + 11 words -/
def em_g (w x : Nat → Int32) (i : Nat) : Nat := if w i = 0 then (x i).toNatClampNeg else if w i = 1 then 11 + (x i).toNatClampNeg else 21 + (x i).toNatClampNeg
theorem em_g0 {w x : Nat → Int32} {i l : Nat} (hw : w i = 0) (hx : x i = nI l) (hl : l < 11) : em_g w x i = l := by
  unfold em_g
  rw [hw, hx, if_pos rfl, nI_clamp (by omega)]
theorem em_g1 {w x : Nat → Int32} {i l : Nat} (hw : w i = 1) (hx : x i = nI l) (hl : l < 11) : em_g w x i = 11 + l := by
  unfold em_g
  rw [hw, hx, if_neg (by decide), if_pos rfl, nI_clamp (by omega)]
theorem em_g2 {w x : Nat → Int32} {i l : Nat} (hw : w i = 2) (hx : x i = nI l) (hl : l < 11) : em_g w x i = 21 + l := by
  unfold em_g
  rw [hw, hx, if_neg (by decide), if_neg (by decide), nI_clamp (by omega)]
theorem em_len {k B : Nat} {f t : Nat → Int32} {A C : Nat → Prop} {len : Nat} {w x ls : Nat → Int32} {cp rp : Nat → Nat} (h : em_I k B f t A C len w x ls cp rp) (hk : k ≤ 11) (hB : B ≤ 10) (hlen : len ≤ 40) : len ≤ 32 := by
  obtain ⟨h1, h2, h3, h4, h5⟩ := h
  refine rl_pig 32 len (em_g w x) (fun i hi => ?_) (fun i j hi hj e => ?_)
  · rcases h1 i hi with ⟨a, l, b, c, d, d'⟩ | ⟨a, l, b, c, d⟩ | ⟨a, l, b, c, d, d'⟩
    · rw [em_g0 a c (by omega)]
      omega
    · rw [em_g1 a c (by omega)]
      omega
    · rw [em_g2 a c (by omega)]
      omega
  · rcases h1 i hi with ⟨a, l, b, c, d, d'⟩ | ⟨a, l, b, c, d⟩ | ⟨a, l, b, c, d, d'⟩
    · rw [em_g0 a c (by omega)] at e
      rcases h1 j hj with ⟨a', l', b', c', g, g'⟩ | ⟨a', l', b', c', g⟩ | ⟨a', l', b', c', g, g'⟩
      · rw [em_g0 a' c' (by omega)] at e
        subst e
        rw [d] at g
        exact (nI_eq (by omega) (by omega)).mp g
      · rw [em_g1 a' c' (by omega)] at e
        omega
      · rw [em_g2 a' c' (by omega)] at e
        omega
    · rw [em_g1 a c (by omega)] at e
      rcases h1 j hj with ⟨a', l', b', c', g, g'⟩ | ⟨a', l', b', c', g⟩ | ⟨a', l', b', c', g, g'⟩
      · rw [em_g0 a' c' (by omega)] at e
        omega
      · rw [em_g1 a' c' (by omega)] at e
        have : l = l' := by omega
        subst this
        omega
      · rw [em_g2 a' c' (by omega)] at e
        omega
    · rw [em_g2 a c (by omega)] at e
      rcases h1 j hj with ⟨a', l', b', c', g, g'⟩ | ⟨a', l', b', c', g⟩ | ⟨a', l', b', c', g, g'⟩
      · rw [em_g0 a' c' (by omega)] at e
        omega
      · rw [em_g1 a' c' (by omega)] at e
        omega
      · rw [em_g2 a' c' (by omega)] at e
        have : l = l' := by omega
        subst this
        omega
end
section
/-! put, endLoop, emit -/
theorem pu_1 {post : St1 → Prop} {rdy cnt lps lbl ent edd wrt : Int32} {a1 a2 a3 a4 a5 a6 a7 a8 a9 a10 a11 a12 a13 a14 a15 a16 a17 a18 a19 : Nat → Int32} {len : Nat} (h : len < 64) (z v : Int32) (H : post (rdy, cnt, lps, nI (len + 1), lbl, ent, edd, wrt, a1, a2, a3, a4, a5, a6, a7, a8, a9, a10, a11, a12, a13, upd a14 len z, upd a15 len v, a16, a17, a18, a19)) : wpX_put post (rdy, cnt, lps, nI len, lbl, ent, edd, wrt, a1, a2, a3, a4, a5, a6, a7, a8, a9, a10, a11, a12, a13, a14, a15, a16, a17, a18, a19) z v := by
  have e1 : upd a14 (nI len).toNatClampNeg z = upd a14 len z := by rw [nI_clamp (by omega)]
  have e2 : upd a15 (nI len).toNatClampNeg v = upd a15 len v := by rw [nI_clamp (by omega)]
  unfold wpX_put
  exact pk_lt len 64 (fun _ => ⟨pk_in len 64 h, nm_r e1 ⟨pk_in len 64 h, nm_r e2 (nm_r (nI_1 len) H)⟩⟩) (fun z => absurd z (by omega))
/-- the loops that begin at p or before -/
def em_A (f : Nat → Int32) (p j l : Nat) : Prop := ∃ q, q < 10 ∧ f l = nI q ∧ (q < p ∨ (q = p ∧ l < j))
/-- the loops whose ends are written: ahead of place p; at place p those that begin behind s, and at s those below j -/
def em_C (f t : Nat → Int32) (p s j l : Nat) : Prop := ∃ q e, q < 10 ∧ e < 10 ∧ f l = nI q ∧ t l = nI e ∧ q ≤ e ∧ (e < p ∨ (e = p ∧ (s < q ∨ (q = s ∧ l < j))))
theorem em_A_next {f : Nat → Int32} {k p l : Nat} (hl : l < k) : em_A f p k l ↔ em_A f (p + 1) 0 l := by
  constructor
  · rintro ⟨q, a, b, c⟩
    exact ⟨q, a, b, by omega⟩
  · rintro ⟨q, a, b, c⟩
    exact ⟨q, a, b, by omega⟩
theorem em_A_yes {f : Nat → Int32} {p j l : Nat} (hp : p < 10) (hf : f j = nI p) : (em_A f p j l ∨ l = j) ↔ em_A f p (j + 1) l := by
  constructor
  · rintro (⟨q, a, b, c⟩ | rfl)
    · exact ⟨q, a, b, by omega⟩
    · exact ⟨p, hp, hf, by omega⟩
  · rintro ⟨q, a, b, c⟩
    by_cases e : l = j
    · exact Or.inr e
    · exact Or.inl ⟨q, a, b, by omega⟩
theorem em_A_no {f : Nat → Int32} {p j l : Nat} (hp : p < 10) (hf : ¬ f j = nI p) : em_A f p j l ↔ em_A f p (j + 1) l := by
  constructor
  · rintro ⟨q, a, b, c⟩
    exact ⟨q, a, b, by omega⟩
  · rintro ⟨q, a, b, c⟩
    by_cases e : l = j
    · subst e
      refine ⟨q, a, b, ?_⟩
      rcases c with c | c
      · exact Or.inl c
      · exact absurd (c.1 ▸ b) hf
    · exact ⟨q, a, b, by omega⟩
theorem em_A_not {f : Nat → Int32} {p j : Nat} (hp : p < 10) (hf : f j = nI p) : ¬ em_A f p j j := by
  rintro ⟨q, a, b, c⟩
  have e : p = q := (nI_eq (by omega) (by omega)).mp (hf.symm.trans b)
  omega
theorem em_C_yes {f t : Nat → Int32} {p s j l : Nat} (hp : p < 10) (hs : s ≤ p) (hf : f j = nI s) (ht : t j = nI p) : (em_C f t p s j l ∨ l = j) ↔ em_C f t p s (j + 1) l := by
  constructor
  · rintro (⟨q, e, a, a', b, b', c, d⟩ | rfl)
    · exact ⟨q, e, a, a', b, b', c, by omega⟩
    · exact ⟨s, p, by omega, hp, hf, ht, hs, by omega⟩
  · rintro ⟨q, e, a, a', b, b', c, d⟩
    by_cases ej : l = j
    · exact Or.inr ej
    · exact Or.inl ⟨q, e, a, a', b, b', c, by omega⟩
theorem em_C_no {f t : Nat → Int32} {p s j l : Nat} (h : ¬ (f j = nI s ∧ t j = nI p)) : em_C f t p s j l ↔ em_C f t p s (j + 1) l := by
  constructor
  · rintro ⟨q, e, a, a', b, b', c, d⟩
    exact ⟨q, e, a, a', b, b', c, by omega⟩
  · rintro ⟨q, e, a, a', b, b', c, d⟩
    by_cases ej : l = j
    · subst ej
      by_cases z : q = s ∧ e = p
      · obtain ⟨rfl, rfl⟩ := z
        exact absurd ⟨b, b'⟩ h
      · exact ⟨q, e, a, a', b, b', c, by omega⟩
    · exact ⟨q, e, a, a', b, b', c, by omega⟩
theorem em_C_not {f t : Nat → Int32} {p s j : Nat} (hp : p < 10) (hs : s ≤ p) (hf : f j = nI s) (ht : t j = nI p) : ¬ em_C f t p s j j := by
  rintro ⟨q, e, a, a', b, b', c, d⟩
  have e1 : s = q := (nI_eq (by omega) (by omega)).mp (hf.symm.trans b)
  have e2 : p = e := (nI_eq (by omega) (by omega)).mp (ht.symm.trans b')
  omega
/-- the next start: s + 1 done is s begun -/
theorem em_C_down {f t : Nat → Int32} {k p s l : Nat} (hl : l < k) : em_C f t p (s + 1) k l ↔ em_C f t p s 0 l := by
  constructor
  · rintro ⟨q, e, a, a', b, b', c, d⟩
    exact ⟨q, e, a, a', b, b', c, by omega⟩
  · rintro ⟨q, e, a, a', b, b', c, d⟩
    exact ⟨q, e, a, a', b, b', c, by omega⟩
/-- all that ends at p or before, as one start above it -/
theorem em_C_zero {f t : Nat → Int32} {k p l : Nat} (hl : l < k) : em_C f t p 0 k l ↔ em_C f t (p + 1) (p + 1) 0 l := by
  constructor
  · rintro ⟨q, e, a, a', b, b', c, d⟩
    exact ⟨q, e, a, a', b, b', c, by omega⟩
  · rintro ⟨q, e, a, a', b, b', c, d⟩
    exact ⟨q, e, a, a', b, b', c, by omega⟩
theorem el_2 {c k p s : Nat} {f t ls : Nat → Int32} {cp : Nat → Nat} (hk : k ≤ 11) (hp : p < 10) (hs : s ≤ p) : ∀ m j, j + m = k → ∀ (len : Nat) (w x : Nat → Int32) (rp : Nat → Nat), len ≤ 32 → em_I k (p + 1) f t (em_A f (p + 1) 0) (em_C f t p s j) len w x ls cp rp →
    ∃ (len' : Nat) (w' x' : Nat → Int32) (rp' : Nat → Nat), len' ≤ 32 ∧ em_I k (p + 1) f t (em_A f (p + 1) 0) (em_C f t p s k) len' w' x' ls cp rp' ∧ ∀ n, m < n → ∀ {post : St1 → Prop} {rdy cnt lbl ent edd wrt : Int32} {a1 a2 a3 a4 a5 a6 a7 a8 a9 a10 a11 a16 a17 a18 a19 : Nat → Int32}, post (rdy, cnt, nI k, nI len', lbl, ent, edd, wrt, a1, a2, a3, a4, a5, a6, a7, a8, a9, a10, a11, f, t, w', x', a16, a17, a18, a19) → wX_endLoop_2 post (nI s) (nI p) n (nI j) rdy cnt (nI k) (nI len) lbl ent edd wrt a1 a2 a3 a4 a5 a6 a7 a8 a9 a10 a11 f t w x a16 a17 a18 a19 := by
  intro m
  induction m with
  | zero =>
    intro j hj len w x rp hlen hI
    refine ⟨len, w, x, rp, hlen, by rw [show k = j by omega] at hI ⊢; exact hI, ?_⟩
    intro n hn post rdy cnt lbl ent edd wrt a1 a2 a3 a4 a5 a6 a7 a8 a9 a10 a11 a16 a17 a18 a19 H
    cases n with
    | zero => omega
    | succ n => exact pk_le k j (fun _ => H) (fun z => absurd z (by omega))
  | succ m ih =>
    intro j hj len w x rp hlen hI
    have cj : (nI j).toNatClampNeg = j := nI_clamp (by omega)
    have vj : vp_in (nI j) 20 := pk_in j 20 (by omega)
    by_cases h : f j = nI s ∧ t j = nI p
    · obtain ⟨hf, ht⟩ := h
      have hI1 := em_rep hI (l := j) (q := s) (e := p) (by omega) (em_C_not hp hs hf ht) ⟨s, by omega, hf, by omega⟩ (by omega) hp hf ht hs (by omega)
      have hI2 := em_cong hI1 (fun _ _ => Iff.rfl) (fun l _ => em_C_yes hp hs hf ht)
      have hl2 := em_len hI2 hk (by omega) (by omega)
      obtain ⟨len', w', x', rp', h1, h2, W⟩ := ih (j + 1) (by omega) _ _ _ _ hl2 hI2
      refine ⟨len', w', x', rp', h1, h2, ?_⟩
      intro n hn post rdy cnt lbl ent edd wrt a1 a2 a3 a4 a5 a6 a7 a8 a9 a10 a11 a16 a17 a18 a19 H
      cases n with
      | zero => omega
      | succ n => exact pk_le k j (fun z => absurd z (by omega)) (fun _ => ⟨vj, br_t (by rw [cj]; exact hf) ⟨vj, br_t (by rw [cj]; exact ht) (pu_1 (by omega) 2 (nI j) (nm_r (nI_1 j) (W n (by omega) H)))⟩⟩)
    · obtain ⟨len', w', x', rp', h1, h2, W⟩ := ih (j + 1) (by omega) _ _ _ _ hlen (em_cong hI (fun _ _ => Iff.rfl) (fun l _ => em_C_no h))
      refine ⟨len', w', x', rp', h1, h2, ?_⟩
      intro n hn post rdy cnt lbl ent edd wrt a1 a2 a3 a4 a5 a6 a7 a8 a9 a10 a11 a16 a17 a18 a19 H
      cases n with
      | zero => omega
      | succ n =>
        refine pk_le k j (fun z => absurd z (by omega)) (fun _ => ⟨vj, br_c (fun z => ⟨vj, br_f (fun z' => ?_) (nm_r (nI_1 j) (W n (by omega) H))⟩) (fun z => nm_r (nI_1 j) (W n (by omega) H))⟩)
        rw [cj] at z z'
        exact h ⟨z, z'⟩
theorem em_65 {k p : Nat} {f t ls : Nat → Int32} {cp : Nat → Nat} (hk : k ≤ 11) (hp : p < 10) : ∀ s, s ≤ p → ∀ (len : Nat) (w x : Nat → Int32) (rp : Nat → Nat), len ≤ 32 → em_I k (p + 1) f t (em_A f (p + 1) 0) (em_C f t p s 0) len w x ls cp rp →
    ∃ (len' : Nat) (w' x' : Nat → Int32) (rp' : Nat → Nat), len' ≤ 32 ∧ em_I k (p + 1) f t (em_A f (p + 1) 0) (em_C f t (p + 1) (p + 1) 0) len' w' x' ls cp rp' ∧ ∀ n, s + 1 < n → ∀ {post : St1 → Prop} {J : Int32 → Int32 → Int32 → Int32 → Int32 → Int32 → Int32 → Int32 → Int32 →  (Nat → Int32) → (Nat → Int32) → (Nat → Int32) → (Nat → Int32) → (Nat → Int32) → (Nat → Int32) → (Nat → Int32) → (Nat → Int32) → (Nat → Int32) → (Nat → Int32) → (Nat → Int32) → (Nat → Int32) → (Nat → Int32) → (Nat → Int32) → (Nat → Int32) → (Nat → Int32) → (Nat → Int32) → (Nat → Int32) → (Nat → Int32) → Prop} {rdy cnt lbl ent edd wrt : Int32} {a1 a2 a3 a4 a5 a6 a7 a8 a9 a10 a11 a17 a18 a19 : Nat → Int32}, J (nI (p + 1)) rdy cnt (nI k) (nI len') lbl ent edd wrt a1 a2 a3 a4 a5 a6 a7 a8 a9 a10 a11 f t w' x' ls a17 a18 a19 → wX_emit_65 post J (nI p) n (nI s) rdy cnt (nI k) (nI len) lbl ent edd wrt a1 a2 a3 a4 a5 a6 a7 a8 a9 a10 a11 f t w x ls a17 a18 a19 := by
  intro s
  induction s with
  | zero =>
    intro hs len w x rp hlen hI
    obtain ⟨len', w', x', rp', h1, h2, W⟩ := el_2 (c := 0) hk hp hs k 0 (by omega) _ _ _ _ hlen hI
    refine ⟨len', w', x', rp', h1, em_cong h2 (fun _ _ => Iff.rfl) (fun l hl => em_C_zero hl), ?_⟩
    intro n hn post J rdy cnt lbl ent edd wrt a1 a2 a3 a4 a5 a6 a7 a8 a9 a10 a11 a17 a18 a19 H
    obtain ⟨n, rfl⟩ : ∃ n', n = n' + 2 := ⟨n - 2, by omega⟩
    refine br_f (by decide) ?_
    unfold wpX_endLoop
    refine ⟨k + 1, W (k + 1) (by omega) (nm_e ?_)⟩
    exact br_t (by decide) (nm_r (nI_1 p) H)
  | succ s ih =>
    intro hs len w x rp hlen hI
    obtain ⟨len1, w1, x1, rp1, h1, h2, W1⟩ := el_2 (c := 0) hk hp hs k 0 (by omega) _ _ _ _ hlen hI
    obtain ⟨len', w', x', rp', g1, g2, W⟩ := ih (by omega) _ _ _ _ h1 (em_cong h2 (fun _ _ => Iff.rfl) (fun l hl => em_C_down hl))
    refine ⟨len', w', x', rp', g1, g2, ?_⟩
    intro n hn post J rdy cnt lbl ent edd wrt a1 a2 a3 a4 a5 a6 a7 a8 a9 a10 a11 a17 a18 a19 H
    cases n with
    | zero => omega
    | succ n =>
      refine br_f (nI_pos (by omega)) ?_
      unfold wpX_endLoop
      exact ⟨k + 1, W1 (k + 1) (by omega) (nm_r (pk_m1 s) (W n (by omega) H))⟩
theorem em_17 {k p : Nat} {f t : Nat → Int32} (hk : k ≤ 11) (hp : p < 10) : ∀ m j, j + m = k → ∀ (len : Nat) (w x ls : Nat → Int32) (cp rp : Nat → Nat), len ≤ 32 → em_I k p f t (em_A f p j) (em_C f t p p 0) len w x ls cp rp →
    ∃ (len' : Nat) (w' x' ls' : Nat → Int32) (cp' rp' : Nat → Nat), len' ≤ 32 ∧ em_I k (p + 1) f t (em_A f (p + 1) 0) (em_C f t (p + 1) (p + 1) 0) len' w' x' ls' cp' rp' ∧ ∀ n, m < n → ∀ {post : St1 → Prop} {J : Int32 → Int32 → Int32 → Int32 → Int32 → Int32 → Int32 → Int32 → Int32 →  (Nat → Int32) → (Nat → Int32) → (Nat → Int32) → (Nat → Int32) → (Nat → Int32) → (Nat → Int32) → (Nat → Int32) → (Nat → Int32) → (Nat → Int32) → (Nat → Int32) → (Nat → Int32) → (Nat → Int32) → (Nat → Int32) → (Nat → Int32) → (Nat → Int32) → (Nat → Int32) → (Nat → Int32) → (Nat → Int32) → (Nat → Int32) → Prop} {rdy cnt lbl ent edd wrt : Int32} {a1 a2 a3 a4 a5 a6 a7 a8 a9 a10 a11 a17 a18 a19 : Nat → Int32}, J (nI (p + 1)) rdy cnt (nI k) (nI len') lbl ent edd wrt a1 a2 a3 a4 a5 a6 a7 a8 a9 a10 a11 f t w' x' ls' a17 a18 a19 → wX_emit_17 post J (nI p) n (nI j) rdy cnt (nI k) (nI len) lbl ent edd wrt a1 a2 a3 a4 a5 a6 a7 a8 a9 a10 a11 f t w x ls a17 a18 a19 := by
  intro m
  induction m with
  | zero =>
    intro j hj len w x ls cp rp hlen hI
    rw [show j = k by omega] at hI
    have hI1 := em_cong (em_code hI) (fun l hl => em_A_next hl) (fun _ _ => Iff.rfl)
    have hl1 := em_len hI1 hk (by omega) (by omega)
    obtain ⟨len', w', x', rp', h1, h2, W⟩ := em_65 hk hp p (Nat.le_refl p) _ _ _ _ hl1 hI1
    refine ⟨len', w', x', ls, _, rp', h1, h2, ?_⟩
    intro n hn post J rdy cnt lbl ent edd wrt a1 a2 a3 a4 a5 a6 a7 a8 a9 a10 a11 a17 a18 a19 H
    cases n with
    | zero => omega
    | succ n => exact pk_le k j (fun _ => pu_1 (by omega) 1 (nI p) ⟨p + 2, W (p + 2) (by omega) H⟩) (fun z => absurd z (by omega))
  | succ m ih =>
    intro j hj len w x ls cp rp hlen hI
    have cj : (nI j).toNatClampNeg = j := nI_clamp (by omega)
    have vj : vp_in (nI j) 20 := pk_in j 20 (by omega)
    by_cases h : f j = nI p
    · have hI1 := em_cong (em_loop hI (l := j) (by omega) (em_A_not hp h) hp h) (fun l _ => em_A_yes hp h) (fun _ _ => Iff.rfl)
      have hl1 := em_len hI1 hk (by omega) (by omega)
      obtain ⟨len', w', x', ls', cp', rp', h1, h2, W⟩ := ih (j + 1) (by omega) _ _ _ _ _ _ hl1 hI1
      refine ⟨len', w', x', ls', cp', rp', h1, h2, ?_⟩
      intro n hn post J rdy cnt lbl ent edd wrt a1 a2 a3 a4 a5 a6 a7 a8 a9 a10 a11 a17 a18 a19 H
      have e : upd ls (nI j).toNatClampNeg (nI len) = upd ls j (nI len) := by rw [cj]
      cases n with
      | zero => omega
      | succ n => exact pk_le k j (fun z => absurd z (by omega)) (fun _ => ⟨vj, br_t (by rw [cj]; exact h) ⟨vj, nm_r e (pu_1 (by omega) 0 (nI j) (nm_r (nI_1 j) (W n (by omega) H)))⟩⟩)
    · obtain ⟨len', w', x', ls', cp', rp', h1, h2, W⟩ := ih (j + 1) (by omega) _ _ _ _ _ _ hlen (em_cong hI (fun l _ => em_A_no hp h) (fun _ _ => Iff.rfl))
      refine ⟨len', w', x', ls', cp', rp', h1, h2, ?_⟩
      intro n hn post J rdy cnt lbl ent edd wrt a1 a2 a3 a4 a5 a6 a7 a8 a9 a10 a11 a17 a18 a19 H
      cases n with
      | zero => omega
      | succ n => exact pk_le k j (fun z => absurd z (by omega)) (fun _ => ⟨vj, br_f (by rw [cj]; exact h) (nm_r (nI_1 j) (W n (by omega) H))⟩)
theorem em_7 {c k : Nat} {f t : Nat → Int32} (hk : k ≤ 11) (hc : c ≤ 10) : ∀ m p, p + m = c → ∀ (len : Nat) (w x ls : Nat → Int32) (cp rp : Nat → Nat), len ≤ 32 → em_I k p f t (em_A f p 0) (em_C f t p p 0) len w x ls cp rp →
    ∃ (len' : Nat) (w' x' ls' : Nat → Int32) (cp' rp' : Nat → Nat), len' ≤ 32 ∧ em_I k c f t (em_A f c 0) (em_C f t c c 0) len' w' x' ls' cp' rp' ∧ ∀ n, m < n → ∀ {post : St1 → Prop} {rdy lbl ent edd wrt : Int32} {a1 a2 a3 a4 a5 a6 a7 a8 a9 a10 a11 a17 a18 a19 : Nat → Int32}, post (rdy, nI c, nI k, nI len', lbl, ent, edd, wrt, a1, a2, a3, a4, a5, a6, a7, a8, a9, a10, a11, f, t, w', x', ls', a17, a18, a19) → wX_emit_7 post n (nI p) rdy (nI c) (nI k) (nI len) lbl ent edd wrt a1 a2 a3 a4 a5 a6 a7 a8 a9 a10 a11 f t w x ls a17 a18 a19 := by
  intro m
  induction m with
  | zero =>
    intro p hp len w x ls cp rp hlen hI
    rw [show p = c by omega] at hI
    refine ⟨len, w, x, ls, cp, rp, hlen, hI, ?_⟩
    intro n hn post rdy lbl ent edd wrt a1 a2 a3 a4 a5 a6 a7 a8 a9 a10 a11 a17 a18 a19 H
    cases n with
    | zero => omega
    | succ n => exact pk_le c p (fun _ => H) (fun z => absurd z (by omega))
  | succ m ih =>
    intro p hp len w x ls cp rp hlen hI
    obtain ⟨len1, w1, x1, ls1, cp1, rp1, h1, h2, W1⟩ := em_17 hk (p := p) (by omega) k 0 (by omega) _ _ _ _ _ _ hlen hI
    obtain ⟨len', w', x', ls', cp', rp', g1, g2, W⟩ := ih (p + 1) (by omega) _ _ _ _ _ _ h1 h2
    refine ⟨len', w', x', ls', cp', rp', g1, g2, ?_⟩
    intro n hn post rdy lbl ent edd wrt a1 a2 a3 a4 a5 a6 a7 a8 a9 a10 a11 a17 a18 a19 H
    cases n with
    | zero => omega
    | succ n => exact pk_le c p (fun z => absurd z (by omega)) (fun _ => ⟨k + 1, W1 (k + 1) (by omega) (W n (by omega) H)⟩)
/-- what a run needs of the code -/
def rl_okE (c k : Nat) (f t : Nat → Int32) (len : Nat) (w x ls : Nat → Int32) (cp rp : Nat → Nat) : Prop :=
  len ≤ 32 ∧
  (∀ i, i < len → w i = 0 ∨ (w i = 1 ∧ ∃ p, p < c ∧ x i = nI p ∧ cp p = i) ∨ (w i = 2 ∧ ∃ l, l < k ∧ x i = nI l ∧ ∃ q e s, q < 10 ∧ e < 10 ∧ f l = nI q ∧ t l = nI e ∧ q ≤ e ∧ e < c ∧ cp e < i ∧ s < len ∧ ls l = nI s ∧ s < cp q)) ∧
  (∀ p, p < c → cp p < len ∧ w (cp p) = 1 ∧ x (cp p) = nI p) ∧
  (∀ p p', p < p' → p' < c → cp p < cp p') ∧
  (∀ l, l < k → ∀ q e, q < c → e < c → f l = nI q → t l = nI e → q ≤ e → rp l < len ∧ w (rp l) = 2 ∧ x (rp l) = nI l ∧ cp e < rp l)
theorem em_main {c k : Nat} {f t : Nat → Int32} (hk : k ≤ 11) (hc : c ≤ 10) (w x ls : Nat → Int32) :
    ∃ (len' : Nat) (w' x' ls' : Nat → Int32) (cp' rp' : Nat → Nat), rl_okE c k f t len' w' x' ls' cp' rp' ∧ ∀ {post : St1 → Prop} {rdy lng lbl ent edd wrt : Int32} {a1 a2 a3 a4 a5 a6 a7 a8 a9 a10 a11 a17 a18 a19 : Nat → Int32}, post (rdy, nI c, nI k, nI len', lbl, ent, edd, wrt, a1, a2, a3, a4, a5, a6, a7, a8, a9, a10, a11, f, t, w', x', ls', a17, a18, a19) → wpX_emit post (rdy, nI c, nI k, lng, lbl, ent, edd, wrt, a1, a2, a3, a4, a5, a6, a7, a8, a9, a10, a11, f, t, w, x, ls, a17, a18, a19) := by
  have hI : em_I k 0 f t (em_A f 0 0) (em_C f t 0 0 0) 0 w x ls (fun _ => 0) (fun _ => 0) := by
    refine ⟨fun i hi => absurd hi (by omega), fun p hp => absurd hp (by omega), fun p p' _ hp => absurd hp (by omega), fun l hl hA => ?_, fun l hl hC => ?_⟩
    · obtain ⟨q, a, b, c⟩ := hA
      omega
    · obtain ⟨q, e, a, a', b, b', c, d⟩ := hC
      omega
  obtain ⟨len', w', x', ls', cp', rp', h1, h2, W⟩ := em_7 hk hc c 0 (by omega) _ _ _ _ _ _ (by omega) hI
  refine ⟨len', w', x', ls', cp', rp', ⟨h1, fun i hi => ?_, h2.2.1, h2.2.2.1, fun l hl q e hq he hf ht hqe => ?_⟩, ?_⟩
  · rcases h2.1 i hi with z | z | ⟨z1, l, z2, z3, z4, z5⟩
    · exact Or.inl z.1
    · exact Or.inr (Or.inl z)
    · obtain ⟨_, _, _, q, e, d1, d2, d3, d4, d5, d6, d7, d8⟩ := h2.2.2.2.2 l z2 z5
      obtain ⟨s, q', b1, b2, b3, b4, b5⟩ := h2.2.2.2.1 l z2 d8
      have eq : q = q' := (nI_eq (by omega) (by omega)).mp (d3.symm.trans b4)
      subst eq
      exact Or.inr (Or.inr ⟨z1, l, z2, z3, q, e, s, d1, d2, d3, d4, d5, d6, by omega, b1, b2, b5 (by omega)⟩)
  · obtain ⟨z1, z2, z3, q', e', d1, d2, d3, d4, d5, d6, d7, d8⟩ := h2.2.2.2.2 l hl ⟨q, e, by omega, by omega, hf, ht, hqe, Or.inl he⟩
    have ee : e = e' := (nI_eq (by omega) (by omega)).mp (ht.symm.trans d4)
    subst ee
    exact ⟨z1, z2, z3, d7⟩
  · intro post rdy lng lbl ent edd wrt a1 a2 a3 a4 a5 a6 a7 a8 a9 a10 a11 a17 a18 a19 H
    unfold wpX_emit
    exact ⟨c + 1, W (c + 1) (by omega) H⟩
end
section
/-! prepare -/
/-- what is prepared, over the graph's ends F, S -/
def rl_PO (F S : Nat → Option Nat) (c : Nat) (ord : Nat → Nat) (P : Nat → Int32) (k : Nat) (f t : Nat → Int32) (len : Nat) (w x ls : Nat → Int32) : Prop :=
  rl_ok1 c ord P ∧ rl_LT c k f t ∧ k ≤ 11 ∧ rl_Cov F S ord P c k f t ∧ ∃ cp rp, rl_okE c k f t len w x ls cp rp
theorem pr_0 {F S : Nat → Option Nat} (hF : ∀ b, b < 10 → ∀ t, F b = some t → t < 10) (hS : ∀ b, b < 10 → ∀ t, S b = some t → t < 10) (f0 t0 w0 x0 ls0 : Nat → Int32) :
    ∃ (c : Nat) (ord : Nat → Nat) (P : Nat → Int32) (k : Nat) (f t : Nat → Int32) (len : Nat) (w x ls : Nat → Int32), rl_PO F S c ord P k f t len w x ls ∧ ∀ ν, rl_nu 10 ν → ∀ {post : St1 → Prop} {cnt lps lng lbl ent edd wrt : Int32} {a1 a2 a3 a4 a5 a6 a7 a8 a9 a10 a11 a17 a18 a19 : Nat → Int32}, (∀ b, b < 10 → a6 (ν b) = rl_sv ν (F b)) → (∀ b, b < 10 → a7 (ν b) = rl_sv ν (S b)) →
      (∀ a8' a9' a10' a11' : Nat → Int32, (∀ p, p < c → a8' p = nI (ν (ord p))) → (∀ b, b < 10 → a9' (ν b) = P b) → post (1, nI c, nI k, nI len, lbl, ent, edd, wrt, a1, a2, a3, a4, a5, a6, a7, a8', a9', a10', a11', f, t, w, x, ls, a17, a18, a19)) →
      wpX_prepare post (0, cnt, lps, lng, lbl, ent, edd, wrt, a1, a2, a3, a4, a5, a6, a7, a8, a9, a10, a11, f0, t0, w0, x0, ls0, a17, a18, a19) := by
  obtain ⟨c, ord, P, h1, W1⟩ := ob_main F S hF hS
  obtain ⟨k, f, t1, h2, h3, h4, W2⟩ := fl_main hF hS h1 f0 t0
  have hk := rl_LT_k h2 h1.2.1
  obtain ⟨t, h5, h6, W3⟩ := wi_25 (c := c) (f := f) h3 100 0 (by omega) 1 t1 h2
  obtain ⟨len, w, x, ls, cp, rp, h7, W4⟩ := em_main (f := f) (t := t) hk h1.2.1 w0 x0 ls0
  refine ⟨c, ord, P, k, f, t, len, w, x, ls, ⟨h1, h5, hk, rl_Cov_up h4 (Nat.le_refl k) (fun l hl => ⟨rfl, h6 l hl⟩), cp, rp, h7⟩, ?_⟩
  intro ν hν post cnt lps lng lbl ent edd wrt a1 a2 a3 a4 a5 a6 a7 a8 a9 a10 a11 a17 a18 a19 g1 g2 H
  unfold wpX_prepare
  refine br_t rfl (W1 ν hν g1 g2 (fun a8' a9' a10' a11' q1 q2 => ?_))
  refine W2 ν hν g1 g2 q1 q2 ⟨101, W3 101 (by omega) ?_⟩
  unfold wX_prepare_46
  exact W4 (H a8' a9' a10' a11' q1 q2)
theorem pr_1 {post : St1 → Prop} {rdy cnt lps lng lbl ent edd wrt : Int32} {a1 a2 a3 a4 a5 a6 a7 a8 a9 a10 a11 a12 a13 a14 a15 a16 a17 a18 a19 : Nat → Int32} (h : ¬ rdy = 0) (H : post (rdy, cnt, lps, lng, lbl, ent, edd, wrt, a1, a2, a3, a4, a5, a6, a7, a8, a9, a10, a11, a12, a13, a14, a15, a16, a17, a18, a19)) : wpX_prepare post (rdy, cnt, lps, lng, lbl, ent, edd, wrt, a1, a2, a3, a4, a5, a6, a7, a8, a9, a10, a11, a12, a13, a14, a15, a16, a17, a18, a19) := by
  unfold wpX_prepare
  exact br_f h H
end
section
/-! carryOut, enter -/
/-- an assignment that may be carried out -/
def rl_okO (o v w : Int32) : Prop := ∃ o' v', o' < 6 ∧ v' < 4 ∧ o = nI o' ∧ v = nI v' ∧ (1 ≤ o' → o' ≤ 3 → ∃ w', w' < 4 ∧ w = nI w')
theorem cr_main {o v w : Int32} (h : rl_okO o v w) (vr lo : Nat → Int32) (wr : Int32) : ∃ (vr' lo' : Nat → Int32) (wr' : Int32), ∀ {post : St1 → Prop} {rdy cnt lps lng lbl ent edd : Int32} {a1 a2 a3 a4 a5 a6 a7 a8 a9 a10 a11 a12 a13 a14 a15 a16 a18 : Nat → Int32} {j : Nat}, j < 30 → a2 j = o → a3 j = v → a4 j = w → post (rdy, cnt, lps, lng, lbl, ent, edd, wr', a1, a2, a3, a4, a5, a6, a7, a8, a9, a10, a11, a12, a13, a14, a15, a16, vr', a18, lo') → wpX_carryOut post (rdy, cnt, lps, lng, lbl, ent, edd, wr, a1, a2, a3, a4, a5, a6, a7, a8, a9, a10, a11, a12, a13, a14, a15, a16, vr, a18, lo) (nI j) := by
  obtain ⟨o', v', ho, hv, rfl, rfl, hw⟩ := h
  have vv : vp_in (nI v') 4 := pk_in v' 4 hv
  have cv : (nI v').toNatClampNeg = v' := nI_clamp (by omega)
  have hcase : o' = 0 ∨ o' = 1 ∨ o' = 2 ∨ o' = 3 ∨ o' = 4 ∨ o' = 5 := by omega
  rcases hcase with rfl | rfl | rfl | rfl | rfl | rfl
  · refine ⟨upd vr v' w, lo, wr, ?_⟩
    intro post rdy cnt lps lng lbl ent edd a1 a2 a3 a4 a5 a6 a7 a8 a9 a10 a11 a12 a13 a14 a15 a16 a18 j hj e2 e3 e4 H
    have cj : (nI j).toNatClampNeg = j := nI_clamp (by omega)
    have vj : vp_in (nI j) 30 := pk_in j 30 hj
    have q3 : a3 (nI j).toNatClampNeg = nI v' := by rw [cj, e3]
    have q4 : a4 (nI j).toNatClampNeg = w := by rw [cj, e4]
    have q2 : a2 (nI j).toNatClampNeg = nI 0 := by rw [cj, e2]
    have e : upd vr (nI v').toNatClampNeg w = upd vr v' w := by rw [cv]
    unfold wpX_carryOut
    exact ⟨vj, nm_r q3 ⟨vj, nm_r q4 ⟨vj, nm_r q2 (br_f (by decide) (br_f (by decide) (br_t (by decide) ⟨vv, nm_r e H⟩)))⟩⟩⟩
  · obtain ⟨w', hw', rfl⟩ := hw (by omega) (by omega)
    have vw : vp_in (nI w') 4 := pk_in w' 4 hw'
    have cw : (nI w').toNatClampNeg = w' := nI_clamp (by omega)
    refine ⟨upd vr v' (vr v' + vr w'), lo, wr, ?_⟩
    intro post rdy cnt lps lng lbl ent edd a1 a2 a3 a4 a5 a6 a7 a8 a9 a10 a11 a12 a13 a14 a15 a16 a18 j hj e2 e3 e4 H
    have cj : (nI j).toNatClampNeg = j := nI_clamp (by omega)
    have vj : vp_in (nI j) 30 := pk_in j 30 hj
    have q3 : a3 (nI j).toNatClampNeg = nI v' := by rw [cj, e3]
    have q4 : a4 (nI j).toNatClampNeg = nI w' := by rw [cj, e4]
    have q2 : a2 (nI j).toNatClampNeg = nI 1 := by rw [cj, e2]
    have e : upd vr (nI v').toNatClampNeg (vr (nI v').toNatClampNeg + vr (nI w').toNatClampNeg) = upd vr v' (vr v' + vr w') := by rw [cv, cw]
    unfold wpX_carryOut
    exact ⟨vj, nm_r q3 ⟨vj, nm_r q4 ⟨vj, nm_r q2 (br_f (by decide) (br_f (by decide) (br_f (by decide) (br_t (by decide) ⟨vv, vw, vv, nm_r e H⟩))))⟩⟩⟩
  · obtain ⟨w', hw', rfl⟩ := hw (by omega) (by omega)
    have vw : vp_in (nI w') 4 := pk_in w' 4 hw'
    have cw : (nI w').toNatClampNeg = w' := nI_clamp (by omega)
    refine ⟨upd vr v' (vr v' - vr w'), lo, wr, ?_⟩
    intro post rdy cnt lps lng lbl ent edd a1 a2 a3 a4 a5 a6 a7 a8 a9 a10 a11 a12 a13 a14 a15 a16 a18 j hj e2 e3 e4 H
    have cj : (nI j).toNatClampNeg = j := nI_clamp (by omega)
    have vj : vp_in (nI j) 30 := pk_in j 30 hj
    have q3 : a3 (nI j).toNatClampNeg = nI v' := by rw [cj, e3]
    have q4 : a4 (nI j).toNatClampNeg = nI w' := by rw [cj, e4]
    have q2 : a2 (nI j).toNatClampNeg = nI 2 := by rw [cj, e2]
    have e : upd vr (nI v').toNatClampNeg (vr (nI v').toNatClampNeg - vr (nI w').toNatClampNeg) = upd vr v' (vr v' - vr w') := by rw [cv, cw]
    unfold wpX_carryOut
    exact ⟨vj, nm_r q3 ⟨vj, nm_r q4 ⟨vj, nm_r q2 (br_f (by decide) (br_f (by decide) (br_f (by decide) (br_f (by decide) (br_t (by decide) ⟨vv, vw, vv, nm_r e H⟩)))))⟩⟩⟩
  · obtain ⟨w', hw', rfl⟩ := hw (by omega) (by omega)
    have vw : vp_in (nI w') 4 := pk_in w' 4 hw'
    have cw : (nI w').toNatClampNeg = w' := nI_clamp (by omega)
    refine ⟨upd vr v' (vr v' * vr w'), lo, wr, ?_⟩
    intro post rdy cnt lps lng lbl ent edd a1 a2 a3 a4 a5 a6 a7 a8 a9 a10 a11 a12 a13 a14 a15 a16 a18 j hj e2 e3 e4 H
    have cj : (nI j).toNatClampNeg = j := nI_clamp (by omega)
    have vj : vp_in (nI j) 30 := pk_in j 30 hj
    have q3 : a3 (nI j).toNatClampNeg = nI v' := by rw [cj, e3]
    have q4 : a4 (nI j).toNatClampNeg = nI w' := by rw [cj, e4]
    have q2 : a2 (nI j).toNatClampNeg = nI 3 := by rw [cj, e2]
    have e : upd vr (nI v').toNatClampNeg (vr (nI v').toNatClampNeg * vr (nI w').toNatClampNeg) = upd vr v' (vr v' * vr w') := by rw [cv, cw]
    unfold wpX_carryOut
    exact ⟨vj, nm_r q3 ⟨vj, nm_r q4 ⟨vj, nm_r q2 (br_f (by decide) (br_f (by decide) (br_f (by decide) (br_f (by decide) (br_f (by decide) (br_t (by decide) ⟨vv, vw, vv, nm_r e H⟩))))))⟩⟩⟩
  · refine ⟨upd vr v' (vr v' + w), lo, wr, ?_⟩
    intro post rdy cnt lps lng lbl ent edd a1 a2 a3 a4 a5 a6 a7 a8 a9 a10 a11 a12 a13 a14 a15 a16 a18 j hj e2 e3 e4 H
    have cj : (nI j).toNatClampNeg = j := nI_clamp (by omega)
    have vj : vp_in (nI j) 30 := pk_in j 30 hj
    have q3 : a3 (nI j).toNatClampNeg = nI v' := by rw [cj, e3]
    have q4 : a4 (nI j).toNatClampNeg = w := by rw [cj, e4]
    have q2 : a2 (nI j).toNatClampNeg = nI 4 := by rw [cj, e2]
    have e : upd vr (nI v').toNatClampNeg (vr (nI v').toNatClampNeg + w) = upd vr v' (vr v' + w) := by rw [cv]
    unfold wpX_carryOut
    exact ⟨vj, nm_r q3 ⟨vj, nm_r q4 ⟨vj, nm_r q2 (br_f (by decide) (br_f (by decide) (br_f (by decide) (br_f (by decide) (br_f (by decide) (br_f (by decide) (br_t (by decide) ⟨vv, vv, nm_r e H⟩)))))))⟩⟩⟩
  · refine ⟨vr, upd lo (wr &&& 15).toNatClampNeg (vr v'), wr + 1, ?_⟩
    intro post rdy cnt lps lng lbl ent edd a1 a2 a3 a4 a5 a6 a7 a8 a9 a10 a11 a12 a13 a14 a15 a16 a18 j hj e2 e3 e4 H
    have cj : (nI j).toNatClampNeg = j := nI_clamp (by omega)
    have vj : vp_in (nI j) 30 := pk_in j 30 hj
    have q3 : a3 (nI j).toNatClampNeg = nI v' := by rw [cj, e3]
    have q4 : a4 (nI j).toNatClampNeg = w := by rw [cj, e4]
    have q2 : a2 (nI j).toNatClampNeg = nI 5 := by rw [cj, e2]
    have e : upd lo (wr &&& 15).toNatClampNeg (vr (nI v').toNatClampNeg) = upd lo (wr &&& 15).toNatClampNeg (vr v') := by rw [cv]
    have v15 : vp_in (wr &&& 15) 16 := pk_andIn wr 4 (by decide) (by omega)
    unfold wpX_carryOut
    exact ⟨vj, nm_r q3 ⟨vj, nm_r q4 ⟨vj, nm_r q2 (br_f (by decide) (br_t (by decide) ⟨vv, v15, nm_r e (nm_e H)⟩))⟩⟩⟩
/-- a state matches the picture of the graph under a naming -/
def rl_mG (ν : Nat → Nat) (sz o2 o3 o4 ts : Nat → Int32) (F S : Nat → Option Nat) (a1 a2 a3 a4 a5 a6 a7 : Nat → Int32) : Prop :=
  (∀ b, b < 10 → a1 (ν b) = sz b) ∧ (∀ j, j < 30 → a2 (rl_pi ν j) = o2 j) ∧ (∀ j, j < 30 → a3 (rl_pi ν j) = o3 j) ∧ (∀ j, j < 30 → a4 (rl_pi ν j) = o4 j) ∧ (∀ b, b < 10 → a5 (ν b) = ts b) ∧ (∀ b, b < 10 → a6 (ν b) = rl_sv ν (F b)) ∧ (∀ b, b < 10 → a7 (ν b) = rl_sv ν (S b))
def rl_okG (sz o2 o3 o4 ts : Nat → Int32) (F S : Nat → Option Nat) : Prop :=
  (∀ b, b < 10 → ∃ s, s ≤ 3 ∧ sz b = nI s) ∧ (∀ j, j < 30 → rl_okO (o2 j) (o3 j) (o4 j)) ∧ (∀ b, b < 10 → ts b = -1 ∨ ∃ v, v < 4 ∧ ts b = nI v) ∧ (∀ b, b < 10 → ∀ t, F b = some t → t < 10) ∧ (∀ b, b < 10 → ∀ t, S b = some t → t < 10)
/-- the label of an end -/
def rl_lab (P : Nat → Int32) : Option Nat → Int32
  | none => -1
  | some t => P t
theorem en_91 {post : St1 → Prop} {rdy cnt lps lng lbl ent edd wrt : Int32} {a1 a2 a3 a4 a5 a6 a7 a8 a9 a10 a11 a12 a13 a14 a15 a16 a17 a18 a19 : Nat → Int32} {ν : Nat → Nat} (hν : rl_nu 10 ν) {P : Nat → Int32} (h9 : ∀ b, b < 10 → a9 (ν b) = P b) (o : Option Nat) (ho : ∀ t, o = some t → t < 10) (H : post (rdy, cnt, lps, lng, rl_lab P o, ent, edd, wrt, a1, a2, a3, a4, a5, a6, a7, a8, a9, a10, a11, a12, a13, a14, a15, a16, a17, a18, a19)) : wX_enter_91 post (rl_sv ν o) rdy cnt lps lng lbl ent edd wrt a1 a2 a3 a4 a5 a6 a7 a8 a9 a10 a11 a12 a13 a14 a15 a16 a17 a18 a19 := by
  unfold wX_enter_91
  cases o with
  | none => exact br_f (show ¬ (0 : Int32) ≤ -1 by decide) H
  | some t =>
    have ht := ho t rfl
    have hv := hν.1 t ht
    have e : a9 (nI (ν t)).toNatClampNeg = P t := by rw [nI_clamp (by omega), h9 t ht]
    exact br_t (nI_pos' (by omega)) ⟨pk_in (ν t) 10 hv, nm_r e H⟩
theorem en_29 {sz o2 o3 o4 ts : Nat → Int32} {F S : Nat → Option Nat} (hG : rl_okG sz o2 o3 o4 ts F S) {P : Nat → Int32} {b s : Nat} (hb : b < 10) (hs : s ≤ 3) (hz : sz b = nI s) : ∀ m i, i + m = s → ∀ (vr lo : Nat → Int32) (wr : Int32),
    ∃ (vr' lo' : Nat → Int32) (wr' : Int32) (o : Option Nat), (o = F b ∨ o = S b) ∧ (m = 0 → vr' = vr ∧ wr' = wr) ∧ ∀ ν, rl_nu 10 ν → ∀ n, m < n → ∀ {post : St1 → Prop} {rdy cnt lps lng lbl ent edd : Int32} {a1 a2 a3 a4 a5 a6 a7 a8 a9 a10 a11 a12 a13 a14 a15 a16 a18 : Nat → Int32}, rl_mG ν sz o2 o3 o4 ts F S a1 a2 a3 a4 a5 a6 a7 → (∀ b, b < 10 → a9 (ν b) = P b) →
      post (rdy, cnt, lps, lng, rl_lab P o, ent, edd, wr', a1, a2, a3, a4, a5, a6, a7, a8, a9, a10, a11, a12, a13, a14, a15, a16, vr', a18, lo') → wX_enter_29 post (nI (ν b)) n (nI (3 * ν b + i)) rdy cnt lps lng lbl ent edd wr a1 a2 a3 a4 a5 a6 a7 a8 a9 a10 a11 a12 a13 a14 a15 a16 vr a18 lo := by
  obtain ⟨k1, k2, k3, k4, k5⟩ := hG
  have hsum : ∀ (ν : Nat → Nat) (a1 : Nat → Int32), rl_nu 10 ν → (∀ b, b < 10 → a1 (ν b) = sz b) → nI (ν b) * 3 + a1 (nI (ν b)).toNatClampNeg = nI (3 * ν b + s) := by
    intro ν a1 hν h
    have hv := hν.1 b hb
    rw [nI_clamp (by omega), h b hb, hz, show (3 : Int32) = nI 3 from rfl, pk_mul, nI_add, Nat.mul_comm]
  intro m
  induction m with
  | zero =>
    intro i hi vr lo wr
    have hex : ∃ o : Option Nat, (o = F b ∨ o = S b) ∧ ((ts b < 0 → o = F b) ∧ (¬ ts b < 0 → (0 < vr (ts b).toNatClampNeg → o = F b) ∧ (¬ 0 < vr (ts b).toNatClampNeg → o = S b))) := by
      by_cases c1 : ts b < 0
      · exact ⟨F b, Or.inl rfl, fun _ => rfl, fun z => absurd c1 z⟩
      · by_cases c2 : 0 < vr (ts b).toNatClampNeg
        · exact ⟨F b, Or.inl rfl, fun z => rfl, fun _ => ⟨fun _ => rfl, fun z => absurd c2 z⟩⟩
        · exact ⟨S b, Or.inr rfl, fun z => absurd z c1, fun _ => ⟨fun z => absurd z c2, fun _ => rfl⟩⟩
    obtain ⟨o, ho, ho1, ho2⟩ := hex
    have hot : ∀ t, o = some t → t < 10 := fun t z => by
      rcases ho with q | q
      · exact k4 b hb t (q ▸ z)
      · exact k5 b hb t (q ▸ z)
    refine ⟨vr, lo, wr, o, ho, fun _ => ⟨rfl, rfl⟩, ?_⟩
    intro ν hν n hn post rdy cnt lps lng lbl ent edd a1 a2 a3 a4 a5 a6 a7 a8 a9 a10 a11 a12 a13 a14 a15 a16 a18 hM h9 H
    obtain ⟨m1, m2, m3, m4, m5, m6, m7⟩ := hM
    have hv := hν.1 b hb
    have vb : vp_in (nI (ν b)) 10 := pk_in (ν b) 10 hv
    have cb : (nI (ν b)).toNatClampNeg = ν b := nI_clamp (by omega)
    have e5 : a5 (nI (ν b)).toNatClampNeg = ts b := by rw [cb, m5 b hb]
    have e6 : a6 (nI (ν b)).toNatClampNeg = rl_sv ν (F b) := by rw [cb, m6 b hb]
    have e7 : a7 (nI (ν b)).toNatClampNeg = rl_sv ν (S b) := by rw [cb, m7 b hb]
    have K : wX_enter_91 post (rl_sv ν o) rdy cnt lps lng lbl ent edd wr a1 a2 a3 a4 a5 a6 a7 a8 a9 a10 a11 a12 a13 a14 a15 a16 vr a18 lo := en_91 hν h9 o hot H
    cases n with
    | zero => omega
    | succ n =>
      refine ⟨vb, pk_le (3 * ν b + s) (3 * ν b + i) (fun _ => ⟨vb, nm_r e6 ⟨vb, br_c (fun z => ?_) (fun z => ⟨vb, ?_, br_c (fun z2 => ?_) (fun z2 => ⟨vb, nm_r e7 ?_⟩)⟩)⟩⟩) (fun z => absurd z (by omega)) (hsum ν a1 hν m1)⟩
      · rw [e5] at z
        rw [← ho1 z]
        exact K
      · rw [e5]
        rw [e5] at z
        rcases k3 b hb with q | ⟨v, hv4, q⟩
        · rw [q] at z
          exact absurd (by decide) z
        · exact pk_in v 4 hv4 q
      · rw [e5] at z z2
        rw [← (ho2 z).1 z2]
        exact K
      · rw [e5] at z z2
        rw [← (ho2 z).2 z2]
        exact K
  | succ m ih =>
    intro i hi vr lo wr
    obtain ⟨vr1, lo1, wr1, W1⟩ := cr_main (k2 (3 * b + i) (by omega)) vr lo wr
    obtain ⟨vr', lo', wr', o, h1, _, W⟩ := ih (i + 1) (by omega) vr1 lo1 wr1
    refine ⟨vr', lo', wr', o, h1, fun z => absurd z (by omega), ?_⟩
    intro ν hν n hn post rdy cnt lps lng lbl ent edd a1 a2 a3 a4 a5 a6 a7 a8 a9 a10 a11 a12 a13 a14 a15 a16 a18 hM h9 H
    have hv := hν.1 b hb
    have vb : vp_in (nI (ν b)) 10 := pk_in (ν b) 10 hv
    have ep : rl_pi ν (3 * b + i) = 3 * ν b + i := rl_pi_at ν (by omega)
    cases n with
    | zero => omega
    | succ n =>
      refine ⟨vb, pk_le (3 * ν b + s) (3 * ν b + i) (fun z => absurd z (by omega)) (fun _ => W1 (by omega) ?_ ?_ ?_ (nm_r (nI_1 (3 * ν b + i)) (W ν hν n (by omega) hM h9 H))) (hsum ν a1 hν hM.1)⟩
      · rw [← ep]
        exact hM.2.1 _ (by omega)
      · rw [← ep]
        exact hM.2.2.1 _ (by omega)
      · rw [← ep]
        exact hM.2.2.2.1 _ (by omega)
theorem en_main {sz o2 o3 o4 ts : Nat → Int32} {F S : Nat → Option Nat} (hG : rl_okG sz o2 o3 o4 ts F S) (P : Nat → Int32) {b : Nat} (hb : b < 10) (vr lo : Nat → Int32) (wr : Int32) :
    ∃ (vr' lo' : Nat → Int32) (wr' : Int32) (o : Option Nat), (o = F b ∨ o = S b) ∧ (sz b = 0 → vr' = vr ∧ wr' = wr) ∧ ∀ ν, rl_nu 10 ν → ∀ {post : St1 → Prop} {rdy cnt lps lng lbl ent edd : Int32} {a1 a2 a3 a4 a5 a6 a7 a8 a9 a10 a11 a12 a13 a14 a15 a16 a18 : Nat → Int32}, rl_mG ν sz o2 o3 o4 ts F S a1 a2 a3 a4 a5 a6 a7 → (∀ b, b < 10 → a9 (ν b) = P b) →
      post (rdy, cnt, lps, lng, rl_lab P o, ent + 1, nI (ν b), wr', a1, a2, a3, a4, a5, a6, a7, a8, a9, a10, a11, a12, a13, a14, a15, a16, vr', upd a18 (ν b) (a18 (ν b) + 1), lo') → wpX_enter post (rdy, cnt, lps, lng, lbl, ent, edd, wr, a1, a2, a3, a4, a5, a6, a7, a8, a9, a10, a11, a12, a13, a14, a15, a16, vr, a18, lo) (nI (ν b)) := by
  obtain ⟨s, hs, hz⟩ := hG.1 b hb
  obtain ⟨vr', lo', wr', o, h1, h2, W⟩ := en_29 hG (P := P) hb hs hz s 0 (by omega) vr lo wr
  refine ⟨vr', lo', wr', o, h1, fun z => h2 ?_, ?_⟩
  · rw [hz] at z
    exact (nI_eq (b := 0) (by omega) (by omega)).mp z
  · intro ν hν post rdy cnt lps lng lbl ent edd a1 a2 a3 a4 a5 a6 a7 a8 a9 a10 a11 a12 a13 a14 a15 a16 a18 hM h9 H
    have hv := hν.1 b hb
    have vb : vp_in (nI (ν b)) 10 := pk_in (ν b) 10 hv
    have e1 : upd a18 (nI (ν b)).toNatClampNeg (a18 (nI (ν b)).toNatClampNeg + 1) = upd a18 (ν b) (a18 (ν b) + 1) := by rw [nI_clamp (by omega)]
    have e2 : nI (ν b) * 3 = nI (3 * ν b + 0) := by rw [show (3 : Int32) = nI 3 from rfl, pk_mul, Nat.mul_comm, Nat.add_zero]
    unfold wpX_enter
    exact nm_e ⟨vb, vb, nm_r e1 (nm_r e2 ⟨s + 1, W ν hν (s + 1) (by omega) hM h9 H⟩)⟩
end
section
/-! a run: where the program counter stands against the label's block, and what the steps cost -/
/-- ahead of CODE q, or behind it with a REPEAT ahead that is taken -/
def rn_P (k len : Nat) (f t w x : Nat → Int32) (cp : Nat → Nat) (q pc stp e : Nat) : Prop :=
  (pc ≤ cp q ∧ stp + (cp q - pc) ≤ 64 * e + 32) ∨ (cp q < pc ∧ stp + (len - pc) + len ≤ 64 * e + 32 ∧ ∃ r l, pc ≤ r ∧ r < len ∧ w r = 2 ∧ l < k ∧ x r = nI l ∧ f l ≤ nI q ∧ nI q ≤ t l)
theorem rn_lt {c k len : Nat} {f t w x ls : Nat → Int32} {cp rp : Nat → Nat} (hE : rl_okE c k f t len w x ls cp rp) {q pc stp e : Nat} (hq : q < c) (h : rn_P k len f t w x cp q pc stp e) : pc < len ∧ stp ≤ 64 * e + 32 := by
  obtain ⟨e1, e2, e3, e4, e5⟩ := hE
  rcases h with ⟨a, b⟩ | ⟨a, b, r, l, d1, d2, _⟩
  · have := (e3 q hq).1
    exact ⟨by omega, by omega⟩
  · exact ⟨by omega, by omega⟩
theorem rn_next {c k len : Nat} {f t w x ls : Nat → Int32} {cp rp : Nat → Nat} (hE : rl_okE c k f t len w x ls cp rp) {q pc stp e : Nat} (hq : q < c) (h : rn_P k len f t w x cp q pc stp e) (h1 : ¬ (w pc = 1 ∧ x pc = nI q)) (h2 : ¬ (w pc = 2 ∧ ∃ l, l < k ∧ x pc = nI l ∧ f l ≤ nI q ∧ nI q ≤ t l)) : rn_P k len f t w x cp q (pc + 1) (stp + 1) e := by
  obtain ⟨e1, e2, e3, e4, e5⟩ := hE
  rcases h with ⟨a, b⟩ | ⟨a, b, r, l, d1, d2, d3, d4, d5, d6⟩
  · have g := e3 q hq
    have hne : pc ≠ cp q := fun z => h1 (by rw [z]; exact g.2)
    exact Or.inl ⟨by omega, by omega⟩
  · have hne : r ≠ pc := fun z => h2 (by rw [← z]; exact ⟨d3, l, d4, d5, d6⟩)
    exact Or.inr ⟨by omega, by omega, r, l, by omega, d2, d3, d4, d5, d6⟩
theorem rn_mono {c k len : Nat} {f t w x ls : Nat → Int32} {cp rp : Nat → Nat} (hE : rl_okE c k f t len w x ls cp rp) {p p' : Nat} (h : p ≤ p') (hp : p' < c) : cp p ≤ cp p' := by
  rcases Nat.lt_or_ge p p' with z | z
  · exact Nat.le_of_lt (hE.2.2.2.1 p p' z hp)
  · rw [show p = p' by omega]
    exact Nat.le_refl _
theorem rn_jump {c k len : Nat} {f t w x ls : Nat → Int32} {cp rp : Nat → Nat} (hE : rl_okE c k f t len w x ls cp rp) {q pc stp e q' e' s : Nat} (hq : q < c) (h : rn_P k len f t w x cp q pc stp e) (he : e' < c) (hcp : cp e' < pc) (hs : s < cp q') (h1 : q' ≤ q) (h2 : q ≤ e') : rn_P k len f t w x cp q (s + 1) (stp + 1) e := by
  have m1 := rn_mono hE h1 hq
  have m2 := rn_mono hE h2 he
  have m3 := (hE.2.2.1 q hq).1
  rcases h with ⟨a, b⟩ | ⟨a, b, r, l, d1, d2, _⟩
  · omega
  · exact Or.inl ⟨by omega, by omega⟩
theorem rn_enter {F S : Nat → Option Nat} {ord : Nat → Nat} {P : Nat → Int32} {c k len : Nat} {f t w x ls : Nat → Int32} {cp rp : Nat → Nat} (hE : rl_okE c k f t len w x ls cp rp) (hc : c ≤ 10) (hT : rl_LT c k f t) (hC : rl_Cov F S ord P c k f t)
    {p pc stp e q s : Nat} (hp : p < c) (h : rn_P k len f t w x cp p pc stp e) (hpc : cp p = pc) (hs : F (ord p) = some s ∨ S (ord p) = some s) (hq : q < c) (hPs : P s = nI q) : rn_P k len f t w x cp q (pc + 1) (stp + 1) (e + 1) := by
  have g := rn_lt hE hp h
  have hlen := hE.1
  have m3 := (hE.2.2.1 q hq).1
  rcases Nat.lt_or_ge p q with z | z
  · have m := hE.2.2.2.1 p q z hq
    exact Or.inl ⟨by omega, by omega⟩
  · obtain ⟨l, hl, hfl, htl⟩ := hC p hp s hs (by rw [hPs]; exact nI_le z (by omega))
    obtain ⟨_, ⟨e', he', hte⟩, _⟩ := hT.1 l hl
    rw [hte] at htl
    have hpe : p ≤ e' := (nI_leI (by omega) (by omega)).mp htl
    rw [hPs] at hfl
    obtain ⟨r1, r2, r3, r4⟩ := hE.2.2.2.2 l hl q e' hq he' hfl hte (by omega)
    have m1 := rn_mono hE z hp
    have m2 := rn_mono hE hpe he'
    refine Or.inr ⟨by omega, by omega, rp l, l, by omega, r1, r2, hl, r3, ?_, ?_⟩
    · rw [hfl]
      exact Int32.le_refl _
    · rw [hte]
      exact nI_le (by omega) (by omega)
/-- the run's picture -/
def rn_I (c k len : Nat) (ord : Nat → Nat) (f t w x : Nat → Int32) (cp : Nat → Nat) (pc stp e : Nat) (lab : Int32) (sn : Nat → Nat) (eb : Nat) : Prop :=
  e ≤ 300 ∧ rl_sm sn 10 = e ∧ (∀ b, b < 10 → 0 < sn b → ∃ p, p < c ∧ ord p = b) ∧ (1 ≤ e → eb < 10) ∧ ((lab = -1 ∧ 1 ≤ e) ∨ ∃ q, q < c ∧ lab = nI q ∧ rn_P k len f t w x cp q pc stp e)
def rn_F (c : Nat) (ord : Nat → Nat) (r : Int32) (sn : Nat → Nat) (eb : Nat) : Prop :=
  (r = 1 ∨ (r = 2 ∧ rl_sm sn 10 = 300)) ∧ 1 ≤ rl_sm sn 10 ∧ rl_sm sn 10 ≤ 300 ∧ (∀ b, b < 10 → 0 < sn b → ∃ p, p < c ∧ ord p = b) ∧ eb < 10
/-- a run from here: it ends, and how, the same under every naming -/
def rn_W (sz o2 o3 o4 ts : Nat → Int32) (F S : Nat → Option Nat) (c len : Nat) (ord : Nat → Nat) (P f t w x ls : Nat → Int32) (m pc stp e : Nat) (lab : Int32) (sn : Nat → Nat) (eb : Nat) (vr lo : Nat → Int32) (wr : Int32) : Prop :=
    ∃ (r lab' : Int32) (sn' : Nat → Nat) (eb' : Nat) (vr' lo' : Nat → Int32) (wr' : Int32), rn_F c ord r sn' eb' ∧ ((∀ b, b < 10 → sz b = 0) → vr' = vr ∧ wr' = wr) ∧ ∀ ν, rl_nu 10 ν → ∀ n, m < n → ∀ {post : Int32 → St1 → Prop} {rdy cnt lps edd : Int32} {a1 a2 a3 a4 a5 a6 a7 a8 a9 a10 a11 a18 : Nat → Int32}, rl_mG ν sz o2 o3 o4 ts F S a1 a2 a3 a4 a5 a6 a7 → (∀ p, p < c → a8 p = nI (ν (ord p))) → (∀ b, b < 10 → a9 (ν b) = P b) →
      (∀ b, b < 10 → a18 (ν b) = nI (sn b)) → (1 ≤ e → edd = nI (ν eb)) →
      (∀ a18' : Nat → Int32, (∀ b, b < 10 → a18' (ν b) = nI (sn' b)) → post r (rdy, cnt, lps, nI len, lab', nI (rl_sm sn' 10), nI (ν eb'), wr', a1, a2, a3, a4, a5, a6, a7, a8, a9, a10, a11, f, t, w, x, ls, vr', a18', lo')) →
      wX_run_44 post n (nI pc) (nI stp) rdy cnt lps (nI len) lab (nI e) edd wr a1 a2 a3 a4 a5 a6 a7 a8 a9 a10 a11 f t w x ls vr a18 lo
theorem rn_stop {sz o2 o3 o4 ts : Nat → Int32} {F S : Nat → Option Nat} {c k len : Nat} {ord : Nat → Nat} {P f t w x ls : Nat → Int32} {cp : Nat → Nat} (hc : c ≤ 10) {m pc stp e : Nat} {lab : Int32} {sn : Nat → Nat} {eb : Nat} {vr lo : Nat → Int32} {wr : Int32} (hI : rn_I c k len ord f t w x cp pc stp e lab sn eb) (hst : lab = -1 ∨ e = 300) :
    rn_W sz o2 o3 o4 ts F S c len ord P f t w x ls m pc stp e lab sn eb vr lo wr := by
  obtain ⟨i1, i2, i3, i4, i5⟩ := hI
  subst i2
  by_cases hl : lab = -1
  · have he : 1 ≤ rl_sm sn 10 := by
      rcases i5 with ⟨_, z⟩ | ⟨q, hq, z, _⟩
      · exact z
      · exact absurd (z.symm.trans hl) ((by decide +kernel : ∀ q, q < 10 → ¬ nI q = -1) q (by omega))
    refine ⟨1, lab, sn, eb, vr, lo, wr, ⟨Or.inl rfl, he, i1, i3, i4 he⟩, fun _ => ⟨rfl, rfl⟩, ?_⟩
    intro ν hν n hn post rdy cnt lps edd a1 a2 a3 a4 a5 a6 a7 a8 a9 a10 a11 a18 hM h8 h9 h18 hed H
    have hed' := hed he
    subst hed'
    cases n with
    | zero => omega
    | succ n =>
      have K : wX_run_94 post rdy cnt lps (nI len) lab (nI (rl_sm sn 10)) (nI (ν eb)) wr a1 a2 a3 a4 a5 a6 a7 a8 a9 a10 a11 f t w x ls vr a18 lo := by
        unfold wX_run_94
        exact br_f (by rw [hl]; decide) (H a18 h18)
      exact br_c (fun _ => K) (fun _ => br_c (fun _ => K) (fun _ => br_t (by rw [hl]; decide) K))
  · have he : rl_sm sn 10 = 300 := by
      rcases hst with z | z
      · exact absurd z hl
      · exact z
    have hq : ∃ q, q < c ∧ lab = nI q := by
      rcases i5 with ⟨z, _⟩ | ⟨q, hq, z, _⟩
      · exact absurd z hl
      · exact ⟨q, hq, z⟩
    obtain ⟨q, hq, rfl⟩ := hq
    refine ⟨2, nI q, sn, eb, vr, lo, wr, ⟨Or.inr ⟨rfl, he⟩, by omega, i1, i3, i4 (by omega)⟩, fun _ => ⟨rfl, rfl⟩, ?_⟩
    intro ν hν n hn post rdy cnt lps edd a1 a2 a3 a4 a5 a6 a7 a8 a9 a10 a11 a18 hM h8 h9 h18 hed H
    have hed' := hed (by omega)
    subst hed'
    cases n with
    | zero => omega
    | succ n =>
      have K : wX_run_94 post rdy cnt lps (nI len) (nI q) (nI (rl_sm sn 10)) (nI (ν eb)) wr a1 a2 a3 a4 a5 a6 a7 a8 a9 a10 a11 f t w x ls vr a18 lo := by
        unfold wX_run_94
        exact br_t (nI_pos' (by omega)) (H a18 h18)
      exact br_c (fun _ => K) (fun _ => br_c (fun _ => K) (fun _ => br_f (nI_pos (by omega)) (br_t (by rw [he]; exact Int32.le_refl _) K)))
theorem rn_44 {sz o2 o3 o4 ts : Nat → Int32} {F S : Nat → Option Nat} (hG : rl_okG sz o2 o3 o4 ts F S) {c k len : Nat} {ord : Nat → Nat} {P f t w x ls : Nat → Int32} {cp rp : Nat → Nat} (hO : rl_ok1 c ord P) (hT : rl_LT c k f t) (hk : k ≤ 11) (hC : rl_Cov F S ord P c k f t) (hE : rl_okE c k f t len w x ls cp rp) :
    ∀ m (pc stp e : Nat) (lab : Int32) (sn : Nat → Nat) (eb : Nat) (vr lo : Nat → Int32) (wr : Int32), stp + m = 20000 → rn_I c k len ord f t w x cp pc stp e lab sn eb →
    rn_W sz o2 o3 o4 ts F S c len ord P f t w x ls m pc stp e lab sn eb vr lo wr := by
  obtain ⟨hc1, hc2, hord, hP⟩ := hO
  intro m
  induction m with
  | zero =>
    intro pc stp e lab sn eb vr lo wr hm hI
    refine rn_stop hc2 hI ?_
    obtain ⟨i1, i2, i3, i4, i5⟩ := hI
    rcases i5 with ⟨i5, i6⟩ | ⟨q, hq, i5, i6⟩
    · exact Or.inl i5
    · have := rn_lt hE hq i6
      exact Or.inr (by omega)
  | succ m ih =>
    intro pc stp e lab sn eb vr lo wr hm hI
    by_cases hst : lab = -1 ∨ e = 300
    · exact rn_stop hc2 hI hst
    obtain ⟨i1, i2, i3, i4, i5⟩ := hI
    rcases i5 with ⟨i5, i6⟩ | ⟨q, hq, i5, i6⟩
    · exact absurd (Or.inl i5) hst
    have he : e < 300 := by
      rcases Nat.lt_or_ge e 300 with z | z
      · exact z
      · exact absurd (Or.inr (by omega)) hst
    subst i5
    obtain ⟨hpc, hstp⟩ := rn_lt hE hq i6
    have hlen := hE.1
    have vpc : vp_in (nI pc) 64 := pk_in pc 64 (by omega)
    have cpc : (nI pc).toNatClampNeg = pc := nI_clamp (by omega)
    -- the head of the loop, then what perform does
    have head : ∀ (ν : Nat → Nat) (n : Nat) (post : Int32 → St1 → Prop) (rdy cnt lps edd : Int32) (a1 a2 a3 a4 a5 a6 a7 a8 a9 a10 a11 a18 : Nat → Int32),
        wpX_perform (fun r u => match u with | (rdy, cnt, lps, lng, lbl, ent, edd, wrt, a1, a2, a3, a4, a5, a6, a7, a8, a9, a10, a11, a12, a13, a14, a15, a16, a17, a18, a19) => ∀ x2 : Int32, x2 = nI stp + 1 → wX_run_44 post n r x2 rdy cnt lps lng lbl ent edd wrt a1 a2 a3 a4 a5 a6 a7 a8 a9 a10 a11 a12 a13 a14 a15 a16 a17 a18 a19) (rdy, cnt, lps, nI len, nI q, nI e, edd, wr, a1, a2, a3, a4, a5, a6, a7, a8, a9, a10, a11, f, t, w, x, ls, vr, a18, lo) (nI pc) (x pc) →
        wX_run_44 post (n + 1) (nI pc) (nI stp) rdy cnt lps (nI len) (nI q) (nI e) edd wr a1 a2 a3 a4 a5 a6 a7 a8 a9 a10 a11 f t w x ls vr a18 lo := by
      intro ν n post rdy cnt lps edd a1 a2 a3 a4 a5 a6 a7 a8 a9 a10 a11 a18 H
      refine pk_le 20000 stp (fun z => absurd z (by omega)) (fun _ => pk_le len pc (fun z => absurd z (by omega)) (fun _ => br_f (nI_pos (by omega)) (pk_le 300 e (fun z => absurd z (by omega)) (fun _ => ⟨vpc, ?_⟩))))
      rw [cpc]
      exact H
    have hM1 : ∀ q, q < 10 → ¬ nI q = -1 := by decide +kernel
    rcases hE.2.1 pc hpc with hw | ⟨hw, p, hp, hx, hcp⟩ | ⟨hw, l, hl, hx, q', e', s, d1, d2, d3, d4, d5, d6, d7, d8, d9, d10⟩
    · -- the beginning of a loop
      obtain ⟨r, lab', sn', eb', vr', lo', wr', g1, g2, W⟩ := ih (pc + 1) (stp + 1) e (nI q) sn eb vr lo wr (by omega) ⟨i1, i2, i3, i4, Or.inr ⟨q, hq, rfl, rn_next hE hq i6 (fun z => absurd (hw.symm.trans z.1) (by decide)) (fun z => absurd (hw.symm.trans z.1) (by decide))⟩⟩
      refine ⟨r, lab', sn', eb', vr', lo', wr', g1, g2, ?_⟩
      intro ν hν n hn post rdy cnt lps edd a1 a2 a3 a4 a5 a6 a7 a8 a9 a10 a11 a18 hM h8 h9 h18 hed H
      cases n with
      | zero => omega
      | succ n =>
        refine head ν n post rdy cnt lps edd a1 a2 a3 a4 a5 a6 a7 a8 a9 a10 a11 a18 ?_
        have e14 : w (nI pc).toNatClampNeg = 0 := by rw [cpc, hw]
        unfold wpX_perform
        exact ⟨vpc, br_f (by rw [e14]; decide) ⟨vpc, br_f (by rw [e14]; decide) (nm_r (nI_1 stp) (by rw [nI_1 pc]; exact W ν hν n (by omega) hM h8 h9 h18 hed H))⟩⟩
    · -- a block
      have e14 : w (nI pc).toNatClampNeg = 1 := by rw [cpc, hw]
      by_cases hqp : q = p
      · subst hqp
        have hb := hord q hp
        obtain ⟨vr1, lo1, wr1, o, ho, hz, W1⟩ := en_main hG P hb vr lo wr
        have hot : ∀ t, o = some t → t < 10 := fun t z => by
          rcases ho with y | y
          · exact hG.2.2.2.1 _ hb t (y ▸ z)
          · exact hG.2.2.2.2 _ hb t (y ▸ z)
        have hI1 : rn_I c k len ord f t w x cp (pc + 1) (stp + 1) (e + 1) (rl_lab P o) (rl_upn sn (ord q) (sn (ord q) + 1)) (ord q) := by
          have hsm := rl_sm_up (s := sn) (k := ord q) (v := sn (ord q) + 1) 10 hb
          refine ⟨by omega, by omega, fun b hb' hs' => ?_, fun _ => hb, ?_⟩
          · by_cases eb' : b = ord q
            · exact ⟨q, hp, eb'.symm⟩
            · rw [rl_upn_n eb'] at hs'
              exact i3 b hb' hs'
          · cases o with
            | none => exact Or.inl ⟨rfl, by omega⟩
            | some t' =>
              rcases hP t' (hot t' rfl) with y | ⟨q2, hq2, y⟩
              · exact Or.inl ⟨y, by omega⟩
              · refine Or.inr ⟨q2, hq2, y, rn_enter hE hc2 hT hC hp i6 hcp ?_ hq2 y⟩
                rcases ho with z | z
                · exact Or.inl z.symm
                · exact Or.inr z.symm
        obtain ⟨r, lab', sn', eb', vr', lo', wr', g1, g2, W⟩ := ih (pc + 1) (stp + 1) (e + 1) (rl_lab P o) (rl_upn sn (ord q) (sn (ord q) + 1)) (ord q) vr1 lo1 wr1 (by omega) hI1
        refine ⟨r, lab', sn', eb', vr', lo', wr', g1, fun z => ?_, ?_⟩
        · obtain ⟨y1, y2⟩ := g2 z
          obtain ⟨y3, y4⟩ := hz (z _ hb)
          exact ⟨y1.trans y3, y2.trans y4⟩
        intro ν hν n hn post rdy cnt lps edd a1 a2 a3 a4 a5 a6 a7 a8 a9 a10 a11 a18 hM h8 h9 h18 hed H
        cases n with
        | zero => omega
        | succ n =>
          refine head ν n post rdy cnt lps edd a1 a2 a3 a4 a5 a6 a7 a8 a9 a10 a11 a18 ?_
          have e8 : a8 (x pc).toNatClampNeg = nI (ν (ord q)) := by rw [hx, nI_clamp (by omega), h8 q hp]
          unfold wpX_perform
          refine ⟨vpc, br_t e14 (br_t hx.symm ⟨pk_in q 10 (by omega) hx, ?_⟩)⟩
          rw [e8]
          refine W1 ν hν hM h9 (nm_r (nI_1 stp) ?_)
          rw [nI_1 pc, nI_1 e]
          refine W ν hν n (by omega) hM h8 h9 (fun b hb' => ?_) (fun _ => rfl) H
          by_cases eb' : b = ord q
          · rw [eb', pk_us, rl_upn_s, h18 _ hb, nI_1]
          · rw [pk_un (fun z => eb' (hν.2.1 b _ hb' hb z)), rl_upn_n eb']
            exact h18 b hb'
      · have hne : ¬ nI q = x pc := fun z => hqp ((nI_eq (by omega) (by omega)).mp (z.trans hx))
        obtain ⟨r, lab', sn', eb', vr', lo', wr', g1, g2, W⟩ := ih (pc + 1) (stp + 1) e (nI q) sn eb vr lo wr (by omega) ⟨i1, i2, i3, i4, Or.inr ⟨q, hq, rfl, rn_next hE hq i6 (fun z => hne z.2.symm) (fun z => absurd (hw.symm.trans z.1) (by decide))⟩⟩
        refine ⟨r, lab', sn', eb', vr', lo', wr', g1, g2, ?_⟩
        intro ν hν n hn post rdy cnt lps edd a1 a2 a3 a4 a5 a6 a7 a8 a9 a10 a11 a18 hM h8 h9 h18 hed H
        cases n with
        | zero => omega
        | succ n =>
          refine head ν n post rdy cnt lps edd a1 a2 a3 a4 a5 a6 a7 a8 a9 a10 a11 a18 ?_
          unfold wpX_perform
          exact ⟨vpc, br_t e14 (br_f hne (nm_r (nI_1 stp) (by rw [nI_1 pc]; exact W ν hν n (by omega) hM h8 h9 h18 hed H)))⟩
    · -- the end of a loop
      have e14 : w (nI pc).toNatClampNeg = 2 := by rw [cpc, hw]
      have vl : vp_in (x pc) 20 := pk_in l 20 (by omega) hx
      have ef : f (x pc).toNatClampNeg = nI q' := by rw [hx, nI_clamp (by omega), d3]
      have et : t (x pc).toNatClampNeg = nI e' := by rw [hx, nI_clamp (by omega), d4]
      have el : ls (x pc).toNatClampNeg = nI s := by rw [hx, nI_clamp (by omega), d9]
      by_cases ht : q' ≤ q ∧ q ≤ e'
      · obtain ⟨r, lab', sn', eb', vr', lo', wr', g1, g2, W⟩ := ih (s + 1) (stp + 1) e (nI q) sn eb vr lo wr (by omega) ⟨i1, i2, i3, i4, Or.inr ⟨q, hq, rfl, rn_jump hE hq i6 d6 d7 d10 ht.1 ht.2⟩⟩
        refine ⟨r, lab', sn', eb', vr', lo', wr', g1, g2, ?_⟩
        intro ν hν n hn post rdy cnt lps edd a1 a2 a3 a4 a5 a6 a7 a8 a9 a10 a11 a18 hM h8 h9 h18 hed H
        cases n with
        | zero => omega
        | succ n =>
          refine head ν n post rdy cnt lps edd a1 a2 a3 a4 a5 a6 a7 a8 a9 a10 a11 a18 ?_
          unfold wpX_perform
          exact ⟨vpc, br_f (by rw [e14]; decide) ⟨vpc, br_t e14 ⟨vl, br_f (by rw [ef]; exact nI_nlt ht.1 (by omega)) ⟨vl, br_f (by rw [et]; exact nI_nlt ht.2 (by omega)) ⟨vl, nm_r (nI_1 stp) (by rw [el, nI_1 s]; exact W ν hν n (by omega) hM h8 h9 h18 hed H)⟩⟩⟩⟩⟩
      · have hnt : ¬ (w pc = 2 ∧ ∃ l, l < k ∧ x pc = nI l ∧ f l ≤ nI q ∧ nI q ≤ t l) := by
          rintro ⟨_, l', hl', y1, y2, y3⟩
          have ell : l = l' := (nI_eq (by omega) (by omega)).mp (hx.symm.trans y1)
          subst ell
          rw [d3] at y2
          rw [d4] at y3
          exact ht ⟨(nI_leI (by omega) (by omega)).mp y2, (nI_leI (by omega) (by omega)).mp y3⟩
        obtain ⟨r, lab', sn', eb', vr', lo', wr', g1, g2, W⟩ := ih (pc + 1) (stp + 1) e (nI q) sn eb vr lo wr (by omega) ⟨i1, i2, i3, i4, Or.inr ⟨q, hq, rfl, rn_next hE hq i6 (fun z => absurd (hw.symm.trans z.1) (by decide)) hnt⟩⟩
        refine ⟨r, lab', sn', eb', vr', lo', wr', g1, g2, ?_⟩
        intro ν hν n hn post rdy cnt lps edd a1 a2 a3 a4 a5 a6 a7 a8 a9 a10 a11 a18 hM h8 h9 h18 hed H
        cases n with
        | zero => omega
        | succ n =>
          refine head ν n post rdy cnt lps edd a1 a2 a3 a4 a5 a6 a7 a8 a9 a10 a11 a18 ?_
          unfold wpX_perform
          refine ⟨vpc, br_f (by rw [e14]; decide) ⟨vpc, br_t e14 ⟨vl, br_c (fun _ => nm_r (nI_1 stp) (by rw [nI_1 pc]; exact W ν hν n (by omega) hM h8 h9 h18 hed H)) (fun z1 => ⟨vl, br_c (fun _ => nm_r (nI_1 stp) (by rw [nI_1 pc]; exact W ν hν n (by omega) hM h8 h9 h18 hed H)) (fun z2 => absurd ?_ ht)⟩)⟩⟩⟩
          rw [ef] at z1
          rw [et] at z2
          exact ⟨(nI_leI (by omega) (by omega)).mp (Int32.not_lt.mp z1), (nI_leI (by omega) (by omega)).mp (Int32.not_lt.mp z2)⟩
end
section
/-! the whole picture of an object, a state that matches it under a naming; run -/
abbrev rl_Pic : Type := (Nat → Int32) × (Nat → Int32) × (Nat → Int32) × (Nat → Int32) × (Nat → Int32) × (Nat → Option Nat) × (Nat → Option Nat) × Int32 × Nat × (Nat → Nat) × (Nat → Int32) × Nat × (Nat → Int32) × (Nat → Int32) × Nat × (Nat → Int32) × (Nat → Int32) × (Nat → Int32) × (Nat → Int32) × (Nat → Int32)
def rl_ok (pic : rl_Pic) : Prop := match pic with
  | (sz, o2, o3, o4, ts, F, S, rd, c, ord, P, k, f, t, len, w, x, ls, vr, lo) => rl_okG sz o2 o3 o4 ts F S ∧ (¬ rd = 0 → rl_PO F S c ord P k f t len w x ls)
def rl_R (ν : Nat → Nat) (pic : rl_Pic) (u : St1) : Prop := match pic with
  | (sz, o2, o3, o4, ts, F, S, rd, c, ord, P, k, f, t, len, w, x, ls, vr, lo) => match u with
    | (rdy, cnt, lps, lng, lbl, ent, edd, wrt, a1, a2, a3, a4, a5, a6, a7, a8, a9, a10, a11, a12, a13, a14, a15, a16, a17, a18, a19) => rl_mG ν sz o2 o3 o4 ts F S a1 a2 a3 a4 a5 a6 a7 ∧ rd = rdy ∧ f = a12 ∧ t = a13 ∧ w = a14 ∧ x = a15 ∧ ls = a16 ∧ vr = a17 ∧ lo = a19 ∧ (¬ rd = 0 → cnt = nI c ∧ lps = nI k ∧ lng = nI len ∧ (∀ p, p < c → a8 p = nI (ν (ord p))) ∧ (∀ b, b < 10 → a9 (ν b) = P b))
/-- what a run leaves beside that -/
def rl_Q (ν : Nat → Nat) (wr : Int32) (sn : Nat → Nat) (eb : Nat) (u : St1) : Prop := match u with
  | (rdy, cnt, lps, lng, lbl, ent, edd, wrt, a1, a2, a3, a4, a5, a6, a7, a8, a9, a10, a11, a12, a13, a14, a15, a16, a17, a18, a19) => wrt = wr ∧ (∀ b, b < 10 → a18 (ν b) = nI (sn b)) ∧ edd = nI (ν eb)
theorem pp_main {sz : Nat → Int32} {o2 : Nat → Int32} {o3 : Nat → Int32} {o4 : Nat → Int32} {ts : Nat → Int32} {F : Nat → Option Nat} {S : Nat → Option Nat} {rd : Int32} {c : Nat} {ord : Nat → Nat} {P : Nat → Int32} {k : Nat} {f : Nat → Int32} {t : Nat → Int32} {len : Nat} {w : Nat → Int32} {x : Nat → Int32} {ls : Nat → Int32} {vr : Nat → Int32} {lo : Nat → Int32} (hok : rl_ok (sz, o2, o3, o4, ts, F, S, rd, c, ord, P, k, f, t, len, w, x, ls, vr, lo)) :
    ∃ (rd' : Int32) (c' : Nat) (ord' : Nat → Nat) (P' : Nat → Int32) (k' : Nat) (f' t' : Nat → Int32) (len' : Nat) (w' x' ls' : Nat → Int32), ¬ rd' = 0 ∧ rl_PO F S c' ord' P' k' f' t' len' w' x' ls' ∧ ∀ ν, rl_nu 10 ν → ∀ {post : St1 → Prop} {u : St1}, rl_R ν (sz, o2, o3, o4, ts, F, S, rd, c, ord, P, k, f, t, len, w, x, ls, vr, lo) u → (∀ u', rl_R ν (sz, o2, o3, o4, ts, F, S, rd', c', ord', P', k', f', t', len', w', x', ls', vr, lo) u' → post u') → wpX_prepare post u := by
  obtain ⟨hG, hPO⟩ := hok
  by_cases hr : rd = 0
  · obtain ⟨c', ord', P', k', f', t', len', w', x', ls', h1, W⟩ := pr_0 hG.2.2.2.1 hG.2.2.2.2 f t w x ls
    refine ⟨1, c', ord', P', k', f', t', len', w', x', ls', by decide, h1, ?_⟩
    intro ν hν post u hR H
    obtain ⟨rdy, cnt, lps, lng, lbl, ent, edd, wrt, a1, a2, a3, a4, a5, a6, a7, a8, a9, a10, a11, a12, a13, a14, a15, a16, a17, a18, a19⟩ := u
    obtain ⟨hM, rfl, rfl, rfl, rfl, rfl, rfl, rfl, rfl, _⟩ := hR
    subst hr
    refine W ν hν hM.2.2.2.2.2.1 hM.2.2.2.2.2.2 (fun a8' a9' a10' a11' q1 q2 => H _ ⟨hM, rfl, rfl, rfl, rfl, rfl, rfl, rfl, rfl, fun _ => ⟨rfl, rfl, rfl, q1, q2⟩⟩)
  · refine ⟨rd, c, ord, P, k, f, t, len, w, x, ls, hr, hPO hr, ?_⟩
    intro ν hν post u hR H
    obtain ⟨rdy, cnt, lps, lng, lbl, ent, edd, wrt, a1, a2, a3, a4, a5, a6, a7, a8, a9, a10, a11, a12, a13, a14, a15, a16, a17, a18, a19⟩ := u
    have hR' := hR
    obtain ⟨hM, rfl, _⟩ := hR
    exact pr_1 hr (H _ hR')
theorem rn_main {sz : Nat → Int32} {o2 : Nat → Int32} {o3 : Nat → Int32} {o4 : Nat → Int32} {ts : Nat → Int32} {F : Nat → Option Nat} {S : Nat → Option Nat} {rd : Int32} {c : Nat} {ord : Nat → Nat} {P : Nat → Int32} {k : Nat} {f : Nat → Int32} {t : Nat → Int32} {len : Nat} {w : Nat → Int32} {x : Nat → Int32} {ls : Nat → Int32} {vr : Nat → Int32} {lo : Nat → Int32} (hok : rl_ok (sz, o2, o3, o4, ts, F, S, rd, c, ord, P, k, f, t, len, w, x, ls, vr, lo)) :
    ∃ (rd' : Int32) (c' : Nat) (ord' : Nat → Nat) (P' : Nat → Int32) (k' : Nat) (f' t' : Nat → Int32) (len' : Nat) (w' x' ls' vr' lo' : Nat → Int32) (r wr : Int32) (sn : Nat → Nat) (eb : Nat), ¬ rd' = 0 ∧ rl_ok (sz, o2, o3, o4, ts, F, S, rd', c', ord', P', k', f', t', len', w', x', ls', vr', lo') ∧ rn_F c' ord' r sn eb ∧ ((∀ b, b < 10 → sz b = 0) → vr' = vr ∧ wr = 0) ∧
      ∀ ν, rl_nu 10 ν → ∀ {post : Int32 → St1 → Prop} {u : St1}, rl_R ν (sz, o2, o3, o4, ts, F, S, rd, c, ord, P, k, f, t, len, w, x, ls, vr, lo) u → (∀ u', rl_R ν (sz, o2, o3, o4, ts, F, S, rd', c', ord', P', k', f', t', len', w', x', ls', vr', lo') u' → rl_Q ν wr sn eb u' → post r u') → wpX_run post u := by
  obtain ⟨rd', c', ord', P', k', f', t', len', w', x', ls', h1, h2, W1⟩ := pp_main hok
  have h2' := h2
  obtain ⟨hO, hT, hk, hC, cp, rp, hE⟩ := h2
  have hcp := (hE.2.2.1 0 hO.1).1
  have hlen := hE.1
  have hI : rn_I c' k' len' ord' f' t' w' x' cp 0 0 0 (nI 0) (fun _ => 0) 0 := ⟨by omega, rl_sm_0 10, fun b _ z => absurd z (by show ¬ 0 < 0; omega), fun z => absurd z (by omega), Or.inr ⟨0, hO.1, rfl, Or.inl ⟨by omega, by omega⟩⟩⟩
  obtain ⟨r, lab', sn, eb, vr', lo', wr, g1, g2, W⟩ := rn_44 hok.1 hO hT hk hC hE 20000 0 0 0 (nI 0) (fun _ => 0) 0 vr lo 0 (by omega) hI
  refine ⟨rd', c', ord', P', k', f', t', len', w', x', ls', vr', lo', r, wr, sn, eb, h1, ⟨hok.1, fun _ => h2'⟩, g1, g2, ?_⟩
  intro ν hν post u hR H
  obtain ⟨rdy, cnt, lps, lng, lbl, ent, edd, wrt, a1, a2, a3, a4, a5, a6, a7, a8, a9, a10, a11, a12, a13, a14, a15, a16, a17, a18, a19⟩ := u
  unfold wpX_run
  refine W1 ν hν hR (fun u' hR' => ?_)
  obtain ⟨drdy, dcnt, dlps, dlng, dlbl, dent, dedd, dwrt, b1, b2, b3, b4, b5, b6, b7, b8, b9, b10, b11, b12, b13, b14, b15, b16, b17, b18, b19⟩ := u'
  obtain ⟨hM, rfl, rfl, rfl, rfl, rfl, rfl, rfl, rfl, hp⟩ := hR'
  obtain ⟨rfl, rfl, rfl, q8, q9⟩ := hp h1
  refine pk_loop (fun n i s => wX_run_6 post rd' (nI c') (nI k') (nI len') dlbl dent dedd dwrt n (nI i) b1 b2 b3 b4 b5 b6 b7 b8 b9 b10 b11 f' t' w' x' ls' vr s lo) (fun i s => ∀ j, j < i → s j = 0) 10 0 b18 (by omega) (fun j hj => absurd hj (by omega)) (fun n s h => pk_le 10 10 (fun _ => ⟨20001, ?_⟩) (fun z => absurd z (by omega))) (fun n i s hi h hw => pk_le 10 i (fun z => absurd z (by omega)) (fun _ => ⟨pk_in i 10 hi, nm_e (nm_r (nI_1 i) (hw _ (fun j hj => ?_)))⟩))
  · refine W ν hν 20001 (by omega) hM q8 q9 (fun b hb => h _ (hν.1 b hb)) (fun z => absurd z (by omega)) (fun a18' z => H _ ⟨hM, rfl, rfl, rfl, rfl, rfl, rfl, rfl, rfl, fun _ => ⟨rfl, rfl, rfl, q8, q9⟩⟩ ⟨rfl, z, rfl⟩)
  · rw [nI_clamp (by omega)]
    by_cases e : j = i
    · rw [e, pk_us]
    · rw [pk_un e]
      exact h j (by omega)
theorem re_1 {sz : Nat → Int32} {o2 : Nat → Int32} {o3 : Nat → Int32} {o4 : Nat → Int32} {ts : Nat → Int32} {F : Nat → Option Nat} {S : Nat → Option Nat} {rd : Int32} {c : Nat} {ord : Nat → Nat} {P : Nat → Int32} {k : Nat} {f : Nat → Int32} {t : Nat → Int32} {len : Nat} {w : Nat → Int32} {x : Nat → Int32} {ls : Nat → Int32} {vr : Nat → Int32} {lo : Nat → Int32} {ν : Nat → Nat} {post : Int32 → St1 → Prop} {u : St1} (hr : ¬ rd = 0) (hR : rl_R ν (sz, o2, o3, o4, ts, F, S, rd, c, ord, P, k, f, t, len, w, x, ls, vr, lo) u) (H : post (nI c) u) : wpX_reachable post u := by
  obtain ⟨rdy, cnt, lps, lng, lbl, ent, edd, wrt, a1, a2, a3, a4, a5, a6, a7, a8, a9, a10, a11, a12, a13, a14, a15, a16, a17, a18, a19⟩ := u
  obtain ⟨hM, rfl, _, _, _, _, _, _, _, hp⟩ := hR
  obtain ⟨rfl, _⟩ := hp hr
  unfold wpX_reachable
  exact pr_1 hr H
end
section
/-! set, empty, assign, stop, go, branch; the law's build -/
theorem bd_1 {post : Int32 → Prop} {b : Nat} (hb : b < 10) (H : post 0) : wpX_bad post () (nI b) := by
  unfold wpX_bad
  exact br_f (nI_pos (by omega)) (pk_lt b 10 (fun _ => H) (fun z => absurd z (by omega)))
theorem bv_1 {post : Int32 → Prop} {b : Nat} (hb : b < 4) (H : post 0) : wpX_badVar post () (nI b) := by
  unfold wpX_badVar
  exact br_f (nI_pos (by omega)) (pk_le b 3 (fun _ => H) (fun z => absurd z (by omega)))
theorem bv_c (w : Int32) : (∃ w', w' < 4 ∧ w = nI w') ∨ (∀ {post : Int32 → Prop}, post 1 → wpX_badVar post () w) := by
  by_cases h1 : w < 0
  · exact Or.inr (fun H => br_t h1 H)
  · by_cases h2 : w ≤ 3
    · obtain ⟨j, hj, e⟩ := nI_of2 (M := 3) (n := 3) (by decide) h1 h2
      exact Or.inl ⟨j, by omega, e⟩
    · exact Or.inr (fun H => br_f h1 (br_f h2 H))
theorem se_1 {sz : Nat → Int32} {o2 : Nat → Int32} {o3 : Nat → Int32} {o4 : Nat → Int32} {ts : Nat → Int32} {F : Nat → Option Nat} {S : Nat → Option Nat} {rd : Int32} {c : Nat} {ord : Nat → Nat} {P : Nat → Int32} {k : Nat} {f : Nat → Int32} {t : Nat → Int32} {len : Nat} {w : Nat → Int32} {x : Nat → Int32} {ls : Nat → Int32} {vr : Nat → Int32} {lo : Nat → Int32} {ν : Nat → Nat} {post : Int32 → St1 → Prop} {u : St1} {v : Nat} (hv : v < 4) (y : Int32) (hR : rl_R ν (sz, o2, o3, o4, ts, F, S, rd, c, ord, P, k, f, t, len, w, x, ls, vr, lo) u) (H : ∀ u', rl_R ν (sz, o2, o3, o4, ts, F, S, rd, c, ord, P, k, f, t, len, w, x, ls, upd vr v y, lo) u' → post 0 u') : wpX_set post u (nI v) y := by
  obtain ⟨rdy, cnt, lps, lng, lbl, ent, edd, wrt, a1, a2, a3, a4, a5, a6, a7, a8, a9, a10, a11, a12, a13, a14, a15, a16, a17, a18, a19⟩ := u
  obtain ⟨hM, rfl, rfl, rfl, rfl, rfl, rfl, rfl, rfl, hp⟩ := hR
  have e : upd vr (nI v).toNatClampNeg y = upd vr v y := by rw [nI_clamp (by omega)]
  unfold wpX_set
  exact bv_1 hv (br_t rfl ⟨pk_in v 4 hv, nm_r e (H _ ⟨hM, rfl, rfl, rfl, rfl, rfl, rfl, rfl, rfl, hp⟩)⟩)
theorem se_ok {sz : Nat → Int32} {o2 : Nat → Int32} {o3 : Nat → Int32} {o4 : Nat → Int32} {ts : Nat → Int32} {F : Nat → Option Nat} {S : Nat → Option Nat} {rd : Int32} {c : Nat} {ord : Nat → Nat} {P : Nat → Int32} {k : Nat} {f : Nat → Int32} {t : Nat → Int32} {len : Nat} {w : Nat → Int32} {x : Nat → Int32} {ls : Nat → Int32} {vr : Nat → Int32} {lo : Nat → Int32} (v : Nat) (y : Int32) (h : rl_ok (sz, o2, o3, o4, ts, F, S, rd, c, ord, P, k, f, t, len, w, x, ls, vr, lo)) : rl_ok (sz, o2, o3, o4, ts, F, S, rd, c, ord, P, k, f, t, len, w, x, ls, upd vr v y, lo) := by
  obtain ⟨h1, h2⟩ := h
  exact ⟨h1, h2⟩
theorem em_ok {sz : Nat → Int32} {o2 : Nat → Int32} {o3 : Nat → Int32} {o4 : Nat → Int32} {ts : Nat → Int32} {F : Nat → Option Nat} {S : Nat → Option Nat} {rd : Int32} {c : Nat} {ord : Nat → Nat} {P : Nat → Int32} {k : Nat} {f : Nat → Int32} {t : Nat → Int32} {len : Nat} {w : Nat → Int32} {x : Nat → Int32} {ls : Nat → Int32} {vr : Nat → Int32} {lo : Nat → Int32} (b : Nat) (h : rl_ok (sz, o2, o3, o4, ts, F, S, rd, c, ord, P, k, f, t, len, w, x, ls, vr, lo)) : rl_ok (upd sz b 0, o2, o3, o4, ts, F, S, rd, c, ord, P, k, f, t, len, w, x, ls, vr, lo) := by
  refine ⟨⟨fun j hj => ?_, h.1.2⟩, h.2⟩
  by_cases e : j = b
  · rw [e, pk_us]
    exact ⟨0, by omega, rfl⟩
  · rw [pk_un e]
    exact h.1.1 j hj
theorem em_1 {sz : Nat → Int32} {o2 : Nat → Int32} {o3 : Nat → Int32} {o4 : Nat → Int32} {ts : Nat → Int32} {F : Nat → Option Nat} {S : Nat → Option Nat} {rd : Int32} {c : Nat} {ord : Nat → Nat} {P : Nat → Int32} {k : Nat} {f : Nat → Int32} {t : Nat → Int32} {len : Nat} {w : Nat → Int32} {x : Nat → Int32} {ls : Nat → Int32} {vr : Nat → Int32} {lo : Nat → Int32} {ν : Nat → Nat} (hν : rl_nu 10 ν) {post : Int32 → St1 → Prop} {u : St1} {b : Nat} (hb : b < 10) (hR : rl_R ν (sz, o2, o3, o4, ts, F, S, rd, c, ord, P, k, f, t, len, w, x, ls, vr, lo) u) (H : ∀ u', rl_R ν (upd sz b 0, o2, o3, o4, ts, F, S, rd, c, ord, P, k, f, t, len, w, x, ls, vr, lo) u' → post (sz b) u') : wpX_empty post u (nI (ν b)) := by
  obtain ⟨rdy, cnt, lps, lng, lbl, ent, edd, wrt, a1, a2, a3, a4, a5, a6, a7, a8, a9, a10, a11, a12, a13, a14, a15, a16, a17, a18, a19⟩ := u
  obtain ⟨⟨m1, m2⟩, rfl, rfl, rfl, rfl, rfl, rfl, rfl, rfl, hp⟩ := hR
  have hv := hν.1 b hb
  have cb : (nI (ν b)).toNatClampNeg = ν b := nI_clamp (by omega)
  have vb : vp_in (nI (ν b)) 10 := pk_in (ν b) 10 hv
  have e1 : a1 (nI (ν b)).toNatClampNeg = sz b := by rw [cb, m1 b hb]
  have e2 : upd a1 (nI (ν b)).toNatClampNeg 0 = upd a1 (ν b) 0 := by rw [cb]
  unfold wpX_empty
  exact bd_1 hv (br_t rfl ⟨vb, nm_r e1 ⟨vb, nm_r e2 (H _ ⟨⟨rl_upd hν m1 hb 0, m2⟩, rfl, rfl, rfl, rfl, rfl, rfl, rfl, rfl, hp⟩)⟩⟩)
/-- the ends of a block set anew -/
theorem st_ok {sz : Nat → Int32} {o2 : Nat → Int32} {o3 : Nat → Int32} {o4 : Nat → Int32} {ts : Nat → Int32} {F : Nat → Option Nat} {S : Nat → Option Nat} {rd : Int32} {c : Nat} {ord : Nat → Nat} {P : Nat → Int32} {k : Nat} {f : Nat → Int32} {t : Nat → Int32} {len : Nat} {w : Nat → Int32} {x : Nat → Int32} {ls : Nat → Int32} {vr : Nat → Int32} {lo : Nat → Int32} {b : Nat} {y : Int32} {p q : Option Nat} (hy : y = -1 ∨ ∃ v, v < 4 ∧ y = nI v) (hp : ∀ t, p = some t → t < 10) (hq : ∀ t, q = some t → t < 10) (h : rl_ok (sz, o2, o3, o4, ts, F, S, rd, c, ord, P, k, f, t, len, w, x, ls, vr, lo)) : rl_ok (sz, o2, o3, o4, upd ts b y, rl_upo F b p, rl_upo S b q, 0, c, ord, P, k, f, t, len, w, x, ls, vr, lo) := by
  obtain ⟨⟨h1, h2, h3, h4, h5⟩, _⟩ := h
  refine ⟨⟨h1, h2, fun j hj => ?_, fun j hj t z => ?_, fun j hj t z => ?_⟩, fun z => absurd rfl z⟩
  · by_cases e : j = b
    · rw [e, pk_us]
      exact hy
    · rw [pk_un e]
      exact h3 j hj
  · by_cases e : j = b
    · rw [e, rl_upo_s] at z
      exact hp t z
    · rw [rl_upo_n e] at z
      exact h4 j hj t z
  · by_cases e : j = b
    · rw [e, rl_upo_s] at z
      exact hq t z
    · rw [rl_upo_n e] at z
      exact h5 j hj t z
theorem st_1 {sz : Nat → Int32} {o2 : Nat → Int32} {o3 : Nat → Int32} {o4 : Nat → Int32} {ts : Nat → Int32} {F : Nat → Option Nat} {S : Nat → Option Nat} {rd : Int32} {c : Nat} {ord : Nat → Nat} {P : Nat → Int32} {k : Nat} {f : Nat → Int32} {t : Nat → Int32} {len : Nat} {w : Nat → Int32} {x : Nat → Int32} {ls : Nat → Int32} {vr : Nat → Int32} {lo : Nat → Int32} {ν : Nat → Nat} (hν : rl_nu 10 ν) {post : St1 → Prop} {u : St1} {b : Nat} (hb : b < 10) (y : Int32) (p q : Option Nat) (hR : rl_R ν (sz, o2, o3, o4, ts, F, S, rd, c, ord, P, k, f, t, len, w, x, ls, vr, lo) u) (H : ∀ u', rl_R ν (sz, o2, o3, o4, upd ts b y, rl_upo F b p, rl_upo S b q, 0, c, ord, P, k, f, t, len, w, x, ls, vr, lo) u' → post u') : wpX_setEnd post u (nI (ν b)) y (rl_sv ν p) (rl_sv ν q) := by
  obtain ⟨rdy, cnt, lps, lng, lbl, ent, edd, wrt, a1, a2, a3, a4, a5, a6, a7, a8, a9, a10, a11, a12, a13, a14, a15, a16, a17, a18, a19⟩ := u
  obtain ⟨⟨m1, m2, m3, m4, m5, m6, m7⟩, rfl, rfl, rfl, rfl, rfl, rfl, rfl, rfl, hp⟩ := hR
  have hv := hν.1 b hb
  have cb : (nI (ν b)).toNatClampNeg = ν b := nI_clamp (by omega)
  have vb : vp_in (nI (ν b)) 10 := pk_in (ν b) 10 hv
  have e5 : upd a5 (nI (ν b)).toNatClampNeg y = upd a5 (ν b) y := by rw [cb]
  have e6 : upd a6 (nI (ν b)).toNatClampNeg (rl_sv ν p) = upd a6 (ν b) (rl_sv ν p) := by rw [cb]
  have e7 : upd a7 (nI (ν b)).toNatClampNeg (rl_sv ν q) = upd a7 (ν b) (rl_sv ν q) := by rw [cb]
  unfold wpX_setEnd
  exact ⟨vb, nm_r e5 ⟨vb, nm_r e6 ⟨vb, nm_r e7 (H _ ⟨⟨m1, m2, m3, m4, rl_upd hν m5 hb y, rl_updO hν m6 hb p, rl_updO hν m7 hb q⟩, rfl, rfl, rfl, rfl, rfl, rfl, rfl, rfl, fun z => absurd rfl z⟩)⟩⟩⟩
theorem sp_1 {sz : Nat → Int32} {o2 : Nat → Int32} {o3 : Nat → Int32} {o4 : Nat → Int32} {ts : Nat → Int32} {F : Nat → Option Nat} {S : Nat → Option Nat} {rd : Int32} {c : Nat} {ord : Nat → Nat} {P : Nat → Int32} {k : Nat} {f : Nat → Int32} {t : Nat → Int32} {len : Nat} {w : Nat → Int32} {x : Nat → Int32} {ls : Nat → Int32} {vr : Nat → Int32} {lo : Nat → Int32} {ν : Nat → Nat} (hν : rl_nu 10 ν) {post : Int32 → St1 → Prop} {u : St1} {b : Nat} (hb : b < 10) (hR : rl_R ν (sz, o2, o3, o4, ts, F, S, rd, c, ord, P, k, f, t, len, w, x, ls, vr, lo) u) (H : ∀ u', rl_R ν (sz, o2, o3, o4, upd ts b (-1), rl_upo F b none, rl_upo S b none, 0, c, ord, P, k, f, t, len, w, x, ls, vr, lo) u' → post 0 u') : wpX_stop post u (nI (ν b)) := by
  obtain ⟨rdy, cnt, lps, lng, lbl, ent, edd, wrt, a1, a2, a3, a4, a5, a6, a7, a8, a9, a10, a11, a12, a13, a14, a15, a16, a17, a18, a19⟩ := u
  unfold wpX_stop
  exact bd_1 (hν.1 b hb) (br_t rfl (st_1 hν hb (-1) none none hR (fun u' hR' => H u' hR')))
theorem go_1 {sz : Nat → Int32} {o2 : Nat → Int32} {o3 : Nat → Int32} {o4 : Nat → Int32} {ts : Nat → Int32} {F : Nat → Option Nat} {S : Nat → Option Nat} {rd : Int32} {c : Nat} {ord : Nat → Nat} {P : Nat → Int32} {k : Nat} {f : Nat → Int32} {t : Nat → Int32} {len : Nat} {w : Nat → Int32} {x : Nat → Int32} {ls : Nat → Int32} {vr : Nat → Int32} {lo : Nat → Int32} {ν : Nat → Nat} (hν : rl_nu 10 ν) {post : Int32 → St1 → Prop} {u : St1} {b t' : Nat} (hb : b < 10) (ht : t' < 10) (hR : rl_R ν (sz, o2, o3, o4, ts, F, S, rd, c, ord, P, k, f, t, len, w, x, ls, vr, lo) u) (H : ∀ u', rl_R ν (sz, o2, o3, o4, upd ts b (-1), rl_upo F b (some t'), rl_upo S b none, 0, c, ord, P, k, f, t, len, w, x, ls, vr, lo) u' → post 0 u') : wpX_go post u (nI (ν b)) (nI (ν t')) := by
  obtain ⟨rdy, cnt, lps, lng, lbl, ent, edd, wrt, a1, a2, a3, a4, a5, a6, a7, a8, a9, a10, a11, a12, a13, a14, a15, a16, a17, a18, a19⟩ := u
  unfold wpX_go
  exact bd_1 (hν.1 b hb) (br_t rfl (bd_1 (hν.1 t' ht) (br_t rfl (st_1 hν hb (-1) (some t') none hR (fun u' hR' => H u' hR')))))
theorem bn_1 {sz : Nat → Int32} {o2 : Nat → Int32} {o3 : Nat → Int32} {o4 : Nat → Int32} {ts : Nat → Int32} {F : Nat → Option Nat} {S : Nat → Option Nat} {rd : Int32} {c : Nat} {ord : Nat → Nat} {P : Nat → Int32} {k : Nat} {f : Nat → Int32} {t : Nat → Int32} {len : Nat} {w : Nat → Int32} {x : Nat → Int32} {ls : Nat → Int32} {vr : Nat → Int32} {lo : Nat → Int32} {ν : Nat → Nat} (hν : rl_nu 10 ν) {post : Int32 → St1 → Prop} {u : St1} {b v t' u' : Nat} (hb : b < 10) (hv : v < 4) (ht : t' < 10) (hu : u' < 10) (hR : rl_R ν (sz, o2, o3, o4, ts, F, S, rd, c, ord, P, k, f, t, len, w, x, ls, vr, lo) u) (H : ∀ z, rl_R ν (sz, o2, o3, o4, upd ts b (nI v), rl_upo F b (some t'), rl_upo S b (some u'), 0, c, ord, P, k, f, t, len, w, x, ls, vr, lo) z → post 0 z) : wpX_branch post u (nI (ν b)) (nI v) (nI (ν t')) (nI (ν u')) := by
  obtain ⟨rdy, cnt, lps, lng, lbl, ent, edd, wrt, a1, a2, a3, a4, a5, a6, a7, a8, a9, a10, a11, a12, a13, a14, a15, a16, a17, a18, a19⟩ := u
  unfold wpX_branch
  exact bd_1 (hν.1 b hb) (br_t rfl (bd_1 (hν.1 t' ht) (br_t rfl (bd_1 (hν.1 u' hu) (br_t rfl (bv_1 hv (br_t rfl (st_1 hν hb (nI v) (some t') (some u') hR (fun z hR' => H z hR')))))))))
/-- an assignment that is taken up, or a block that is full -/
theorem as_49 {sz : Nat → Int32} {o2 : Nat → Int32} {o3 : Nat → Int32} {o4 : Nat → Int32} {ts : Nat → Int32} {F : Nat → Option Nat} {S : Nat → Option Nat} {rd : Int32} {c : Nat} {ord : Nat → Nat} {P : Nat → Int32} {k : Nat} {f : Nat → Int32} {t : Nat → Int32} {len : Nat} {w : Nat → Int32} {x : Nat → Int32} {ls : Nat → Int32} {vr : Nat → Int32} {lo : Nat → Int32} (hok : rl_ok (sz, o2, o3, o4, ts, F, S, rd, c, ord, P, k, f, t, len, w, x, ls, vr, lo)) {b o v : Nat} {y : Int32} (hb : b < 10) (hO : rl_okO (nI o) (nI v) y) : ∃ (r : Int32) (pic' : rl_Pic), rl_ok pic' ∧ ∀ ν, rl_nu 10 ν → ∀ {post : Int32 → St1 → Prop} {rdy cnt lps lng lbl ent edd wrt : Int32} {a1 a2 a3 a4 a5 a6 a7 a8 a9 a10 a11 a12 a13 a14 a15 a16 a17 a18 a19 : Nat → Int32}, rl_R ν (sz, o2, o3, o4, ts, F, S, rd, c, ord, P, k, f, t, len, w, x, ls, vr, lo) (rdy, cnt, lps, lng, lbl, ent, edd, wrt, a1, a2, a3, a4, a5, a6, a7, a8, a9, a10, a11, a12, a13, a14, a15, a16, a17, a18, a19) → (∀ u', rl_R ν pic' u' → post r u') → wX_assign_49 post (nI (ν b)) (nI o) (nI v) y rdy cnt lps lng lbl ent edd wrt a1 a2 a3 a4 a5 a6 a7 a8 a9 a10 a11 a12 a13 a14 a15 a16 a17 a18 a19 := by
  obtain ⟨s, hs, hz⟩ := hok.1.1 b hb
  by_cases h3 : s < 3
  · refine ⟨nI (s + 1), (upd sz b (nI (s + 1)), upd o2 (3 * b + s) (nI o), upd o3 (3 * b + s) (nI v), upd o4 (3 * b + s) y, ts, F, S, rd, c, ord, P, k, f, t, len, w, x, ls, vr, lo), ⟨⟨fun j hj => ?_, fun j hj => ?_, hok.1.2.2⟩, hok.2⟩, ?_⟩
    · by_cases e : j = b
      · rw [e, pk_us]
        exact ⟨s + 1, by omega, rfl⟩
      · rw [pk_un e]
        exact hok.1.1 j hj
    · by_cases e : j = 3 * b + s
      · rw [e, pk_us, pk_us, pk_us]
        exact hO
      · rw [pk_un e, pk_un e, pk_un e]
        exact hok.1.2.1 j hj
    · intro ν hν post rdy cnt lps lng lbl ent edd wrt a1 a2 a3 a4 a5 a6 a7 a8 a9 a10 a11 a12 a13 a14 a15 a16 a17 a18 a19 hR H
      obtain ⟨⟨m1, m2, m3, m4, m5⟩, rfl, rfl, rfl, rfl, rfl, rfl, rfl, rfl, hp⟩ := hR
      have hv := hν.1 b hb
      have hπ := rl_pi_nu hν
      have cb : (nI (ν b)).toNatClampNeg = ν b := nI_clamp (by omega)
      have vb : vp_in (nI (ν b)) 10 := pk_in (ν b) 10 hv
      have e1 : a1 (nI (ν b)).toNatClampNeg = nI s := by rw [cb, m1 b hb, hz]
      have ep : rl_pi ν (3 * b + s) = 3 * ν b + s := rl_pi_at ν h3
      have ej : nI (ν b) * 3 + a1 (nI (ν b)).toNatClampNeg = nI (rl_pi ν (3 * b + s)) := by rw [e1, show (3 : Int32) = nI 3 from rfl, pk_mul, nI_add, ep, Nat.mul_comm]
      have hj := hπ.1 (3 * b + s) (by omega)
      have cj : (nI (rl_pi ν (3 * b + s))).toNatClampNeg = rl_pi ν (3 * b + s) := nI_clamp (by omega)
      have vj : vp_in (nI (rl_pi ν (3 * b + s))) 30 := pk_in _ 30 hj
      have f2 : upd a2 (nI (rl_pi ν (3 * b + s))).toNatClampNeg (nI o) = upd a2 (rl_pi ν (3 * b + s)) (nI o) := by rw [cj]
      have f3 : upd a3 (nI (rl_pi ν (3 * b + s))).toNatClampNeg (nI v) = upd a3 (rl_pi ν (3 * b + s)) (nI v) := by rw [cj]
      have f4 : upd a4 (nI (rl_pi ν (3 * b + s))).toNatClampNeg y = upd a4 (rl_pi ν (3 * b + s)) y := by rw [cj]
      have f1 : upd a1 (nI (ν b)).toNatClampNeg (a1 (nI (ν b)).toNatClampNeg + 1) = upd a1 (ν b) (nI (s + 1)) := by rw [e1, cb, nI_1]
      unfold wX_assign_49
      refine ⟨vb, pk_lt s 3 (fun _ => ⟨vb, nm_r ej ⟨vj, nm_r f2 ⟨vj, nm_r f3 ⟨vj, nm_r f4 ⟨vb, vb, nm_r f1 ⟨vb, ?_⟩⟩⟩⟩⟩⟩) (fun z => absurd z (by omega)) e1⟩
      rw [cb, pk_us]
      exact H _ ⟨⟨rl_upd hν m1 hb _, rl_upd hπ m2 (by omega) _, rl_upd hπ m3 (by omega) _, rl_upd hπ m4 (by omega) _, m5⟩, rfl, rfl, rfl, rfl, rfl, rfl, rfl, rfl, hp⟩
  · refine ⟨-4, (sz, o2, o3, o4, ts, F, S, rd, c, ord, P, k, f, t, len, w, x, ls, vr, lo), hok, ?_⟩
    intro ν hν post rdy cnt lps lng lbl ent edd wrt a1 a2 a3 a4 a5 a6 a7 a8 a9 a10 a11 a12 a13 a14 a15 a16 a17 a18 a19 hR H
    have hR' := hR
    obtain ⟨⟨m1, _⟩, _⟩ := hR
    have hv := hν.1 b hb
    have e1 : a1 (nI (ν b)).toNatClampNeg = nI s := by rw [nI_clamp (by omega), m1 b hb, hz]
    unfold wX_assign_49
    exact ⟨pk_in (ν b) 10 hv, pk_lt s 3 (fun z => absurd z (by omega)) (fun _ => H _ hR') e1⟩
theorem as_1 {sz : Nat → Int32} {o2 : Nat → Int32} {o3 : Nat → Int32} {o4 : Nat → Int32} {ts : Nat → Int32} {F : Nat → Option Nat} {S : Nat → Option Nat} {rd : Int32} {c : Nat} {ord : Nat → Nat} {P : Nat → Int32} {k : Nat} {f : Nat → Int32} {t : Nat → Int32} {len : Nat} {w : Nat → Int32} {x : Nat → Int32} {ls : Nat → Int32} {vr : Nat → Int32} {lo : Nat → Int32} (hok : rl_ok (sz, o2, o3, o4, ts, F, S, rd, c, ord, P, k, f, t, len, w, x, ls, vr, lo)) {b o v : Nat} (hb : b < 10) (hv : v < 4) (ho : o < 8) (y : Int32) : ∃ (r : Int32) (pic' : rl_Pic), rl_ok pic' ∧ ∀ ν, rl_nu 10 ν → ∀ {post : Int32 → St1 → Prop} {u : St1}, rl_R ν (sz, o2, o3, o4, ts, F, S, rd, c, ord, P, k, f, t, len, w, x, ls, vr, lo) u → (∀ u', rl_R ν pic' u' → post r u') → wpX_assign post u (nI (ν b)) (nI o) (nI v) y := by
  by_cases h5 : o ≤ 5
  · by_cases hy : (∃ w', w' < 4 ∧ y = nI w') ∨ o < 1 ∨ 3 < o
    · obtain ⟨r, pic', h1, W⟩ := as_49 hok (o := o) (v := v) (y := y) hb ⟨o, v, by omega, hv, rfl, rfl, fun z1 z2 => by
        rcases hy with z | z | z
        · exact z
        · omega
        · omega⟩
      refine ⟨r, pic', h1, ?_⟩
      intro ν hν post u hR H
      obtain ⟨rdy, cnt, lps, lng, lbl, ent, edd, wrt, a1, a2, a3, a4, a5, a6, a7, a8, a9, a10, a11, a12, a13, a14, a15, a16, a17, a18, a19⟩ := u
      have K : wX_assign_49 post (nI (ν b)) (nI o) (nI v) y rdy cnt lps lng lbl ent edd wrt a1 a2 a3 a4 a5 a6 a7 a8 a9 a10 a11 a12 a13 a14 a15 a16 a17 a18 a19 := W ν hν hR H
      unfold wpX_assign
      refine bd_1 (hν.1 b hb) (br_t rfl (br_f (nI_pos (by omega)) (pk_le o 5 (fun _ => bv_1 hv (br_t rfl (pk_lt o 1 (fun _ => K) (fun z1 => pk_lt 3 o (fun _ => K) (fun z2 => ?_))))) (fun z => absurd z (by omega)))))
      rcases hy with ⟨w', hw', e⟩ | z | z
      · rw [e] at K ⊢
        exact bv_1 hw' (br_t rfl K)
      · omega
      · omega
    · refine ⟨-2, (sz, o2, o3, o4, ts, F, S, rd, c, ord, P, k, f, t, len, w, x, ls, vr, lo), hok, ?_⟩
      intro ν hν post u hR H
      obtain ⟨rdy, cnt, lps, lng, lbl, ent, edd, wrt, a1, a2, a3, a4, a5, a6, a7, a8, a9, a10, a11, a12, a13, a14, a15, a16, a17, a18, a19⟩ := u
      rcases bv_c y with z | Wb
      · exact absurd (Or.inl z) hy
      have h1 : ¬ o < 1 := fun z => hy (Or.inr (Or.inl z))
      have h3 : ¬ 3 < o := fun z => hy (Or.inr (Or.inr z))
      unfold wpX_assign
      exact bd_1 (hν.1 b hb) (br_t rfl (br_f (nI_pos (by omega)) (pk_le o 5 (fun _ => bv_1 hv (br_t rfl (pk_lt o 1 (fun z => absurd z h1) (fun z1 => pk_lt 3 o (fun z => absurd z h3) (fun z2 => Wb (br_f (by decide) (H _ hR))))))) (fun z => absurd z (by omega)))))
  · refine ⟨-3, (sz, o2, o3, o4, ts, F, S, rd, c, ord, P, k, f, t, len, w, x, ls, vr, lo), hok, ?_⟩
    intro ν hν post u hR H
    obtain ⟨rdy, cnt, lps, lng, lbl, ent, edd, wrt, a1, a2, a3, a4, a5, a6, a7, a8, a9, a10, a11, a12, a13, a14, a15, a16, a17, a18, a19⟩ := u
    unfold wpX_assign
    exact bd_1 (hν.1 b hb) (br_t rfl (br_f (nI_pos (by omega)) (pk_le o 5 (fun z => absurd z h5) (fun _ => H _ hR))))
theorem bu_dec (x : Int32) : ∃ b, b < 10 ∧ (x &&& 255) - (x &&& 255) / 10 * 10 = nI b := by
  have e : x &&& 255 = nI (x.toBitVec.toNat % 2 ^ 8) := pk_and _ 8 (by decide)
  have hm : x.toBitVec.toNat % 2 ^ 8 < 2 ^ 8 := Nat.mod_lt _ (by decide)
  generalize x.toBitVec.toNat % 2 ^ 8 = y at e hm
  refine ⟨y % 10, Nat.mod_lt _ (by decide), ?_⟩
  rw [e]
  exact pk_rem (d := 10) (by omega) (by omega) (by omega)
theorem na_1 {post : Int32 → Prop} {names : Int64} {ν : Nat → Nat} (hn : rl_nm names ν) {b : Nat} (hb : b < 10) (H : post (nI (ν b))) : wpL_name post () names (nI b) := by
  unfold wpL_name
  rw [hn b hb]
  exact H
theorem bu_main (pic : rl_Pic) (hok : rl_ok pic) {kind : Nat} (hkind : kind < 15) (xx : Int32) : ∃ (r : Int32) (pic' : rl_Pic), rl_ok pic' ∧ ∀ ν names, rl_nu 10 ν → rl_nm names ν → ∀ {post : Int32 → St1 → Prop} {u : St1}, rl_R ν pic u → (∀ u', rl_R ν pic' u' → post r u') → wpL_build post u (nI kind) xx names := by
  obtain ⟨sz, o2, o3, o4, ts, F, S, rd, c, ord, P, k, f, t, len, w, x, ls, vr, lo⟩ := pic
  obtain ⟨b, hb, e5⟩ := bu_dec xx
  obtain ⟨t', ht, e6⟩ := bu_dec (xx >>> ((8 : Int32) &&& 31))
  obtain ⟨u', hu, e7⟩ := bu_dec (xx >>> ((16 : Int32) &&& 31))
  obtain ⟨v, hv, e8⟩ := pk_andE (xx >>> ((24 : Int32) &&& 31)) (m := 3) 2 (by decide)
  obtain ⟨o, ho, eo⟩ := pk_andE (xx >>> ((8 : Int32) &&& 31)) (m := 7) 3 (by decide)
  have hv' : v < 4 := hv
  have ho' : o < 8 := ho
  by_cases h6 : kind < 6
  · obtain ⟨r, pic', h1, W⟩ := as_1 hok hb hv' ho' (((xx >>> ((16 : Int32) &&& 31)) &&& 3) - ((xx >>> ((18 : Int32) &&& 31)) &&& 1))
    refine ⟨r, pic', h1, ?_⟩
    intro ν names hν hn post u hR H
    obtain ⟨rdy, cnt, lps, lng, lbl, ent, edd, wrt, a1, a2, a3, a4, a5, a6, a7, a8, a9, a10, a11, a12, a13, a14, a15, a16, a17, a18, a19⟩ := u
    unfold wpL_build
    refine ⟨by decide, nm_r e5 ⟨by decide, nm_r e6 ⟨by decide, nm_r e7 (nm_r e8 (na_1 hn hb (na_1 hn ht (na_1 hn hu (pk_le 6 kind (fun z => absurd z (by omega)) (fun _ => ?_))))))⟩⟩⟩
    rw [eo]
    exact W ν hν hR (fun u' hR' => H u' hR')
  · by_cases h11 : kind < 11
    · refine ⟨0, _, st_ok (b := b) (y := nI v) (p := some t') (q := some u') (Or.inr ⟨v, hv', rfl⟩) (fun t z => by cases z; exact ht) (fun t z => by cases z; exact hu) hok, ?_⟩
      intro ν names hν hn post u hR H
      obtain ⟨rdy, cnt, lps, lng, lbl, ent, edd, wrt, a1, a2, a3, a4, a5, a6, a7, a8, a9, a10, a11, a12, a13, a14, a15, a16, a17, a18, a19⟩ := u
      unfold wpL_build
      exact ⟨by decide, nm_r e5 ⟨by decide, nm_r e6 ⟨by decide, nm_r e7 (nm_r e8 (na_1 hn hb (na_1 hn ht (na_1 hn hu (pk_le 6 kind (fun _ => pk_le 11 kind (fun z => absurd z (by omega)) (fun _ => bn_1 hν hb hv' ht hu hR (fun z hR' => H z hR'))) (fun z => absurd z (by omega)))))))⟩⟩⟩
    · by_cases h13 : kind < 13
      · refine ⟨0, _, st_ok (b := b) (y := -1) (p := some t') (q := none) (Or.inl rfl) (fun t z => by cases z; exact ht) (fun t z => by cases z) hok, ?_⟩
        intro ν names hν hn post u hR H
        obtain ⟨rdy, cnt, lps, lng, lbl, ent, edd, wrt, a1, a2, a3, a4, a5, a6, a7, a8, a9, a10, a11, a12, a13, a14, a15, a16, a17, a18, a19⟩ := u
        unfold wpL_build
        exact ⟨by decide, nm_r e5 ⟨by decide, nm_r e6 ⟨by decide, nm_r e7 (nm_r e8 (na_1 hn hb (na_1 hn ht (na_1 hn hu (pk_le 6 kind (fun _ => pk_le 11 kind (fun _ => pk_le 13 kind (fun z => absurd z (by omega)) (fun _ => go_1 hν hb ht hR (fun z hR' => H z hR'))) (fun z => absurd z (by omega))) (fun z => absurd z (by omega)))))))⟩⟩⟩
      · by_cases h14 : kind = 13
        · refine ⟨0, _, st_ok (b := b) (y := -1) (p := none) (q := none) (Or.inl rfl) (fun t z => by cases z) (fun t z => by cases z) hok, ?_⟩
          intro ν names hν hn post u hR H
          obtain ⟨rdy, cnt, lps, lng, lbl, ent, edd, wrt, a1, a2, a3, a4, a5, a6, a7, a8, a9, a10, a11, a12, a13, a14, a15, a16, a17, a18, a19⟩ := u
          unfold wpL_build
          exact ⟨by decide, nm_r e5 ⟨by decide, nm_r e6 ⟨by decide, nm_r e7 (nm_r e8 (na_1 hn hb (na_1 hn ht (na_1 hn hu (pk_le 6 kind (fun _ => pk_le 11 kind (fun _ => pk_le 13 kind (fun _ => pk_eq kind 13 (fun _ => sp_1 hν hb hR (fun z hR' => H z hR')) (fun z => absurd h14 z)) (fun z => absurd z (by omega))) (fun z => absurd z (by omega))) (fun z => absurd z (by omega)))))))⟩⟩⟩
        · refine ⟨sz b, _, em_ok b hok, ?_⟩
          intro ν names hν hn post u hR H
          obtain ⟨rdy, cnt, lps, lng, lbl, ent, edd, wrt, a1, a2, a3, a4, a5, a6, a7, a8, a9, a10, a11, a12, a13, a14, a15, a16, a17, a18, a19⟩ := u
          unfold wpL_build
          exact ⟨by decide, nm_r e5 ⟨by decide, nm_r e6 ⟨by decide, nm_r e7 (nm_r e8 (na_1 hn hb (na_1 hn ht (na_1 hn hu (pk_le 6 kind (fun _ => pk_le 11 kind (fun _ => pk_le 13 kind (fun _ => pk_eq kind 13 (fun z => absurd z h14) (fun _ => em_1 hν hb hR (fun z hR' => H z hR'))) (fun z => absurd z (by omega))) (fun z => absurd z (by omega))) (fun z => absurd z (by omega)))))))⟩⟩⟩
end
section
/-! the questions; same(); the sum over the visits; reachable() and last() -/
theorem ge_1 {post : Int32 → Prop} {rdy cnt lps lng lbl ent edd wrt : Int32} {a1 a2 a3 a4 a5 a6 a7 a8 a9 a10 a11 a12 a13 a14 a15 a16 a17 a18 a19 : Nat → Int32} {v : Nat} (hv : v < 4) (H : post (a17 v)) : wpX_get post (rdy, cnt, lps, lng, lbl, ent, edd, wrt, a1, a2, a3, a4, a5, a6, a7, a8, a9, a10, a11, a12, a13, a14, a15, a16, a17, a18, a19) (nI v) := by
  unfold wpX_get
  refine bv_1 hv (br_t rfl ⟨pk_in v 4 hv, ?_⟩)
  rw [nI_clamp (by omega)]
  exact H
theorem vi_1 {post : Int32 → Prop} {rdy cnt lps lng lbl ent edd wrt : Int32} {a1 a2 a3 a4 a5 a6 a7 a8 a9 a10 a11 a12 a13 a14 a15 a16 a17 a18 a19 : Nat → Int32} {b : Nat} (hb : b < 10) (H : post (a18 b)) : wpX_visits post (rdy, cnt, lps, lng, lbl, ent, edd, wrt, a1, a2, a3, a4, a5, a6, a7, a8, a9, a10, a11, a12, a13, a14, a15, a16, a17, a18, a19) (nI b) := by
  unfold wpX_visits
  refine bd_1 hb (br_t rfl ⟨pk_in b 10 hb, ?_⟩)
  rw [nI_clamp (by omega)]
  exact H
def rl_out (wr : Int32) (lo : Nat → Int32) (i : Int32) : Int32 := if i < wr then lo (((wr - 1) - i) &&& 15).toNatClampNeg else 0
theorem ou_1 {post : Int32 → Prop} {rdy cnt lps lng lbl ent edd wrt : Int32} {a1 a2 a3 a4 a5 a6 a7 a8 a9 a10 a11 a12 a13 a14 a15 a16 a17 a18 a19 : Nat → Int32} {i : Nat} (hi : i < 16) (H : post (rl_out wrt a19 (nI i))) : wpX_output post (rdy, cnt, lps, lng, lbl, ent, edd, wrt, a1, a2, a3, a4, a5, a6, a7, a8, a9, a10, a11, a12, a13, a14, a15, a16, a17, a18, a19) (nI i) := by
  unfold wpX_output
  have v15 : vp_in (((wrt - 1) - nI i) &&& 15) 16 := pk_andIn _ 4 (by decide) (by omega)
  unfold rl_out at H
  refine br_f (nI_pos (by omega)) (pk_lt 15 i (fun z => absurd z (by omega)) (fun _ => br_c (fun z => ⟨v15, ?_⟩) (fun z => ?_)))
  · rw [if_pos z] at H
    exact H
  · rw [if_neg z] at H
    exact H
theorem sa_1 {post : Int32 → Prop} {rdy cnt lps lng lbl ent edd wrt : Int32} {a1 a2 a3 a4 a5 a6 a7 a8 a9 a10 a11 a12 a13 a14 a15 a16 a17 a18 a19 : Nat → Int32} {drdy dcnt dlps dlng dlbl dent dedd dwrt : Int32} {b1 b2 b3 b4 b5 b6 b7 b8 b9 b10 b11 b12 b13 b14 b15 b16 b17 b18 b19 : Nat → Int32} (h1 : wrt = dwrt) (h2 : a17 = b17) (h3 : a19 = b19) (H : post 1) : wpL_same post (rdy, cnt, lps, lng, lbl, ent, edd, wrt, a1, a2, a3, a4, a5, a6, a7, a8, a9, a10, a11, a12, a13, a14, a15, a16, a17, a18, a19, drdy, dcnt, dlps, dlng, dlbl, dent, dedd, dwrt, b1, b2, b3, b4, b5, b6, b7, b8, b9, b10, b11, b12, b13, b14, b15, b16, b17, b18, b19) := by
  subst h1 h2 h3
  have K : ∃ n, wL_same_30 post rdy cnt lps lng lbl ent edd wrt a1 a2 a3 a4 a5 a6 a7 a8 a9 a10 a11 a12 a13 a14 a15 a16 a17 a18 a19 drdy dcnt dlps dlng dlbl dent dedd wrt b1 b2 b3 b4 b5 b6 b7 b8 b9 b10 b11 b12 b13 b14 b15 b16 a17 b18 a19 n 0 :=
    pk_loop (σ := Unit) (fun n i _ => wL_same_30 post rdy cnt lps lng lbl ent edd wrt a1 a2 a3 a4 a5 a6 a7 a8 a9 a10 a11 a12 a13 a14 a15 a16 a17 a18 a19 drdy dcnt dlps dlng dlbl dent dedd wrt b1 b2 b3 b4 b5 b6 b7 b8 b9 b10 b11 b12 b13 b14 b15 b16 a17 b18 a19 n (nI i)) (fun _ _ => True) 16 0 () (by omega) trivial
      (fun n _ _ => pk_le 16 16 (fun _ => by
        show (wrt = wrt → post 1) ∧ (¬ wrt = wrt → post 0)
        exact br_t rfl H) (fun z => absurd z (by omega)))
      (fun n i _ hi _ hw => pk_le 16 i (fun z => absurd z (by omega)) (fun _ => ou_1 hi (ou_1 hi (br_t rfl (nm_r (nI_1 i) (hw () trivial))))))
  unfold wpL_same
  exact pk_loop (σ := Unit) (fun n i _ => wL_same_2 post rdy cnt lps lng lbl ent edd wrt a1 a2 a3 a4 a5 a6 a7 a8 a9 a10 a11 a12 a13 a14 a15 a16 a17 a18 a19 drdy dcnt dlps dlng dlbl dent dedd wrt b1 b2 b3 b4 b5 b6 b7 b8 b9 b10 b11 b12 b13 b14 b15 b16 a17 b18 a19 n (nI i)) (fun _ _ => True) 4 0 () (by omega) trivial
      (fun n _ _ => pk_le 4 4 (fun _ => K) (fun z => absurd z (by omega)))
      (fun n i _ hi _ hw => pk_le 4 i (fun z => absurd z (by omega)) (fun _ => ge_1 hi (ge_1 hi (br_t rfl (nm_r (nI_1 i) (hw () trivial))))))
theorem la_167 {post : Int32 → Prop} {L : Nat} {xs : Nat → Int32} {J : Int32 → Int32 → Int32 → Int32 → Int32 → Int32 → Int32 → Int32 → Int32 →  (Nat → Int32) → (Nat → Int32) → (Nat → Int32) → (Nat → Int32) → (Nat → Int32) → (Nat → Int32) → (Nat → Int32) → (Nat → Int32) → (Nat → Int32) → (Nat → Int32) → (Nat → Int32) → (Nat → Int32) → (Nat → Int32) → (Nat → Int32) → (Nat → Int32) → (Nat → Int32) → (Nat → Int32) → (Nat → Int32) → (Nat → Int32) → Int32 → Int32 → Int32 → Int32 → Int32 → Int32 → Int32 → Int32 →  (Nat → Int32) → (Nat → Int32) → (Nat → Int32) → (Nat → Int32) → (Nat → Int32) → (Nat → Int32) → (Nat → Int32) → (Nat → Int32) → (Nat → Int32) → (Nat → Int32) → (Nat → Int32) → (Nat → Int32) → (Nat → Int32) → (Nat → Int32) → (Nat → Int32) → (Nat → Int32) → (Nat → Int32) → (Nat → Int32) → (Nat → Int32) → Prop} {x3 names : Int64} {x7 r : Int32} {kc ks : Nat} {rdy cnt lps lng lbl ent edd wrt : Int32} {a1 a2 a3 a4 a5 a6 a7 a8 a9 a10 a11 a12 a13 a14 a15 a16 a17 a18 a19 : Nat → Int32} {drdy dcnt dlps dlng dlbl dent dedd dwrt : Int32} {b1 b2 b3 b4 b5 b6 b7 b8 b9 b10 b11 b12 b13 b14 b15 b16 b17 b18 b19 : Nat → Int32} {ν : Nat → Nat} (hν : rl_nu 10 ν) (hn : rl_nm names ν) {sn : Nat → Nat}
    (h18 : ∀ b, b < 10 → a18 b = nI (sn b)) (g18 : ∀ b, b < 10 → b18 (ν b) = nI (sn b)) (hs1 : 1 ≤ rl_sm sn 10) (hs2 : rl_sm sn 10 ≤ 300) (hr : r = 2 → rl_sm sn 10 = 300)
    (H : wL_law_261 post L xs J x3 names x7 (nI (rl_ct sn 10)) kc ks rdy cnt lps lng lbl ent edd wrt a1 a2 a3 a4 a5 a6 a7 a8 a9 a10 a11 a12 a13 a14 a15 a16 a17 a18 a19 drdy dcnt dlps dlng dlbl dent dedd dwrt b1 b2 b3 b4 b5 b6 b7 b8 b9 b10 b11 b12 b13 b14 b15 b16 b17 b18 b19) : ∃ n, wL_law_167 post L xs J x3 names x7 r kc ks rdy cnt lps lng lbl ent edd wrt a1 a2 a3 a4 a5 a6 a7 a8 a9 a10 a11 a12 a13 a14 a15 a16 a17 a18 a19 drdy dcnt dlps dlng dlbl dent dedd dwrt b1 b2 b3 b4 b5 b6 b7 b8 b9 b10 b11 b12 b13 b14 b15 b16 b17 b18 b19 n 0 0 0 :=
  pk_loop (σ := Unit) (fun n i _ => wL_law_167 post L xs J x3 names x7 r kc ks rdy cnt lps lng lbl ent edd wrt a1 a2 a3 a4 a5 a6 a7 a8 a9 a10 a11 a12 a13 a14 a15 a16 a17 a18 a19 drdy dcnt dlps dlng dlbl dent dedd dwrt b1 b2 b3 b4 b5 b6 b7 b8 b9 b10 b11 b12 b13 b14 b15 b16 b17 b18 b19 n (nI (rl_sm sn i)) (nI (rl_ct sn i)) (nI i)) (fun _ _ => True) 10 0 () (by omega) trivial
    (fun n _ _ => pk_le 10 10 (fun _ => pk_lt (rl_sm sn 10) 1 (fun z => absurd z (by omega)) (fun _ => pk_lt 300 (rl_sm sn 10) (fun z => absurd z (by omega)) (fun _ => br_c (fun z => pk_eq (rl_sm sn 10) 300 (fun _ => H) (fun z' => absurd (hr z) z')) (fun _ => H)))) (fun z => absurd z (by omega)))
    (fun n i _ hi _ hw => by
      have hv := hν.1 i hi
      have hle := rl_sm_ge (s := sn) 10 hi
      refine pk_le 10 i (fun z => absurd z (by omega)) (fun _ => vi_1 hi (na_1 hn hi (vi_1 hv (br_t (by rw [h18 i hi, g18 i hi]) (nm_r (e' := nI (rl_sm sn (i + 1))) ?_ (pk_le (sn i) 0 (fun z => nm_r (nI_1 i) ?_) (fun z => nm_r (nI_1 _) (nm_r (nI_1 i) ?_)) (h18 i hi)))))))
      · rw [h18 i hi, nI_add]
        rfl
      · have e : rl_ct sn (i + 1) = rl_ct sn i := by
          show rl_ct sn i + (if 0 < sn i then 1 else 0) = rl_ct sn i
          rw [if_neg (by omega)]
          omega
        have W := hw () trivial
        rw [e] at W
        exact W
      · have e : rl_ct sn (i + 1) = rl_ct sn i + 1 := by
          show rl_ct sn i + (if 0 < sn i then 1 else 0) = rl_ct sn i + 1
          rw [if_pos (by omega)]
        have W := hw () trivial
        rw [e] at W
        exact W)
theorem la_261 {post : Int32 → Prop} {L : Nat} {xs : Nat → Int32} {J : Int32 → Int32 → Int32 → Int32 → Int32 → Int32 → Int32 → Int32 → Int32 →  (Nat → Int32) → (Nat → Int32) → (Nat → Int32) → (Nat → Int32) → (Nat → Int32) → (Nat → Int32) → (Nat → Int32) → (Nat → Int32) → (Nat → Int32) → (Nat → Int32) → (Nat → Int32) → (Nat → Int32) → (Nat → Int32) → (Nat → Int32) → (Nat → Int32) → (Nat → Int32) → (Nat → Int32) → (Nat → Int32) → (Nat → Int32) → Int32 → Int32 → Int32 → Int32 → Int32 → Int32 → Int32 → Int32 →  (Nat → Int32) → (Nat → Int32) → (Nat → Int32) → (Nat → Int32) → (Nat → Int32) → (Nat → Int32) → (Nat → Int32) → (Nat → Int32) → (Nat → Int32) → (Nat → Int32) → (Nat → Int32) → (Nat → Int32) → (Nat → Int32) → (Nat → Int32) → (Nat → Int32) → (Nat → Int32) → (Nat → Int32) → (Nat → Int32) → (Nat → Int32) → Prop} {x3 names : Int64} {j ct eb : Nat} {kc ks : Nat} {rdy cnt lps lng lbl ent edd wrt : Int32} {a1 a2 a3 a4 a5 a6 a7 a8 a9 a10 a11 a12 a13 a14 a15 a16 a17 a18 a19 : Nat → Int32} {drdy dcnt dlps dlng dlbl dent dedd dwrt : Int32} {b1 b2 b3 b4 b5 b6 b7 b8 b9 b10 b11 b12 b13 b14 b15 b16 b17 b18 b19 : Nat → Int32} {sz : Nat → Int32} {o2 : Nat → Int32} {o3 : Nat → Int32} {o4 : Nat → Int32} {ts : Nat → Int32} {F : Nat → Option Nat} {S : Nat → Option Nat} {rd : Int32} {c : Nat} {ord : Nat → Nat} {P : Nat → Int32} {k : Nat} {f : Nat → Int32} {t : Nat → Int32} {len : Nat} {w : Nat → Int32} {x : Nat → Int32} {ls : Nat → Int32} {vr : Nat → Int32} {lo : Nat → Int32} {ν : Nat → Nat} (hn : rl_nm names ν) (hr : ¬ rd = 0) (hc : rl_R (fun b => b) (sz, o2, o3, o4, ts, F, S, rd, c, ord, P, k, f, t, len, w, x, ls, vr, lo) (rdy, cnt, lps, lng, lbl, ent, edd, wrt, a1, a2, a3, a4, a5, a6, a7, a8, a9, a10, a11, a12, a13, a14, a15, a16, a17, a18, a19)) (hd : rl_R ν (sz, o2, o3, o4, ts, F, S, rd, c, ord, P, k, f, t, len, w, x, ls, vr, lo) (drdy, dcnt, dlps, dlng, dlbl, dent, dedd, dwrt, b1, b2, b3, b4, b5, b6, b7, b8, b9, b10, b11, b12, b13, b14, b15, b16, b17, b18, b19)) (hct : ct ≤ c) (hc10 : c ≤ 10) (heb : eb < 10) (he : edd = nI eb) (hde : dedd = nI (ν eb))
    (H : J (nI (j + 2)) rdy cnt lps lng lbl ent edd wrt a1 a2 a3 a4 a5 a6 a7 a8 a9 a10 a11 a12 a13 a14 a15 a16 a17 a18 a19 drdy dcnt dlps dlng dlbl dent dedd dwrt b1 b2 b3 b4 b5 b6 b7 b8 b9 b10 b11 b12 b13 b14 b15 b16 b17 b18 b19) : wL_law_261 post L xs J x3 names (nI j) (nI ct) kc ks rdy cnt lps lng lbl ent edd wrt a1 a2 a3 a4 a5 a6 a7 a8 a9 a10 a11 a12 a13 a14 a15 a16 a17 a18 a19 drdy dcnt dlps dlng dlbl dent dedd dwrt b1 b2 b3 b4 b5 b6 b7 b8 b9 b10 b11 b12 b13 b14 b15 b16 b17 b18 b19 := by
  have e2 : nI j + 2 = nI (j + 2) := nI_add j 2
  unfold wL_law_261
  refine re_1 hr hc (pk_lt c ct (fun z => absurd z (by omega)) (fun _ => re_1 hr hc (re_1 hr hd (br_t rfl ?_))))
  show wpL_name (fun r => (dedd = r → _) ∧ (¬ dedd = r → _)) () names edd
  rw [he]
  exact na_1 hn heb (br_t hde (nm_r e2 (he ▸ H)))
end
section
/-! the constructor, the law's end, its loop, the statement -/
theorem in_1 {post : St1 → Prop} (H : ∀ u, (∀ ν, rl_nu 10 ν → rl_R ν ((fun _ => 0), (fun _ => 0), (fun _ => 0), (fun _ => 0), (fun _ => -1), (fun _ => none), (fun _ => none), 0, 0, (fun _ => 0), (fun _ => 0), 0, (fun _ => 0), (fun _ => 0), 0, (fun _ => 0), (fun _ => 0), (fun _ => 0), (fun _ => 0), (fun _ => 0)) u) → post u) : wpX_init post 19 390 (0, 0, 0, 0, 0, 0, 0, 0) := by
  unfold wpX_init
  refine ⟨by omega, by omega, by omega, by omega, by omega, by omega, by omega, by omega, by omega, by omega, by omega, by omega, by omega, by omega, by omega, by omega, by omega, by omega, by omega, by omega, by omega, by omega, by omega, by omega, by omega, by omega, by omega, by omega, by omega, by omega, by omega, by omega, by omega, by omega, by omega, by omega, by omega, by omega, ?_⟩
  refine pk_loop (σ := (Nat → Int32) × (Nat → Int32) × (Nat → Int32)) (fun n i s => wX_init_157 post 19 390 19 390 0 0 0 0 0 0 0 0 n (nI i) (fun _ => 0) (fun _ => 0) (fun _ => 0) (fun _ => 0) s.1 s.2.1 s.2.2 (fun _ => 0) (fun _ => 0) (fun _ => 0) (fun _ => 0) (fun _ => 0) (fun _ => 0) (fun _ => 0) (fun _ => 0) (fun _ => 0) (fun _ => 0) (fun _ => 0) (fun _ => 0)) (fun i s => ∀ j, j < i → s.1 j = -1 ∧ s.2.1 j = -1 ∧ s.2.2 j = -1) 10 0 ((fun _ => 0), (fun _ => 0), (fun _ => 0)) (by omega) (fun j hj => absurd hj (by omega)) (fun n s h => pk_le 10 10 (fun _ => H _ ?_) (fun z => absurd z (by omega))) (fun n i s hi h hw => ?_)
  · intro ν hν
    refine ⟨⟨fun _ _ => rfl, fun _ _ => rfl, fun _ _ => rfl, fun _ _ => rfl, fun b hb => (h _ (hν.1 b hb)).1, fun b hb => (h _ (hν.1 b hb)).2.1, fun b hb => (h _ (hν.1 b hb)).2.2⟩, rfl, rfl, rfl, rfl, rfl, rfl, rfl, rfl, fun z => absurd rfl z⟩
  · have vi : vp_in (nI i) 10 := pk_in i 10 hi
    have ci : (nI i).toNatClampNeg = i := nI_clamp (by omega)
    have e1 : upd s.1 (nI i).toNatClampNeg (-1) = upd s.1 i (-1) := by rw [ci]
    have e2 : upd s.2.1 (nI i).toNatClampNeg (-1) = upd s.2.1 i (-1) := by rw [ci]
    have e3 : upd s.2.2 (nI i).toNatClampNeg (-1) = upd s.2.2 i (-1) := by rw [ci]
    refine pk_le 10 i (fun z => absurd z (by omega)) (fun _ => ⟨vi, nm_r e1 ⟨vi, nm_r e2 ⟨vi, nm_r e3 (nm_r (nI_1 i) (hw (upd s.1 i (-1), upd s.2.1 i (-1), upd s.2.2 i (-1)) (fun j hj => ?_)))⟩⟩⟩)
    show upd s.1 i (-1) j = -1 ∧ upd s.2.1 i (-1) j = -1 ∧ upd s.2.2 i (-1) j = -1
    by_cases e : j = i
    · rw [e, pk_us, pk_us, pk_us]
      exact ⟨rfl, rfl, rfl⟩
    · rw [pk_un e, pk_un e, pk_un e]
      exact h j (by omega)
/-- the law's end: all blocks emptied, a run changes no variable and puts nothing out -/
theorem la_317 {post : Int32 → Prop} (hp1 : post 1) {L : Nat} {xs : Nat → Int32} {kc ks : Nat} : ∀ m i, i + m = 10 → ∀ {sz : Nat → Int32} {o2 : Nat → Int32} {o3 : Nat → Int32} {o4 : Nat → Int32} {ts : Nat → Int32} {F : Nat → Option Nat} {S : Nat → Option Nat} {rd : Int32} {c : Nat} {ord : Nat → Nat} {P : Nat → Int32} {k : Nat} {f : Nat → Int32} {t : Nat → Int32} {len : Nat} {w : Nat → Int32} {x : Nat → Int32} {ls : Nat → Int32} {vr : Nat → Int32} {lo : Nat → Int32} {rdy cnt lps lng lbl ent edd wrt : Int32} {a1 a2 a3 a4 a5 a6 a7 a8 a9 a10 a11 a12 a13 a14 a15 a16 a17 a18 a19 : Nat → Int32}, rl_ok (sz, o2, o3, o4, ts, F, S, rd, c, ord, P, k, f, t, len, w, x, ls, vr, lo) → (∀ b, b < i → sz b = 0) → rl_R (fun b => b) (sz, o2, o3, o4, ts, F, S, rd, c, ord, P, k, f, t, len, w, x, ls, vr, lo) (rdy, cnt, lps, lng, lbl, ent, edd, wrt, a1, a2, a3, a4, a5, a6, a7, a8, a9, a10, a11, a12, a13, a14, a15, a16, a17, a18, a19) → ∀ n, m < n → wL_law_317 post L xs kc ks n (nI i) rdy cnt lps lng lbl ent edd wrt a1 a2 a3 a4 a5 a6 a7 a8 a9 a10 a11 a12 a13 a14 a15 a16 a17 a18 a19 := by
  intro m
  induction m with
  | zero =>
    intro i hi sz o2 o3 o4 ts F S rd c ord P k f t len w x ls vr lo rdy cnt lps lng lbl ent edd wrt a1 a2 a3 a4 a5 a6 a7 a8 a9 a10 a11 a12 a13 a14 a15 a16 a17 a18 a19 hok hz hR n hn
    cases n with
    | zero => omega
    | succ n =>
      obtain ⟨rd', c', ord', P', k', f', t', len', w', x', ls', vr', lo', r, wr, sn, eb, h1, hok', hF, hzz, W⟩ := rn_main hok
      obtain ⟨e1, e2⟩ := hzz (fun b hb => hz b (by omega))
      have e17 : vr = a17 := hR.2.2.2.2.2.2.2.1
      refine pk_le 10 i (fun _ => ge_1 (v := 0) (by omega) (ge_1 (v := 1) (by omega) (ge_1 (v := 2) (by omega) (ge_1 (v := 3) (by omega) (W _ (rl_nu_id 10) hR (fun u' hR' hQ => ?_)))))) (fun z => absurd z (by omega))
      obtain ⟨drdy, dcnt, dlps, dlng, dlbl, dent, dedd, dwrt, b1, b2, b3, b4, b5, b6, b7, b8, b9, b10, b11, b12, b13, b14, b15, b16, b17, b18, b19⟩ := u'
      have g17 : b17 = a17 := by
        have z : vr' = b17 := hR'.2.2.2.2.2.2.2.1
        rw [← z, e1, e17]
      have gw : dwrt = 0 := by
        have z : dwrt = wr := hQ.1
        rw [z, e2]
      refine ge_1 (v := 0) (by omega) (br_t (by rw [g17]) (ge_1 (v := 1) (by omega) (br_t (by rw [g17]) (ge_1 (v := 2) (by omega) (br_t (by rw [g17]) (ge_1 (v := 3) (by omega) (br_t (by rw [g17]) ?_)))))))
      show (dwrt = 0 → post 1) ∧ (¬ dwrt = 0 → post 0)
      exact br_t gw hp1
  | succ m ih =>
    intro i hi sz o2 o3 o4 ts F S rd c ord P k f t len w x ls vr lo rdy cnt lps lng lbl ent edd wrt a1 a2 a3 a4 a5 a6 a7 a8 a9 a10 a11 a12 a13 a14 a15 a16 a17 a18 a19 hok hz hR n hn
    cases n with
    | zero => omega
    | succ n =>
      refine pk_le 10 i (fun z => absurd z (by omega)) (fun _ => em_1 (ν := fun b => b) (rl_nu_id 10) (b := i) (by omega) hR (fun u' hR' => ?_))
      obtain ⟨drdy, dcnt, dlps, dlng, dlbl, dent, dedd, dwrt, b1, b2, b3, b4, b5, b6, b7, b8, b9, b10, b11, b12, b13, b14, b15, b16, b17, b18, b19⟩ := u'
      refine nm_r (nI_1 i) (ih (i + 1) (by omega) (em_ok i hok) (fun b hb => ?_) hR' n (by omega))
      by_cases e : b = i
      · rw [e, pk_us]
      · rw [pk_un e]
        exact hz b (by omega)
theorem la_33 {post : Int32 → Prop} (hp1 : post 1) {L : Nat} (hL : L ≤ 260) {xs : Nat → Int32} {kc ks : Nat} {names : Int64} {ν : Nat → Nat} (hν : rl_nu 10 ν) (hn : rl_nm names ν) : ∀ (n j : Nat) (pic : rl_Pic) {rdy cnt lps lng lbl ent edd wrt : Int32} {a1 a2 a3 a4 a5 a6 a7 a8 a9 a10 a11 a12 a13 a14 a15 a16 a17 a18 a19 : Nat → Int32} {drdy dcnt dlps dlng dlbl dent dedd dwrt : Int32} {b1 b2 b3 b4 b5 b6 b7 b8 b9 b10 b11 b12 b13 b14 b15 b16 b17 b18 b19 : Nat → Int32}, L + 2 ≤ j + n → j ≤ L + 1 → rl_ok pic → rl_R (fun b => b) pic (rdy, cnt, lps, lng, lbl, ent, edd, wrt, a1, a2, a3, a4, a5, a6, a7, a8, a9, a10, a11, a12, a13, a14, a15, a16, a17, a18, a19) → rl_R ν pic (drdy, dcnt, dlps, dlng, dlbl, dent, dedd, dwrt, b1, b2, b3, b4, b5, b6, b7, b8, b9, b10, b11, b12, b13, b14, b15, b16, b17, b18, b19) → wL_law_33 post L xs 654820258320 names kc ks n (nI j) rdy cnt lps lng lbl ent edd wrt a1 a2 a3 a4 a5 a6 a7 a8 a9 a10 a11 a12 a13 a14 a15 a16 a17 a18 a19 drdy dcnt dlps dlng dlbl dent dedd dwrt b1 b2 b3 b4 b5 b6 b7 b8 b9 b10 b11 b12 b13 b14 b15 b16 b17 b18 b19 := by
  intro n
  induction n with
  | zero =>
    intro j pic rdy cnt lps lng lbl ent edd wrt a1 a2 a3 a4 a5 a6 a7 a8 a9 a10 a11 a12 a13 a14 a15 a16 a17 a18 a19 drdy dcnt dlps dlng dlbl dent dedd dwrt b1 b2 b3 b4 b5 b6 b7 b8 b9 b10 b11 b12 b13 b14 b15 b16 b17 b18 b19 h1 h2
    omega
  | succ n ih =>
    intro j pic rdy cnt lps lng lbl ent edd wrt a1 a2 a3 a4 a5 a6 a7 a8 a9 a10 a11 a12 a13 a14 a15 a16 a17 a18 a19 drdy dcnt dlps dlng dlbl dent dedd dwrt b1 b2 b3 b4 b5 b6 b7 b8 b9 b10 b11 b12 b13 b14 b15 b16 b17 b18 b19 h1 h2 hok hc hd
    obtain ⟨kind, hkind, e8⟩ := pk_andE (xs (nI j).toNatClampNeg) (m := 15) 4 (by decide)
    have hkind' : kind < 16 := hkind
    have e2 : nI j + 2 = nI (j + 2) := nI_add j 2
    refine pk_le L (j + 1) (fun z => ?_) (fun z => ⟨pk_in j L (by omega), nm_r e8 ⟨pk_in (j + 1) L (by omega) (nI_1 j), fun x9 _ => ?_⟩⟩) rfl (nI_1 j)
    · obtain ⟨sz, o2, o3, o4, ts, F, S, rd, c, ord, P, k, f, t, len, w, x, ls, vr, lo⟩ := pic
      exact ⟨11, la_317 hp1 10 0 (by omega) hok (fun b hb => absurd hb (by omega)) hc 11 (by omega)⟩
    · refine pk_le 15 kind (fun z2 => ?_) (fun z2 => ?_)
      · obtain ⟨sz, o2, o3, o4, ts, F, S, rd, c, ord, P, k, f, t, len, w, x, ls, vr, lo⟩ := pic
        obtain ⟨v, hv, ev⟩ := pk_andE x9 (m := 3) 2 (by decide)
        have hv' : v < 4 := hv
        rw [ev]
        generalize (x9 >>> ((2 : Int32) &&& 31)) &&& 15 = y
        obtain ⟨rd', c', ord', P', k', f', t', len', w', x', ls', vr', lo', r, wr, sn, eb, g1, hok', hF, _, W⟩ := rn_main (se_ok v y hok)
        refine se_1 hv' y hc (fun u1 hc1 => ?_)
        obtain ⟨rdy, cnt, lps, lng, lbl, ent, edd, wrt, a1, a2, a3, a4, a5, a6, a7, a8, a9, a10, a11, a12, a13, a14, a15, a16, a17, a18, a19⟩ := u1
        refine se_1 hv' y hd (fun u1 hd1 => ?_)
        obtain ⟨drdy, dcnt, dlps, dlng, dlbl, dent, dedd, dwrt, b1, b2, b3, b4, b5, b6, b7, b8, b9, b10, b11, b12, b13, b14, b15, b16, b17, b18, b19⟩ := u1
        refine W _ (rl_nu_id 10) hc1 (fun u1 hc2 hq2 => ?_)
        obtain ⟨rdy, cnt, lps, lng, lbl, ent, edd, wrt, a1, a2, a3, a4, a5, a6, a7, a8, a9, a10, a11, a12, a13, a14, a15, a16, a17, a18, a19⟩ := u1
        refine W _ hν hd1 (fun u1 hd2 hq4 => ?_)
        obtain ⟨drdy, dcnt, dlps, dlng, dlbl, dent, dedd, dwrt, b1, b2, b3, b4, b5, b6, b7, b8, b9, b10, b11, b12, b13, b14, b15, b16, b17, b18, b19⟩ := u1
        have s1 : wrt = dwrt := hq2.1.trans hq4.1.symm
        have s2 : a17 = b17 := hc2.2.2.2.2.2.2.2.1.symm.trans hd2.2.2.2.2.2.2.2.1
        have s3 : a19 = b19 := hc2.2.2.2.2.2.2.2.2.1.symm.trans hd2.2.2.2.2.2.2.2.2.1
        obtain ⟨f1, f2, f3, f4, f5⟩ := hF
        have hct := rl_ct_im ord' 10 c' sn f4
        have hc10 := (hok'.2 g1).1.2.1
        refine br_t rfl (sa_1 s1 s2 s3 (br_f (by decide) (la_167 hν hn hq2.2.1 hq4.2.1 f2 f3 (fun zr => ?_) (la_261 hn g1 hc2 hd2 hct hc10 f5 hq2.2.2 hq4.2.2 (ih (j + 2) _ (by omega) (by omega) hok' hc2 hd2)))))
        rcases f1 with q | q
        · rw [q] at zr
          exact absurd zr (by decide)
        · exact q.2
      · obtain ⟨r, pic', hok', W⟩ := bu_main pic hok (kind := kind) (by omega) x9
        refine W _ 654820258320 (rl_nu_id 10) rl_nm_plain hc (fun u1 hc1 => ?_)
        obtain ⟨rdy, cnt, lps, lng, lbl, ent, edd, wrt, a1, a2, a3, a4, a5, a6, a7, a8, a9, a10, a11, a12, a13, a14, a15, a16, a17, a18, a19⟩ := u1
        refine W ν names hν hn hd (fun u1 hd1 => ?_)
        obtain ⟨drdy, dcnt, dlps, dlng, dlbl, dent, dedd, dwrt, b1, b2, b3, b4, b5, b6, b7, b8, b9, b10, b11, b12, b13, b14, b15, b16, b17, b18, b19⟩ := u1
        exact br_t rfl (nm_r e2 (ih (j + 2) pic' (by omega) (by omega) hok' hc1 hd1))
theorem ce_1 {post : Int32 → Prop} {L : Nat} (hL : L ≤ 260) {xs : Nat → Int32} (H : ∀ y, post y) : wpL_cell post L xs () 0 := by
  unfold wpL_cell
  exact pk_le L 0 (fun _ => H _) (fun z => ⟨pk_in 0 L z, H _⟩)
theorem i_vc (xs : Nat → Int32) (L : Nat) (hL : L ≤ 260) : wpL_law (fun r => r = 1) L xs := by
  unfold wpL_law
  refine ⟨19, 390, by omega, by omega, in_1 (fun u hu => ?_)⟩
  obtain ⟨rdy, cnt, lps, lng, lbl, ent, edd, wrt, a1, a2, a3, a4, a5, a6, a7, a8, a9, a10, a11, a12, a13, a14, a15, a16, a17, a18, a19⟩ := u
  refine ⟨by omega, by omega, 19, 390, by omega, by omega, in_1 (fun u hd => ?_)⟩
  obtain ⟨drdy, dcnt, dlps, dlng, dlbl, dent, dedd, dwrt, b1, b2, b3, b4, b5, b6, b7, b8, b9, b10, b11, b12, b13, b14, b15, b16, b17, b18, b19⟩ := u
  refine ce_1 hL (fun y => rl_ren y (fun names ν hν hn => ⟨L + 2, ?_⟩))
  refine la_33 (post := fun r => r = 1) rfl hL hν hn (L + 2) 1 _ (by omega) (by omega) ?_ (hu _ (rl_nu_id 10)) (hd ν hν)
  refine ⟨⟨fun b hb => ⟨0, by omega, rfl⟩, fun j hj => ⟨0, 0, by omega, by omega, rfl, rfl, fun z => absurd z (by omega)⟩, fun b hb => Or.inl rfl, (fun b hb t z => by cases z), (fun b hb t z => by cases z)⟩, fun z => absurd rfl z⟩
end
