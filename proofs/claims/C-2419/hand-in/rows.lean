section
/-! rows pasted from kit/rows -/
theorem pk_us {f : Nat → Int32} {k : Nat} {x : Int32} : upd f k x k = x := if_pos rfl
theorem pk_un {f : Nat → Int32} {k j : Nat} {x : Int32} (h : j ≠ k) : upd f k x j = f j := if_neg h
theorem pk_sub {a b : Nat} (h : b ≤ a) : nI a - nI b = nI (a - b) := by
  obtain ⟨c, rfl⟩ : ∃ c, a = c + b := ⟨a - b, by omega⟩
  rw [← nI_add, Int32.add_sub_cancel, Nat.add_sub_cancel]
theorem pk_m1 (n : Nat) : nI (n + 1) + (-1) = nI n := by
  rw [← nI_1, Int32.add_assoc, show (1 : Int32) + (-1) = 0 from rfl, Int32.add_zero]
theorem pk_mul (a b : Nat) : nI a * nI b = nI (a * b) := (Int32.ofNat_mul a b).symm
theorem pk_div {a d : Nat} (ha : a < 2 ^ 31) (h0 : 0 < d) (hd : d < 2 ^ 31) : nI a / nI d = nI (a / d) := by
  apply Int32.toInt_inj.mp
  rw [lg_idiv_nonneg (by rw [nI_toInt ha]; omega) (by rw [nI_toInt hd]; omega), nI_toInt ha, nI_toInt hd, nI_toInt (Nat.lt_of_le_of_lt (Nat.div_le_self a d) ha)]
  first | rfl | exact (Int.natCast_ediv _ _).symm
theorem pk_rem {a d : Nat} (ha : a < 2 ^ 31) (h0 : 0 < d) (hd : d < 2 ^ 31) : nI a - nI a / nI d * nI d = nI (a % d) := by
  rw [pk_div ha h0 hd, pk_mul, pk_sub (Nat.div_mul_le_self a d)]
  exact congrArg nI (by have := Nat.div_add_mod' a d; omega)
theorem pk_ix (x : Int32) {n : Nat} (hn : n < 2 ^ 31) : x < 0 ∨ nI n ≤ x ∨ ∃ j : Nat, j < n ∧ x = nI j := by
  by_cases h : x < 0
  · exact Or.inl h
  · obtain ⟨j, hj, rfl⟩ := nI_of h
    by_cases h2 : j < n
    · exact Or.inr (Or.inr ⟨j, h2, rfl⟩)
    · exact Or.inr (Or.inl (nI_le (by omega) hj))
theorem pk_le {x y : Int32} {A B : Prop} (a b : Nat) (f : a ≤ b → A) (g : b < a → B) (hx : x = nI a := by rfl) (hy : y = nI b := by rfl) (ha : a < 2 ^ 31 := by omega) (hb : b < 2 ^ 31 := by omega) : (x ≤ y → A) ∧ (¬ x ≤ y → B) := by
  subst hx hy
  rw [nI_leI ha hb]
  exact ⟨f, fun z => g (by omega)⟩
theorem pk_lt {x y : Int32} {A B : Prop} (a b : Nat) (f : a < b → A) (g : b ≤ a → B) (hx : x = nI a := by rfl) (hy : y = nI b := by rfl) (ha : a < 2 ^ 31 := by omega) (hb : b < 2 ^ 31 := by omega) : (x < y → A) ∧ (¬ x < y → B) := by
  subst hx hy
  rw [nI_ltI ha hb]
  exact ⟨f, fun z => g (by omega)⟩
theorem pk_eq {x y : Int32} {A B : Prop} (a b : Nat) (f : a = b → A) (g : a ≠ b → B) (hx : x = nI a := by rfl) (hy : y = nI b := by rfl) (ha : a < 2 ^ 31 := by omega) (hb : b < 2 ^ 31 := by omega) : (x = y → A) ∧ (¬ x = y → B) := by
  subst hx hy
  rw [nI_eq ha hb]
  exact ⟨f, g⟩
theorem pk_in {x : Int32} (n N : Nat) (h : n < N) (hx : x = nI n := by rfl) (hN : N < 2 ^ 31 := by omega) : vp_in x N := by
  subst hx
  exact vp_in_nI h hN
theorem pk_cl {x : Int32} (n : Nat) (hx : x = nI n := by rfl) (h : n < 2 ^ 31 := by omega) : x.toNatClampNeg = n := by
  subst hx
  exact nI_clamp h
theorem pk_tn {n : Nat} (h : n < 2 ^ 32) : (nI n).toBitVec.toNat = n := Nat.mod_eq_of_lt h
theorem pk_and (x : Int32) {m : Int32} (k : Nat) (hm : m.toBitVec.toNat = 2 ^ k - 1) : x &&& m = nI (x.toBitVec.toNat % 2 ^ k) := by
  apply Int32.toBitVec_inj.mp
  apply BitVec.eq_of_toNat_eq
  rw [Int32.toBitVec_and, BitVec.toNat_and, hm, Nat.and_two_pow_sub_one_eq_mod]
  show _ = (BitVec.ofNat 32 _).toNat
  rw [BitVec.toNat_ofNat]
  exact (Nat.mod_eq_of_lt (Nat.lt_of_le_of_lt (Nat.mod_le _ _) x.toBitVec.isLt)).symm
theorem pk_andN {n : Nat} (h : n < 2 ^ 32) {m : Int32} (k : Nat) (hm : m.toBitVec.toNat = 2 ^ k - 1) : nI n &&& m = nI (n % 2 ^ k) := by
  rw [pk_and _ k hm, pk_tn h]
theorem pk_shl (a s : Int32) (k : Nat) (hs : (s.toBitVec.smod 32).toNat = k) : (a <<< s).toBitVec.toNat = a.toBitVec.toNat * 2 ^ k % 2 ^ 32 := by
  show (a.toBitVec <<< (s.toBitVec.smod 32).toNat).toNat = _
  rw [hs, BitVec.toNat_shiftLeft, Nat.shiftLeft_eq]
theorem pk_shlN {n : Nat} (s : Int32) (k : Nat) (hs : (s.toBitVec.smod 32).toNat = k) (h : n * 2 ^ k < 2 ^ 32) : nI n <<< s = nI (n * 2 ^ k) := by
  apply Int32.toBitVec_inj.mp
  apply BitVec.eq_of_toNat_eq
  have hn : n < 2 ^ 32 := Nat.lt_of_le_of_lt (Nat.le_mul_of_pos_right n (Nat.two_pow_pos k)) h
  rw [pk_shl _ _ k hs, pk_tn hn, pk_tn h, Nat.mod_eq_of_lt h]
theorem pk_shr (a s : Int32) (k : Nat) (hs : (s.toBitVec.smod 32).toNat = k) : (a >>> s).toInt = a.toInt >>> k := by
  show (a.toBitVec.sshiftRight (s.toBitVec.smod 32).toNat).toInt = _
  rw [hs, BitVec.toInt_sshiftRight]
  rfl
theorem pk_shrN {n : Nat} (h : n < 2 ^ 31) (s : Int32) (k : Nat) (hs : (s.toBitVec.smod 32).toNat = k) : nI n >>> s = nI (n / 2 ^ k) := by
  apply Int32.toInt_inj.mp
  have h2 : n / 2 ^ k ≤ n := Nat.div_le_self _ _
  rw [pk_shr _ _ k hs, nI_toInt h, nI_toInt (by omega), Int.shiftRight_eq_div_pow]
  rfl
theorem pk_least (P : Nat → Prop) (h : ∃ k, P k) : ∃ k, P k ∧ ∀ j, j < k → ¬ P j := by
  obtain ⟨k, hk⟩ := h
  induction k using Nat.strongRecOn with
  | ind k ih =>
    by_cases e : ∃ j, j < k ∧ P j
    · obtain ⟨j, hj, pj⟩ := e
      exact ih j hj pj
    · exact ⟨k, hk, fun j hj pj => e ⟨j, hj, pj⟩⟩
def bt (x : Int32) (i : Nat) : Bool := x.toBitVec.getLsbD i
theorem b_ext {x y : Int32} (h : ∀ i, i < 32 → bt x i = bt y i) : x = y := Int32.toBitVec_inj.mp (BitVec.eq_of_getLsbD_eq (fun i hi => h i hi))
theorem b_or (x y : Int32) (i : Nat) : bt (x ||| y) i = (bt x i || bt y i) := by unfold bt; rw [Int32.toBitVec_or, BitVec.getLsbD_or]
theorem b_and (x y : Int32) (i : Nat) : bt (x &&& y) i = (bt x i && bt y i) := by unfold bt; rw [Int32.toBitVec_and, BitVec.getLsbD_and]
theorem b_xor (x y : Int32) (i : Nat) : bt (x ^^^ y) i = (bt x i ^^ bt y i) := by unfold bt; rw [Int32.toBitVec_xor, BitVec.getLsbD_xor]
theorem b_big {x : Int32} {i : Nat} (h : 32 ≤ i) : bt x i = false := BitVec.getLsbD_of_ge _ _ h
theorem b_m1 : ∀ i, i < 32 → bt (-1) i = true := by decide +kernel
theorem b_0 (i : Nat) : bt 0 i = false := BitVec.getLsbD_zero
theorem s_l : ∀ n, n < 32 → ((nI n &&& 31).toBitVec.smod 32).toNat = n := by decide +kernel
theorem b_shl (n : Nat) (hn : n < 32) (x : Int32) {i : Nat} (hi : i < 32) : bt (x <<< (nI n &&& 31)) i = (decide (n ≤ i) && bt x (i - n)) := by
  unfold bt
  rw [Int32.toBitVec_shiftLeft]
  show (x.toBitVec <<< ((nI n &&& 31).toBitVec.smod 32).toNat).getLsbD i = _
  rw [s_l n hn, BitVec.getLsbD_shiftLeft]
  rcases Nat.lt_or_ge i n with h | h
  · simp [h, Nat.not_le.mpr h]
  · simp [hi, h, Nat.not_lt.mpr h]
theorem b_sshr (n : Nat) (hn : n < 32) (x : Int32) {i : Nat} (hi : i < 32) : bt (x >>> (nI n &&& 31)) i = if n + i < 32 then bt x (n + i) else bt x 31 := by
  unfold bt
  rw [Int32.toBitVec_shiftRight]
  show (x.toBitVec.sshiftRight ((nI n &&& 31).toBitVec.smod 32).toNat).getLsbD i = _
  rw [s_l n hn, BitVec.getLsbD_sshiftRight, BitVec.msb_eq_getLsbD_last]
  simp [hi]
end
section
/-! ===== patterns, fields, assignments: what fits, and the assignment behind it ===== -/
abbrev rm_El : Type := Int32 × Nat × Nat
abbrev rm_As : Type := Nat → Option Nat
abbrev rm_Cd : Type := Nat × Bool
abbrev rm_It : Type := List Int32 × rm_As
def rm_en (q k : Nat) : Nat := if k = 0 then q / 400 % 20 else if k = 1 then q / 20 % 20 else q % 20
theorem rm_en_lt (q k : Nat) : rm_en q k < 20 := by
  unfold rm_en
  split
  · omega
  · split <;> omega
def rm_fd (x k : Nat) : Nat := if k = 0 then x / 256 % 16 else if k = 1 then x / 16 % 16 else x % 16
theorem rm_fd_lt (x k : Nat) : rm_fd x k < 16 := by
  unfold rm_fd
  split
  · omega
  · split <;> omega
theorem rm_fd_all {x : Nat} (h : x < 4096) : 256 * rm_fd x 0 + 16 * rm_fd x 1 + rm_fd x 2 = x := by
  show 256 * (x / 256 % 16) + 16 * (x / 16 % 16) + x % 16 = x
  omega
def rm_enc : Option Nat → Int32
  | none => -1
  | some x => nI x
def rm_set (b : rm_As) (v y : Nat) : rm_As := fun w => if w = v then some y else b w
def rm_f1 (q x : Nat) (b : rm_As) (k : Nat) : Bool :=
  if rm_en q k < 16 then decide (rm_fd x k = rm_en q k)
  else if rm_en q k = 16 then true
  else match b (rm_en q k - 17) with
    | none => true
    | some y => decide (rm_fd x k = y)
theorem rm_f1_lo {q x : Nat} {b : rm_As} {k : Nat} (h : rm_en q k < 16) : rm_f1 q x b k = decide (rm_fd x k = rm_en q k) := by
  unfold rm_f1; rw [if_pos h]
theorem rm_f1_16 {q x : Nat} {b : rm_As} {k : Nat} (h : rm_en q k = 16) : rm_f1 q x b k = true := by
  unfold rm_f1; rw [if_neg (by omega), if_pos h]
theorem rm_f1_n {q x : Nat} {b : rm_As} {k : Nat} (h : 16 < rm_en q k) (hb : b (rm_en q k - 17) = none) : rm_f1 q x b k = true := by
  unfold rm_f1; rw [if_neg (by omega), if_neg (by omega), hb]
theorem rm_f1_s {q x : Nat} {b : rm_As} {k y : Nat} (h : 16 < rm_en q k) (hb : b (rm_en q k - 17) = some y) : rm_f1 q x b k = decide (rm_fd x k = y) := by
  unfold rm_f1; rw [if_neg (by omega), if_neg (by omega), hb]
def rm_a1 (q x k j : Nat) : Bool := decide (16 < rm_en q k → rm_en q k = rm_en q j → rm_fd x k = rm_fd x j)
def rm_ag (q x : Nat) : Bool := rm_a1 q x 0 1 && rm_a1 q x 0 2 && rm_a1 q x 1 2
def rm_f3 (q x : Nat) (b : rm_As) : Bool := rm_f1 q x b 0 && rm_f1 q x b 1 && rm_f1 q x b 2
def rm_ft (q : Nat) (b : rm_As) (e : rm_El) : Bool := decide (e.2.1 = q / 8000) && rm_f3 q e.2.2 b && rm_ag q e.2.2
def rm_s1 (q x : Nat) (b : rm_As) (k : Nat) : rm_As := if 16 < rm_en q k then rm_set b (rm_en q k - 17) (rm_fd x k) else b
def rm_ex (q x : Nat) (b : rm_As) : rm_As := rm_s1 q x (rm_s1 q x (rm_s1 q x b 0) 1) 2
def rm_y1 (q x : Nat) (b : rm_As) (k : Nat) : rm_As :=
  if 16 < rm_en q k then (if b (rm_en q k - 17) = none then rm_set b (rm_en q k - 17) (rm_fd x k) else b) else b
def rm_okb (b : rm_As) : Prop := ∀ v y, b v = some y → y < 16
theorem rm_okb0 : rm_okb (fun _ => none) := by
  intro v y h
  exact absurd h (by simp)
theorem rm_okb_set {b : rm_As} (h : rm_okb b) (v : Nat) {y : Nat} (hy : y < 16) : rm_okb (rm_set b v y) := by
  intro w z hz
  unfold rm_set at hz
  split at hz
  · cases hz; exact hy
  · exact h _ _ hz
theorem rm_okb_s1 {b : rm_As} (h : rm_okb b) (q x k : Nat) : rm_okb (rm_s1 q x b k) := by
  unfold rm_s1
  split
  · exact rm_okb_set h _ (rm_fd_lt _ _)
  · exact h
theorem rm_okb_ex {b : rm_As} (h : rm_okb b) (q x : Nat) : rm_okb (rm_ex q x b) := rm_okb_s1 (rm_okb_s1 (rm_okb_s1 h _ _ _) _ _ _) _ _ _
theorem rm_okb_y1 {b : rm_As} (h : rm_okb b) (q x k : Nat) : rm_okb (rm_y1 q x b k) := by
  unfold rm_y1
  split
  · split
    · exact rm_okb_set h _ (rm_fd_lt _ _)
    · exact h
  · exact h
theorem rm_y1_lo {q x : Nat} {b : rm_As} {k : Nat} (h : ¬ 16 < rm_en q k) : rm_y1 q x b k = b := by unfold rm_y1; rw [if_neg h]
theorem rm_y1_n {q x : Nat} {b : rm_As} {k : Nat} (h : 16 < rm_en q k) (hb : b (rm_en q k - 17) = none) : rm_y1 q x b k = rm_set b (rm_en q k - 17) (rm_fd x k) := by unfold rm_y1; rw [if_pos h, if_pos hb]
theorem rm_y1_s {q x : Nat} {b : rm_As} {k y : Nat} (h : 16 < rm_en q k) (hb : b (rm_en q k - 17) = some y) : rm_y1 q x b k = b := by unfold rm_y1; rw [if_pos h, hb, if_neg (by simp)]
theorem rm_f1y (q x : Nat) (b : rm_As) (k j : Nat) (h : rm_f1 q x b k = true) : rm_f1 q x (rm_y1 q x b k) j = (rm_f1 q x b j && rm_a1 q x k j) := by
  by_cases hk : 16 < rm_en q k
  · by_cases e : rm_en q k = rm_en q j
    · have hj : 16 < rm_en q j := by omega
      have ha : rm_a1 q x k j = decide (rm_fd x k = rm_fd x j) := by
        unfold rm_a1; simp [e, hj]
      cases hb : b (rm_en q k - 17) with
      | none =>
        have hb2 : b (rm_en q j - 17) = none := by rw [← e]; exact hb
        rw [rm_y1_n hk hb, rm_f1_n hj hb2, ha, rm_f1_s (y := rm_fd x k) hj (by unfold rm_set; rw [if_pos (by rw [e])]), Bool.true_and]
        rw [decide_eq_decide]; exact eq_comm
      | some y =>
        have hb2 : b (rm_en q j - 17) = some y := by rw [← e]; exact hb
        rw [rm_f1_s hk hb] at h
        have hy : rm_fd x k = y := of_decide_eq_true h
        rw [rm_y1_s hk hb, ha, rm_f1_s hj hb2, hy]
        by_cases z : rm_fd x j = y
        · simp [z]
        · simp [z]
    · have ha : rm_a1 q x k j = true := by
        unfold rm_a1; simp [e]
      rw [ha, Bool.and_true]
      cases hb : b (rm_en q k - 17) with
      | some y => rw [rm_y1_s hk hb]
      | none =>
        rw [rm_y1_n hk hb]
        by_cases h1 : rm_en q j < 16
        · rw [rm_f1_lo h1, rm_f1_lo h1]
        · by_cases h2 : rm_en q j = 16
          · rw [rm_f1_16 h2, rm_f1_16 h2]
          · have hj : 16 < rm_en q j := by omega
            have hs : rm_set b (rm_en q k - 17) (rm_fd x k) (rm_en q j - 17) = b (rm_en q j - 17) := by
              unfold rm_set; rw [if_neg (by omega)]
            cases hc : b (rm_en q j - 17) with
            | none => rw [rm_f1_n hj hc, rm_f1_n hj (hs.trans hc)]
            | some y => rw [rm_f1_s hj hc, rm_f1_s hj (hs.trans hc)]
  · rw [rm_y1_lo hk]
    have ha : rm_a1 q x k j = true := by
      unfold rm_a1; simp [hk]
    rw [ha, Bool.and_true]
theorem rm_y1_eq (q x : Nat) (b : rm_As) (k : Nat) (h : rm_f1 q x b k = true) : rm_y1 q x b k = rm_s1 q x b k := by
  unfold rm_s1
  by_cases hk : 16 < rm_en q k
  · rw [if_pos hk]
    cases hb : b (rm_en q k - 17) with
    | none => exact rm_y1_n hk hb
    | some y =>
      rw [rm_f1_s hk hb] at h
      have hy : rm_fd x k = y := of_decide_eq_true h
      rw [rm_y1_s hk hb, hy]
      funext w
      unfold rm_set
      split
      · rename_i hw; rw [hw]; exact hb
      · rfl
  · rw [if_neg hk]; exact rm_y1_lo hk
/-- the reference's three steps: the running assignment, and whether all was good -/
def rm_yg (q x : Nat) (b : rm_As) : Bool := rm_f1 q x b 0 && rm_f1 q x (rm_y1 q x b 0) 1 && rm_f1 q x (rm_y1 q x (rm_y1 q x b 0) 1) 2
def rm_yb (q x : Nat) (b : rm_As) : rm_As := rm_y1 q x (rm_y1 q x (rm_y1 q x b 0) 1) 2
theorem rm_yg_eq (q x : Nat) (b : rm_As) : rm_yg q x b = (rm_f3 q x b && rm_ag q x) := by
  unfold rm_yg rm_f3 rm_ag
  cases h0 : rm_f1 q x b 0 with
  | false => simp
  | true =>
    rw [rm_f1y q x b 0 1 h0]
    cases h1 : (rm_f1 q x b 1 && rm_a1 q x 0 1) with
    | false =>
      cases h2 : rm_f1 q x b 1 <;> cases h3 : rm_a1 q x 0 1 <;> simp_all
    | true =>
      have h1' : rm_f1 q x (rm_y1 q x b 0) 1 = true := by rw [rm_f1y q x b 0 1 h0]; exact h1
      rw [rm_f1y q x _ 1 2 h1', rm_f1y q x b 0 2 h0]
      cases h2 : rm_f1 q x b 1 <;> cases h3 : rm_a1 q x 0 1 <;> simp_all
      cases rm_f1 q x b 2 <;> simp
theorem rm_yb_eq (q x : Nat) (b : rm_As) (h : rm_yg q x b = true) : rm_yb q x b = rm_ex q x b := by
  unfold rm_yg at h
  rw [Bool.and_eq_true, Bool.and_eq_true] at h
  obtain ⟨⟨h0, h1⟩, h2⟩ := h
  unfold rm_yb rm_ex
  rw [rm_y1_eq q x _ 2 h2, rm_y1_eq q x _ 1 h1, rm_y1_eq q x _ 0 h0]
theorem rm_ft_y (q : Nat) (b : rm_As) (e : rm_El) : rm_ft q b e = (decide (e.2.1 = q / 8000) && rm_yg q e.2.2 b) := by
  unfold rm_ft
  rw [rm_yg_eq, Bool.and_assoc]
/-! ===== the matches of a rule, as a list ===== -/
def rm_mt (E : List rm_El) : List rm_Cd → rm_As → List Int32 → List rm_It
  | [], b, t => [(t, b)]
  | (q, true) :: cs, b, t => if E.any (rm_ft q b) then [] else rm_mt E cs b t
  | (q, false) :: cs, b, t => E.flatMap (fun e => if rm_ft q b e then rm_mt E cs (rm_ex q e.2.2 b) (t ++ [e.1]) else [])
def rm_np : List rm_Cd → Nat
  | [] => 0
  | (_, true) :: cs => rm_np cs
  | (_, false) :: cs => rm_np cs + 1
theorem rm_np_le : ∀ cs : List rm_Cd, rm_np cs ≤ cs.length
  | [] => Nat.le_refl _
  | (_, true) :: cs => Nat.le_succ_of_le (rm_np_le cs)
  | (_, false) :: cs => Nat.succ_le_succ (rm_np_le cs)
theorem rm_fmp {α β : Type} (l : List α) (f g : α → List β) (h : ∀ a, a ∈ l → List.Perm (f a) (g a)) : List.Perm (l.flatMap f) (l.flatMap g) := by
  induction l with
  | nil => exact List.Perm.refl _
  | cons a l ih =>
    rw [List.flatMap_cons, List.flatMap_cons]
    exact (h a (List.mem_cons_self)).append (ih (fun b hb => h b (List.mem_cons_of_mem _ hb)))
theorem rm_fmc {α β : Type} (l : List α) (f g : α → List β) (h : ∀ a, a ∈ l → f a = g a) : l.flatMap f = l.flatMap g := by
  induction l with
  | nil => rfl
  | cons a l ih =>
    rw [List.flatMap_cons, List.flatMap_cons, h a (List.mem_cons_self), ih (fun b hb => h b (List.mem_cons_of_mem _ hb))]
theorem rm_fma {α β : Type} (l : List α) (f g : α → List β) : List.Perm (l.flatMap (fun a => f a ++ g a)) (l.flatMap f ++ l.flatMap g) := by
  induction l with
  | nil => exact List.Perm.refl _
  | cons a l ih =>
    rw [List.flatMap_cons, List.flatMap_cons, List.flatMap_cons]
    refine (List.Perm.append_left _ ih).trans ?_
    rw [List.append_assoc, List.append_assoc]
    exact List.Perm.append_left _ (List.perm_append_comm_assoc _ _ _)
theorem rm_mt_perm {E E' : List rm_El} (p : List.Perm E E') : ∀ (cs : List rm_Cd) (b : rm_As) (t : List Int32), List.Perm (rm_mt E cs b t) (rm_mt E' cs b t)
  | [], _, _ => List.Perm.refl _
  | (q, true) :: cs, b, t => by
    unfold rm_mt
    rw [p.any_eq]
    split
    · exact List.Perm.refl _
    · exact rm_mt_perm p cs b t
  | (q, false) :: cs, b, t => by
    unfold rm_mt
    refine (List.Perm.flatMap_right _ p).trans (rm_fmp _ _ _ (fun e _ => ?_))
    split
    · exact rm_mt_perm p cs _ _
    · exact List.Perm.refl _
/-! the reference's numbers of rows -/
def rm_at {β : Type} (E : List rm_El) (H : rm_El → List β) (i : Nat) : List β := match E[i]? with
  | none => []
  | some e => H e
theorem rm_at_all {β : Type} (H : rm_El → List β) : ∀ (E : List rm_El) (n : Nat), E.length ≤ n → (List.range n).flatMap (rm_at E H) = E.flatMap H
  | [], n, _ => by
    have h : ∀ i, i ∈ List.range n → rm_at ([] : List rm_El) H i = (fun _ => ([] : List β)) i := fun i _ => rfl
    rw [rm_fmc _ _ _ h]
    induction List.range n with
    | nil => rfl
    | cons a l ih => rw [List.flatMap_cons, ih]; rfl
  | e :: E, 0, h => absurd h (by simp)
  | e :: E, n + 1, h => by
    rw [List.range_succ_eq_map, List.flatMap_cons, List.flatMap_cons]
    have h2 : (List.map Nat.succ (List.range n)).flatMap (rm_at (e :: E) H) = (List.range n).flatMap (rm_at E H) := by
      rw [List.flatMap_map]
      rfl
    rw [h2, rm_at_all H E n (by simpa using h)]
    rfl
def rm_im (E : List rm_El) : List rm_Cd → rm_As → List Int32 → Nat → Option rm_It
  | [], b, t, _ => some (t, b)
  | (q, true) :: cs, b, t, c => if E.any (rm_ft q b) then none else rm_im E cs b t c
  | (q, false) :: cs, b, t, c => match E[c % 12]? with
    | none => none
    | some e => if rm_ft q b e then rm_im E cs (rm_ex q e.2.2 b) (t ++ [e.1]) (c / 12) else none
theorem rm_fmt {α β : Type} (g : α → Option β) (l : List α) : l.filterMap g = l.flatMap (fun a => (g a).toList) := by
  induction l with
  | nil => rfl
  | cons a l ih =>
    rw [List.flatMap_cons, ← ih]
    cases h : g a with
    | none => rw [List.filterMap_cons_none h]; rfl
    | some y => rw [List.filterMap_cons_some h]; rfl
theorem rm_rng {β : Type} (f : Nat → Option β) : ∀ m, List.Perm ((List.range (m * 12)).filterMap f) ((List.range 12).flatMap (fun e => (List.range m).filterMap (fun q => f (q * 12 + e))))
  | 0 => by
    have h : ∀ i, i ∈ List.range 12 → (fun e => (List.range 0).filterMap (fun q => f (q * 12 + e))) i = (fun _ => ([] : List β)) i := fun i _ => rfl
    rw [rm_fmc _ _ _ h]
    exact List.Perm.refl _
  | m + 1 => by
    have e1 : List.range ((m + 1) * 12) = List.range (m * 12) ++ (List.range 12).map (fun e => m * 12 + e) := by
      rw [Nat.succ_mul, List.range_add]
    have e2 : (fun e => (List.range (m + 1)).filterMap (fun q => f (q * 12 + e))) = (fun e => (List.range m).filterMap (fun q => f (q * 12 + e)) ++ (f (m * 12 + e)).toList) := by
      funext e
      rw [List.range_succ, List.filterMap_append]
      congr 1
    rw [e1, e2, List.filterMap_append, List.filterMap_map]
    refine ((rm_rng f m).append_right _).trans ?_
    refine List.Perm.trans ?_ (rm_fma _ _ _).symm
    refine List.Perm.append_left _ (List.Perm.of_eq ?_)
    rw [rm_fmt]
    rfl
theorem rm_im_perm {E : List rm_El} (hE : E.length ≤ 12) : ∀ (cs : List rm_Cd) (b : rm_As) (t : List Int32), List.Perm ((List.range (12 ^ rm_np cs)).filterMap (rm_im E cs b t)) (rm_mt E cs b t)
  | [], b, t => List.Perm.refl _
  | (q, true) :: cs, b, t => by
    unfold rm_mt
    by_cases h : E.any (rm_ft q b) = true
    · rw [if_pos h]
      have h2 : rm_im E ((q, true) :: cs) b t = fun _ => none := by
        funext c; unfold rm_im; rw [if_pos h]
      rw [h2]
      have h3 : ∀ l : List Nat, l.filterMap (fun _ => (none : Option rm_It)) = [] := by
        intro l
        induction l with
        | nil => rfl
        | cons a l ih => rw [List.filterMap_cons_none rfl]; exact ih
      rw [h3]
    · rw [if_neg h]
      have h2 : rm_im E ((q, true) :: cs) b t = rm_im E cs b t := by
        funext c; rw [rm_im, if_neg h]
      rw [h2]
      exact rm_im_perm hE cs b t
  | (q, false) :: cs, b, t => by
    unfold rm_mt
    show List.Perm ((List.range (12 ^ (rm_np cs + 1))).filterMap _) _
    rw [Nat.pow_succ]
    refine (rm_rng _ _).trans ?_
    rw [← rm_at_all _ E 12 hE]
    refine rm_fmp _ _ _ (fun i hi => ?_)
    have hi : i < 12 := List.mem_range.mp hi
    have e1 : ∀ q' : Nat, (q' * 12 + i) % 12 = i := fun q' => by omega
    have e2 : ∀ q' : Nat, (q' * 12 + i) / 12 = q' := fun q' => by omega
    unfold rm_at
    cases he : E[i]? with
    | none =>
      have h2 : (fun q' => rm_im E ((q, false) :: cs) b t (q' * 12 + i)) = fun _ => none := by
        funext c; rw [rm_im, e1, he]
      rw [h2]
      have h3 : ∀ l : List Nat, l.filterMap (fun _ => (none : Option rm_It)) = [] := by
        intro l
        induction l with
        | nil => rfl
        | cons a l ih => rw [List.filterMap_cons_none rfl]; exact ih
      rw [h3]
    | some e =>
      by_cases hf : rm_ft q b e = true
      · have h2 : (fun q' => rm_im E ((q, false) :: cs) b t (q' * 12 + i)) = rm_im E cs (rm_ex q e.2.2 b) (t ++ [e.1]) := by
          funext c
          rw [rm_im, e1, he, e2]
          exact if_pos hf
        rw [h2]
        dsimp only
        rw [if_pos hf]
        exact rm_im_perm hE cs _ _
      · have h2 : (fun q' => rm_im E ((q, false) :: cs) b t (q' * 12 + i)) = fun _ => none := by
          funext c
          rw [rm_im, e1, he]
          exact if_neg hf
        rw [h2]
        have h3 : ∀ l : List Nat, l.filterMap (fun _ => (none : Option rm_It)) = [] := by
          intro l
          induction l with
          | nil => rfl
          | cons a l ih => rw [List.filterMap_cons_none rfl]; exact ih
        rw [h3]
        dsimp only
        rw [if_neg hf]
end
section
/-! ===== rows of tags in falling order; which match comes first ===== -/
def rm_g (t : List Int32) (k : Nat) : Int32 := t.getD k 0
theorem rm_g_lt {t : List Int32} {i : Nat} (h : i < t.length) : rm_g t i = t[i] := by
  unfold rm_g
  rw [List.getD_eq_getElem?_getD, List.getElem?_eq_getElem h]
  rfl
theorem rm_g_ge {t : List Int32} {i : Nat} (h : t.length ≤ i) : rm_g t i = 0 := by
  unfold rm_g
  rw [List.getD_eq_getElem?_getD, List.getElem?_eq_none h]
  rfl
theorem rm_g_ext {t s : List Int32} (hl : t.length = s.length) (h3 : t.length ≤ 3) (h : ∀ k, k < 3 → rm_g t k = rm_g s k) : t = s := by
  apply List.ext_getElem hl
  intro i h1 h2
  rw [← rm_g_lt h1, ← rm_g_lt h2]
  exact h i (by omega)
def rm_mx (a b : Int32) : Int32 := if b ≤ a then a else b
def rm_mn (a b : Int32) : Int32 := if b ≤ a then b else a
def rm_ps (a b c : Int32) : Int32 × Int32 × Int32 := (rm_mx a b, rm_mx (rm_mn a b) c, rm_mn (rm_mn a b) c)
def rm_s3 (a b c : Int32) : Int32 × Int32 × Int32 := rm_ps (rm_ps (rm_ps a b c).1 (rm_ps a b c).2.1 (rm_ps a b c).2.2).1 (rm_ps (rm_ps a b c).1 (rm_ps a b c).2.1 (rm_ps a b c).2.2).2.1 (rm_ps (rm_ps a b c).1 (rm_ps a b c).2.1 (rm_ps a b c).2.2).2.2
def rm_fl (t : List Int32) (k : Nat) : Int32 := if k = 0 then (rm_s3 (rm_g t 0) (rm_g t 1) (rm_g t 2)).1 else if k = 1 then (rm_s3 (rm_g t 0) (rm_g t 1) (rm_g t 2)).2.1 else (rm_s3 (rm_g t 0) (rm_g t 1) (rm_g t 2)).2.2
theorem rm_tot {x y : Int32} (h : ¬ x ≤ y) : y ≤ x := by
  rw [Int32.le_iff_toInt_le] at *
  omega
theorem rm_s3_in (a b c : Int32) : rm_s3 a b c = (if c ≤ rm_mn a b then (rm_mx a b, rm_mn a b, c) else if c ≤ rm_mx a b then (rm_mx a b, c, rm_mn a b) else (c, rm_mx a b, rm_mn a b)) := by
  by_cases h1 : b ≤ a
  · by_cases h2 : c ≤ b
    · by_cases h3 : c ≤ a
      · simp only [rm_s3, rm_ps, rm_mx, rm_mn, if_pos h1, if_pos h2, if_pos h3]
      · exfalso; rw [Int32.le_iff_toInt_le] at h1 h2 h3; omega
    · by_cases h3 : c ≤ a
      · simp only [rm_s3, rm_ps, rm_mx, rm_mn, if_pos h1, if_neg h2, if_pos (rm_tot h2), if_pos h3]
      · simp only [rm_s3, rm_ps, rm_mx, rm_mn, if_pos h1, if_neg h2, if_pos (rm_tot h2), if_neg h3, if_pos (rm_tot h3)]
  · by_cases h2 : c ≤ b
    · by_cases h3 : c ≤ a
      · simp only [rm_s3, rm_ps, rm_mx, rm_mn, if_neg h1, if_pos (rm_tot h1), if_pos h2, if_pos h3]
      · simp only [rm_s3, rm_ps, rm_mx, rm_mn, if_neg h1, if_pos (rm_tot h1), if_pos h2, if_neg h3, if_pos (rm_tot h3)]
    · by_cases h3 : c ≤ a
      · exfalso; rw [Int32.le_iff_toInt_le] at h1 h2 h3; omega
      · simp only [rm_s3, rm_ps, rm_mx, rm_mn, if_neg h1, if_pos (rm_tot h1), if_neg h2, if_pos (rm_tot h2), if_neg h3, if_pos (rm_tot h3)]
def rm_l1 (a b : Int32) (z : Bool) : Bool := if a = b then z else decide (b < a)
def rm_lr (a b : Nat) (z : Bool) : Bool := if a = b then z else decide (a < b)
theorem rm_l1_tr {a b c : Int32} {z y w : Bool} (h1 : rm_l1 a b z = true) (h2 : rm_l1 b c y = true) (h : z = true → y = true → w = true) : rm_l1 a c w = true := by
  unfold rm_l1 at *
  by_cases e1 : a = b
  · subst e1
    rw [if_pos rfl] at h1
    by_cases e2 : a = c
    · rw [if_pos e2] at h2 ⊢; exact h h1 h2
    · rw [if_neg e2] at h2 ⊢; exact h2
  · rw [if_neg e1] at h1
    have h1 := of_decide_eq_true h1
    by_cases e2 : b = c
    · subst e2
      rw [if_neg e1]; exact decide_eq_true h1
    · rw [if_neg e2] at h2
      have h2 := of_decide_eq_true h2
      rw [Int32.lt_iff_toInt_lt] at h1 h2
      have e3 : ¬ a = c := by
        intro e; subst e; omega
      rw [if_neg e3]
      apply decide_eq_true
      rw [Int32.lt_iff_toInt_lt]; omega
theorem rm_l1_cn {a b : Int32} {z y : Bool} (h1 : rm_l1 a b z = false) (h2 : rm_l1 b a y = false) : a = b ∧ z = false ∧ y = false := by
  unfold rm_l1 at *
  by_cases e1 : a = b
  · subst e1
    rw [if_pos rfl] at h1 h2
    exact ⟨rfl, h1, h2⟩
  · exfalso
    rw [if_neg e1] at h1
    rw [if_neg (fun e => e1 e.symm)] at h2
    have h1 := of_decide_eq_false h1
    have h2 := of_decide_eq_false h2
    apply e1
    rw [Int32.lt_iff_toInt_lt] at h1 h2
    apply Int32.toInt_inj.mp
    omega
theorem rm_l1_ir (a : Int32) (z : Bool) : rm_l1 a a z = z := if_pos rfl
theorem rm_lr_tr {a b c : Nat} {z y w : Bool} (h1 : rm_lr a b z = true) (h2 : rm_lr b c y = true) (h : z = true → y = true → w = true) : rm_lr a c w = true := by
  unfold rm_lr at *
  by_cases e1 : a = b
  · subst e1
    rw [if_pos rfl] at h1
    by_cases e2 : a = c
    · rw [if_pos e2] at h2 ⊢; exact h h1 h2
    · rw [if_neg e2] at h2 ⊢; exact h2
  · rw [if_neg e1] at h1
    have h1 := of_decide_eq_true h1
    by_cases e2 : b = c
    · subst e2
      rw [if_neg e1]; exact decide_eq_true h1
    · rw [if_neg e2] at h2
      have h2 := of_decide_eq_true h2
      rw [if_neg (by omega)]
      exact decide_eq_true (by omega)
theorem rm_lr_cn {a b : Nat} {z y : Bool} (h1 : rm_lr a b z = false) (h2 : rm_lr b a y = false) : a = b ∧ z = false ∧ y = false := by
  unfold rm_lr at *
  by_cases e1 : a = b
  · subst e1
    rw [if_pos rfl] at h1 h2
    exact ⟨rfl, h1, h2⟩
  · exfalso
    rw [if_neg e1] at h1
    rw [if_neg (fun e => e1 e.symm)] at h2
    have h1 := of_decide_eq_false h1
    have h2 := of_decide_eq_false h2
    omega
def rm_lx (f g : Nat → Int32) (z : Bool) : Bool := rm_l1 (f 0) (g 0) (rm_l1 (f 1) (g 1) (rm_l1 (f 2) (g 2) z))
theorem rm_lx_tr {f g h : Nat → Int32} {z y w : Bool} (h1 : rm_lx f g z = true) (h2 : rm_lx g h y = true) (k : z = true → y = true → w = true) : rm_lx f h w = true :=
  rm_l1_tr h1 h2 (fun a b => rm_l1_tr a b (fun a b => rm_l1_tr a b k))
theorem rm_lx_cn {f g : Nat → Int32} {z y : Bool} (h1 : rm_lx f g z = false) (h2 : rm_lx g f y = false) : (∀ k, k < 3 → f k = g k) ∧ z = false ∧ y = false := by
  obtain ⟨e0, a, b⟩ := rm_l1_cn h1 h2
  obtain ⟨e1, a, b⟩ := rm_l1_cn a b
  obtain ⟨e2, a, b⟩ := rm_l1_cn a b
  refine ⟨fun k hk => ?_, a, b⟩
  have hk : k = 0 ∨ k = 1 ∨ k = 2 := by omega
  rcases hk with rfl | rfl | rfl
  · exact e0
  · exact e1
  · exact e2
theorem rm_lx_ir (f : Nat → Int32) (z : Bool) : rm_lx f f z = z := by
  unfold rm_lx
  rw [rm_l1_ir, rm_l1_ir, rm_l1_ir]
/-- the match (r, t) comes before (s, u) -/
def rm_bt (r : Nat) (t : List Int32) (s : Nat) (u : List Int32) : Bool := rm_lx (rm_fl t) (rm_fl u) (rm_lr r s (rm_lx (rm_g t) (rm_g u) false))
theorem rm_bt_tr {r s w : Nat} {t u v : List Int32} (h1 : rm_bt r t s u = true) (h2 : rm_bt s u w v = true) : rm_bt r t w v = true :=
  rm_lx_tr h1 h2 (fun a b => rm_lr_tr a b (fun a b => rm_lx_tr a b (fun a _ => a)))
theorem rm_bt_cn {r s : Nat} {t u : List Int32} (h1 : rm_bt r t s u = false) (h2 : rm_bt s u r t = false) : r = s ∧ ∀ k, k < 3 → rm_g t k = rm_g u k := by
  obtain ⟨_, a, b⟩ := rm_lx_cn h1 h2
  obtain ⟨e, a, b⟩ := rm_lr_cn a b
  exact ⟨e, (rm_lx_cn a b).1⟩
theorem rm_bt_ir (r : Nat) (t : List Int32) : rm_bt r t r t = false := by
  unfold rm_bt
  rw [rm_lx_ir]
  unfold rm_lr
  rw [if_pos rfl, rm_lx_ir]
/-! ===== the account of a search: matches, matches that may fire, the first of them ===== -/
abbrev rm_FE : Type := Int32 × Int32 × Int32 × Int32
abbrev rm_Bs : Type := Option (Nat × List Int32 × rm_As)
abbrev rm_Ac : Type := Int32 × Int32 × rm_Bs
def rm_hf (F : List rm_FE) (r : Nat) (t : List Int32) : Bool := decide ((nI r, rm_g t 0, rm_g t 1, rm_g t 2) ∈ F)
def rm_up (z : rm_Bs) (r : Nat) (m : rm_It) : rm_Bs := match z with
  | none => some (r, m)
  | some w => if rm_bt r m.1 w.1 w.2.1 then some (r, m) else some w
def rm_nt (F : List rm_FE) (r : Nat) (a : rm_Ac) (m : rm_It) : rm_Ac := if rm_hf F r m.1 then (a.1 + 1, a.2) else (a.1 + 1, a.2.1 + 1, rm_up a.2.2 r m)
theorem rm_nt_1 (F : List rm_FE) (r : Nat) (a : rm_Ac) (m : rm_It) : (rm_nt F r a m).1 = a.1 + 1 := by
  unfold rm_nt
  split <;> rfl
theorem rm_up_rc (r : Nat) (m n : rm_It) (he : (∀ k, k < 3 → rm_g m.1 k = rm_g n.1 k) → m = n) (z : rm_Bs) : rm_up (rm_up z r m) r n = rm_up (rm_up z r n) r m := by
  have asym : ∀ x y : List Int32, rm_bt r x r y = true → rm_bt r y r x = true → False := fun x y h1 h2 => by
    have := rm_bt_tr h1 h2
    rw [rm_bt_ir] at this
    exact absurd this (by simp)
  cases z with
  | none =>
    show (if rm_bt r n.1 r m.1 then some (r, n) else some (r, m)) = (if rm_bt r m.1 r n.1 then some (r, m) else some (r, n))
    cases h1 : rm_bt r n.1 r m.1 with
    | true =>
      cases h2 : rm_bt r m.1 r n.1 with
      | true => exact (asym _ _ h1 h2).elim
      | false => rfl
    | false =>
      cases h2 : rm_bt r m.1 r n.1 with
      | true => rfl
      | false => rw [he (fun k hk => (rm_bt_cn h2 h1).2 k hk)]
  | some w =>
    unfold rm_up
    dsimp only
    cases c1 : rm_bt r m.1 w.1 w.2.1 with
    | true =>
      cases c2 : rm_bt r n.1 w.1 w.2.1 with
      | true =>
        show (if rm_bt r n.1 r m.1 then some (r, n) else some (r, m)) = (if rm_bt r m.1 r n.1 then some (r, m) else some (r, n))
        cases h1 : rm_bt r n.1 r m.1 with
        | true =>
          cases h2 : rm_bt r m.1 r n.1 with
          | true => exact (asym _ _ h1 h2).elim
          | false => rfl
        | false =>
          cases h2 : rm_bt r m.1 r n.1 with
          | true => rfl
          | false => rw [he (fun k hk => (rm_bt_cn h2 h1).2 k hk)]
      | false =>
        show (if rm_bt r n.1 r m.1 then some (r, n) else some (r, m)) = (if rm_bt r m.1 w.1 w.2.1 then some (r, m) else some w)
        cases h1 : rm_bt r n.1 r m.1 with
        | true => rw [rm_bt_tr h1 c1] at c2; exact absurd c2 (by simp)
        | false => rw [c1]; rfl
    | false =>
      cases c2 : rm_bt r n.1 w.1 w.2.1 with
      | true =>
        show (if rm_bt r n.1 w.1 w.2.1 then some (r, n) else some w) = (if rm_bt r m.1 r n.1 then some (r, m) else some (r, n))
        cases h1 : rm_bt r m.1 r n.1 with
        | true => rw [rm_bt_tr h1 c2] at c1; exact absurd c1 (by simp)
        | false => rw [c2]; rfl
      | false =>
        show (if rm_bt r n.1 w.1 w.2.1 then some (r, n) else some w) = (if rm_bt r m.1 w.1 w.2.1 then some (r, m) else some w)
        rw [c1, c2]; rfl
theorem rm_nt_rc (F : List rm_FE) (r : Nat) (m n : rm_It) (he : (∀ k, k < 3 → rm_g m.1 k = rm_g n.1 k) → m = n) (z : rm_Ac) : rm_nt F r (rm_nt F r z m) n = rm_nt F r (rm_nt F r z n) m := by
  unfold rm_nt
  cases h1 : rm_hf F r m.1 <;> cases h2 : rm_hf F r n.1
  · show ((z.1 + 1) + 1, (z.2.1 + 1) + 1, rm_up (rm_up z.2.2 r m) r n) = ((z.1 + 1) + 1, (z.2.1 + 1) + 1, rm_up (rm_up z.2.2 r n) r m)
    rw [rm_up_rc r m n he]
  · rfl
  · rfl
  · rfl
def rm_inj (E : List rm_El) : Prop := ∀ e, e ∈ E → ∀ f, f ∈ E → e.1 = f.1 → e = f
theorem rm_inj_nd : ∀ {E : List rm_El}, (E.map (fun e => e.1)).Nodup → rm_inj E
  | [], _ => fun e he => absurd he (by simp)
  | x :: E, h => by
    rw [List.map_cons, List.nodup_cons] at h
    have ih := rm_inj_nd h.2
    intro e he f hf hef
    rw [List.mem_cons] at he hf
    rcases he with rfl | he
    · rcases hf with rfl | hf
      · rfl
      · exact absurd (List.mem_map.mpr ⟨f, hf, hef.symm⟩) h.1
    · rcases hf with rfl | hf
      · exact absurd (List.mem_map.mpr ⟨e, he, hef⟩) h.1
      · exact ih e he f hf hef
theorem rm_mem_mt {E : List rm_El} : ∀ (cs : List rm_Cd) (b : rm_As) (t : List Int32) (m : rm_It), m ∈ rm_mt E cs b t → ∃ s : List Int32, m.1 = t ++ s ∧ s.length = rm_np cs ∧ ∀ x, x ∈ s → ∃ e, e ∈ E ∧ e.1 = x
  | [], b, t, m, h => by
    unfold rm_mt at h
    rw [List.mem_singleton] at h
    subst h
    exact ⟨[], (List.append_nil t).symm, rfl, fun x hx => absurd hx (by simp)⟩
  | (q, true) :: cs, b, t, m, h => by
    unfold rm_mt at h
    split at h
    · exact absurd h (by simp)
    · exact rm_mem_mt cs b t m h
  | (q, false) :: cs, b, t, m, h => by
    unfold rm_mt at h
    rw [List.mem_flatMap] at h
    obtain ⟨e, he, h⟩ := h
    split at h
    · obtain ⟨s, h1, h2, h3⟩ := rm_mem_mt cs _ _ m h
      refine ⟨e.1 :: s, ?_, ?_, ?_⟩
      · rw [h1, List.append_assoc]; rfl
      · rw [List.length_cons, h2]; rfl
      · intro x hx
        rw [List.mem_cons] at hx
        rcases hx with rfl | hx
        · exact ⟨e, he, rfl⟩
        · exact h3 x hx
    · exact absurd h (by simp)
theorem rm_uniq {E : List rm_El} (inj : rm_inj E) : ∀ (cs : List rm_Cd) (b : rm_As) (t : List Int32) (m n : rm_It), m ∈ rm_mt E cs b t → n ∈ rm_mt E cs b t → m.1 = n.1 → m = n
  | [], b, t, m, n, hm, hn, _ => by
    unfold rm_mt at hm hn
    rw [List.mem_singleton] at hm hn
    rw [hm, hn]
  | (q, true) :: cs, b, t, m, n, hm, hn, e => by
    unfold rm_mt at hm hn
    split at hm
    · exact absurd hm (by simp)
    · rename_i hz
      rw [if_neg hz] at hn
      exact rm_uniq inj cs b t m n hm hn e
  | (q, false) :: cs, b, t, m, n, hm, hn, e => by
    unfold rm_mt at hm hn
    rw [List.mem_flatMap] at hm hn
    obtain ⟨x, hx, hm⟩ := hm
    obtain ⟨y, hy, hn⟩ := hn
    split at hm
    · split at hn
      · obtain ⟨s1, a1, _, _⟩ := rm_mem_mt cs _ _ m hm
        obtain ⟨s2, a2, _, _⟩ := rm_mem_mt cs _ _ n hn
        rw [a1, a2, List.append_assoc, List.append_assoc] at e
        have e2 := List.append_cancel_left e
        have e3 : x.1 = y.1 := (List.cons.inj e2).1
        have e4 := inj x hx y hy e3
        subst e4
        refine rm_uniq inj cs _ _ m n hm hn ?_
        rw [a1, a2, List.append_assoc, List.append_assoc, e]
      · exact absurd hn (by simp)
    · exact absurd hm (by simp)
theorem rm_fold {EX EY : List rm_El} (p : List.Perm EX EY) (hY : EY.length ≤ 12) (inj : rm_inj EY) (F : List rm_FE) (r : Nat) (cs : List rm_Cd) (h3 : rm_np cs ≤ 3) (a : rm_Ac) :
    (rm_mt EX cs (fun _ => none) []).foldl (rm_nt F r) a = ((List.range (12 ^ rm_np cs)).filterMap (rm_im EY cs (fun _ => none) [])).foldl (rm_nt F r) a := by
  have q1 := rm_mt_perm p cs (fun _ => none) []
  have q2 := rm_im_perm hY cs (fun _ => none) []
  refine (q1.trans q2.symm).foldl_eq' ?_ a
  intro m hm n hn z
  have hm := q1.mem_iff.mp hm
  have hn := q1.mem_iff.mp hn
  refine rm_nt_rc F r m n (fun h => rm_uniq inj cs _ _ m n hm hn ?_) z
  obtain ⟨s1, a1, l1, _⟩ := rm_mem_mt cs _ _ m hm
  obtain ⟨s2, a2, l2, _⟩ := rm_mem_mt cs _ _ n hn
  rw [List.nil_append] at a1 a2
  refine rm_g_ext ?_ ?_ h
  · rw [a1, a2, l1, l2]
  · rw [a1, l1]; exact h3
theorem rm_foldc {F G : List rm_FE} {r : Nat} : ∀ (L : List rm_It) (a : rm_Ac), (∀ m, m ∈ L → rm_hf F r m.1 = rm_hf G r m.1) → L.foldl (rm_nt F r) a = L.foldl (rm_nt G r) a
  | [], _, _ => rfl
  | m :: L, a, h => by
    rw [List.foldl_cons, List.foldl_cons]
    have e : rm_nt F r a m = rm_nt G r a m := by
      unfold rm_nt
      rw [h m (List.mem_cons_self)]
    rw [e]
    exact rm_foldc L _ (fun n hn => h n (List.mem_cons_of_mem _ hn))
/-- the reference's account after c numbers of rows -/
def rm_ay (F : List rm_FE) (r : Nat) (f : Nat → Option rm_It) (a : rm_Ac) (c : Nat) : rm_Ac := ((List.range c).filterMap f).foldl (rm_nt F r) a
theorem rm_ay_0 (F : List rm_FE) (r : Nat) (f : Nat → Option rm_It) (a : rm_Ac) : rm_ay F r f a 0 = a := rfl
theorem rm_ay_n {F : List rm_FE} {r : Nat} {f : Nat → Option rm_It} {a : rm_Ac} {c : Nat} (h : f c = none) : rm_ay F r f a (c + 1) = rm_ay F r f a c := by
  unfold rm_ay
  rw [List.range_succ, List.filterMap_append, List.foldl_append, List.filterMap_cons_none h]
  rfl
theorem rm_ay_s {F : List rm_FE} {r : Nat} {f : Nat → Option rm_It} {a : rm_Ac} {c : Nat} {m : rm_It} (h : f c = some m) : rm_ay F r f a (c + 1) = rm_nt F r (rm_ay F r f a c) m := by
  unfold rm_ay
  rw [List.range_succ, List.filterMap_append, List.foldl_append, List.filterMap_cons_some h]
  rfl
end
section
/-! ===== numbers and bits ===== -/
theorem rm_n3 (c : Nat) : 3 * nI c = nI (3 * c) := pk_mul 3 c
theorem rm_n3k (c k : Nat) : 3 * nI c + nI k = nI (3 * c + k) := by rw [rm_n3, nI_add]
theorem rm_n31 (c : Nat) : 3 * nI c + 1 = nI (3 * c + 1) := by rw [rm_n3, nI_1]
theorem rm_n32 (c : Nat) : 3 * nI c + 2 = nI (3 * c + 2) := by rw [rm_n3]; exact nI_add _ 2
theorem rm_n16 (k v : Nat) : 16 * nI k + nI v = nI (16 * k + v) := by rw [← nI_add]; exact congrArg (· + nI v) (pk_mul 16 k)
theorem rm_n4 (d v : Nat) : 4 * nI d + nI v = nI (4 * d + v) := by rw [← nI_add]; exact congrArg (· + nI v) (pk_mul 4 d)
theorem rm_n40 (d : Nat) : 4 * nI d = nI (4 * d) := pk_mul 4 d
theorem rm_n44 (d v : Nat) : 4 * nI d + 4 + nI v = nI (4 * d + 4 + v) := by
  rw [← nI_add, ← nI_add]
  exact congrArg (fun z => z + nI 4 + nI v) (pk_mul 4 d)
theorem rm_bt1 : ∀ i, i < 32 → bt 1 i = decide (i = 0) := by decide +kernel
theorem rm_and1 (x : Int32) : x &&& 1 = if bt x 0 = true then 1 else 0 := by
  apply b_ext
  intro i hi
  rw [b_and, rm_bt1 i hi]
  by_cases h : i = 0
  · subst h
    cases h2 : bt x 0
    · rw [if_neg (by simp), b_0]; rfl
    · rw [if_pos rfl, rm_bt1 0 (by omega)]; rfl
  · rw [decide_eq_false h, Bool.and_false]
    cases h2 : bt x 0
    · rw [if_neg (by simp), b_0]
    · rw [if_pos rfl, rm_bt1 i hi, decide_eq_false h]
theorem rm_bit (w : Int32) {c : Nat} (hc : c < 32) : ((w >>> (nI c &&& 31)) &&& 1) = if bt w c = true then 1 else 0 := by
  have e := b_sshr c hc w (i := 0) (by omega)
  rw [if_pos (by omega)] at e
  rw [rm_and1, e]
  rfl
theorem rm_bit_t {w : Int32} {c : Nat} (hc : c < 32) (h : bt w c = true) : ((w >>> (nI c &&& 31)) &&& 1) = 1 := by
  rw [rm_bit w hc, h]; rfl
theorem rm_bit_f {w : Int32} {c : Nat} (hc : c < 32) (h : bt w c = false) : ¬ ((w >>> (nI c &&& 31)) &&& 1) = 1 := by
  rw [rm_bit w hc, h]; decide
theorem rm_one {c : Nat} (hc : c < 32) {i : Nat} (hi : i < 32) : bt ((1 : Int32) <<< (nI c &&& 31)) i = decide (i = c) := by
  rw [b_shl c hc 1 hi, rm_bt1 (i - c) (by omega)]
  by_cases h : i = c
  · subst h; simp
  · rw [decide_eq_false h]
    by_cases h2 : c ≤ i
    · rw [decide_eq_false (p := i - c = 0) (by omega), Bool.and_false]
    · rw [decide_eq_false h2, Bool.false_and]
theorem rm_clr (w : Int32) {c : Nat} (hc : c < 32) {i : Nat} (hi : i < 32) : bt (w &&& (((1 : Int32) <<< (nI c &&& 31)) ^^^ (-1))) i = (bt w i && !decide (i = c)) := by
  rw [b_and, b_xor, rm_one hc hi, b_m1 i hi, Bool.xor_true]
theorem rm_zero {w : Int32} (h : ∀ i, i < 32 → bt w i = false) : w = 0 := by
  apply b_ext
  intro i hi
  rw [h i hi, b_0]
theorem rm_low {w : Int32} {c : Nat} (hc : c < 32) (h : bt w c = true) (hl : ∀ j, j < c → bt w j = false) : w &&& -w = (1 : Int32) <<< (nI c &&& 31) := by
  apply b_ext
  intro i hi
  rw [rm_one hc hi, b_and]
  by_cases h1 : i < c
  · rw [hl i h1, decide_eq_false (by omega), Bool.false_and]
  · have e : bt (-w) i = (bt w i ^^ (decide (i < 32) && decide (∃ j, j < i ∧ bt w j = true))) := by
      unfold bt
      rw [Int32.toBitVec_neg, BitVec.getLsbD_neg]
    rw [e]
    by_cases h2 : i = c
    · subst h2
      have h3 : ¬ ∃ j, j < i ∧ bt w j = true := by
        intro ⟨j, hj, hb⟩
        rw [hl j hj] at hb
        exact absurd hb (by simp)
      rw [h, decide_eq_false h3, decide_eq_true rfl]
      simp
    · have h3 : ∃ j, j < i ∧ bt w j = true := ⟨c, by omega, h⟩
      rw [decide_eq_true h3, decide_eq_true hi, decide_eq_false h2]
      cases bt w i <;> rfl
theorem rm_one_inj {c d : Nat} (hc : c < 32) (hd : d < 32) (h : (1 : Int32) <<< (nI c &&& 31) = (1 : Int32) <<< (nI d &&& 31)) : c = d := by
  have h1 := rm_one hc hc
  rw [h, rm_one hd hc] at h1
  have h2 : decide (c = c) = true := decide_eq_true rfl
  rw [h2] at h1
  exact of_decide_eq_true h1
theorem rm_fdI {x k : Nat} (hx : x < 4096) (hk : k < 3) : (nI x >>> ((8 - (4 * nI k)) &&& 31)) &&& 15 = nI (rm_fd x k) := by
  have hk : k = 0 ∨ k = 1 ∨ k = 2 := by omega
  rcases hk with rfl | rfl | rfl
  · rw [pk_shrN (by omega) _ 8 (by decide), pk_andN (by omega) 4 (by decide)]; rfl
  · rw [pk_shrN (by omega) _ 4 (by decide), pk_andN (by omega) 4 (by decide)]; rfl
  · rw [pk_shrN (by omega) _ 0 (by decide), pk_andN (by omega) 4 (by decide)]
    exact congrArg nI (by show x / 2 ^ 0 % 2 ^ 4 = x % 16; omega)
theorem rm_d8 {q : Nat} (hq : q < 32004) : nI q / 8000 = nI (q / 8000) := pk_div (d := 8000) (by omega) (by omega) (by omega)
theorem rm_enX0 {q : Nat} (hq : q < 32004) : (nI q / 400) - (nI q / 400) / 20 * 20 = nI (q / 400 % 20) := by
  have e : nI q / 400 = nI (q / 400) := pk_div (d := 400) (by omega) (by omega) (by omega)
  rw [e]
  exact pk_rem (d := 20) (by omega) (by omega) (by omega)
theorem rm_enX1 {q : Nat} (hq : q < 32004) : (nI q / 20) - (nI q / 20) / 20 * 20 = nI (q / 20 % 20) := by
  have e : nI q / 20 = nI (q / 20) := pk_div (d := 20) (by omega) (by omega) (by omega)
  rw [e]
  exact pk_rem (d := 20) (by omega) (by omega) (by omega)
theorem rm_enX2 {q : Nat} (hq : q < 32004) : nI q - nI q / 20 * 20 = nI (q % 20) := pk_rem (d := 20) (by omega) (by omega) (by omega)
theorem rm_enY0 {q : Nat} (hq : q < 32004) : (nI q - nI q / 8000 * 8000) / 400 = nI (q / 400 % 20) := by
  have e : nI q - nI q / 8000 * 8000 = nI (q % 8000) := pk_rem (d := 8000) (by omega) (by omega) (by omega)
  rw [e]
  refine (pk_div (d := 400) (by omega) (by omega) (by omega)).trans (congrArg nI ?_)
  omega
theorem rm_enY1 {q : Nat} (hq : q < 32004) : (nI q - nI q / 400 * 400) / 20 = nI (q / 20 % 20) := by
  have e : nI q - nI q / 400 * 400 = nI (q % 400) := pk_rem (d := 400) (by omega) (by omega) (by omega)
  rw [e]
  refine (pk_div (d := 20) (by omega) (by omega) (by omega)).trans (congrArg nI ?_)
  omega
theorem rm_wpe {q k : Nat} {post : Int32 → Prop} (hq : q < 32004) (hk : k < 3) (h : post (nI (rm_en q k))) : wpX_entryOf post (nI q) (nI k) := by
  have hk : k = 0 ∨ k = 1 ∨ k = 2 := by omega
  rcases hk with rfl | rfl | rfl
  · exact br_t (c := nI 0 = 0) rfl ⟨by decide, by decide, by rw [rm_enX0 hq]; exact h⟩
  · exact br_f (c := nI 1 = 0) (by decide) (br_t (c := nI 1 = 1) rfl ⟨by decide, by decide, by rw [rm_enX1 hq]; exact h⟩)
  · exact br_f (c := nI 2 = 0) (by decide) (br_f (c := nI 2 = 1) (by decide) ⟨by decide, by rw [rm_enX2 hq]; exact h⟩)
theorem rm_encm1 {o : Option Nat} (h : ∀ y, o = some y → y < 16) : rm_enc o = -1 ↔ o = none := by
  cases o with
  | none => exact ⟨fun _ => rfl, fun _ => rfl⟩
  | some y =>
    have hy := h y rfl
    refine ⟨fun e => ?_, fun e => absurd e (by simp)⟩
    have e2 : (nI y).toInt = (-1 : Int32).toInt := congrArg Int32.toInt e
    rw [nI_toInt (by omega)] at e2
    have e3 : (-1 : Int32).toInt = -1 := by decide
    omega
theorem rm_enc0 {o : Option Nat} (h : ∀ y, o = some y → y < 16) : 0 ≤ rm_enc o ↔ o ≠ none := by
  cases o with
  | none => exact ⟨fun e => absurd e (by decide), fun e => absurd rfl e⟩
  | some y =>
    have hy := h y rfl
    exact ⟨fun _ => by simp, fun _ => nI_pos' (by omega)⟩
def rm_b (p : Bool) : Int32 := if p then 1 else 0
theorem rm_b_t : rm_b true = 1 := rfl
theorem rm_b_f : rm_b false = 0 := rfl
theorem rm_b_0 {p : Bool} {A B : Prop} (f : p = false → A) (t : p = true → B) : (rm_b p = 0 → A) ∧ (¬ rm_b p = 0 → B) := by
  cases p
  · exact br_t (c := rm_b false = 0) rfl (f rfl)
  · exact br_f (c := rm_b true = 0) (by decide) (t rfl)
theorem rm_b_nar (p : Bool) : vp_nar .boolean (rm_b p) = rm_b p := by cases p <;> rfl
theorem rm_b_n (p : Bool) : narrow .boolean (.int (rm_b p)) = .int (rm_b p) := by cases p <;> rfl
/-! ===== the fired matches as a list ===== -/
def rm_F (n : Nat) (fr ft : Nat → Int32) : List rm_FE := (List.range n).map (fun i => (fr i, ft (3 * i), ft (3 * i + 1), ft (3 * i + 2)))
theorem rm_F_len (n : Nat) (fr ft : Nat → Int32) : (rm_F n fr ft).length = n := by unfold rm_F; rw [List.length_map, List.length_range]
theorem rm_F_s (n : Nat) (fr ft : Nat → Int32) : rm_F (n + 1) fr ft = rm_F n fr ft ++ [(fr n, ft (3 * n), ft (3 * n + 1), ft (3 * n + 2))] := by
  unfold rm_F
  rw [List.range_succ, List.map_append]
  rfl
theorem rm_F_c {n : Nat} {fr ft fr' ft' : Nat → Int32} (h1 : ∀ i, i < n → fr' i = fr i) (h2 : ∀ m, m < 3 * n → ft' m = ft m) : rm_F n fr' ft' = rm_F n fr ft := by
  unfold rm_F
  apply List.map_congr_left
  intro i hi
  have hi := List.mem_range.mp hi
  rw [h1 i hi, h2 _ (by omega), h2 _ (by omega), h2 _ (by omega)]
theorem rm_F_mem {n : Nat} {fr ft : Nat → Int32} {f : rm_FE} : f ∈ rm_F n fr ft ↔ ∃ i, i < n ∧ f = (fr i, ft (3 * i), ft (3 * i + 1), ft (3 * i + 2)) := by
  unfold rm_F
  rw [List.mem_map]
  constructor
  · rintro ⟨i, hi, e⟩
    exact ⟨i, List.mem_range.mp hi, e.symm⟩
  · rintro ⟨i, hi, e⟩
    exact ⟨i, List.mem_range.mpr hi, e.symm⟩
/-- compaction in place: kept entries ahead, the rest as they were -/
def rm_CI (P : rm_FE → Bool) (fr ft : Nat → Int32) (k i : Nat) (fr' ft' : Nat → Int32) : Prop :=
  k ≤ i ∧ rm_F k fr' ft' = (rm_F i fr ft).filter P ∧ (∀ j, i ≤ j → fr' j = fr j) ∧ (∀ m, 3 * i ≤ m → ft' m = ft m)
theorem rm_CI_0 (P : rm_FE → Bool) (fr ft : Nat → Int32) : rm_CI P fr ft 0 0 fr ft := ⟨Nat.le_refl _, rfl, fun _ _ => rfl, fun _ _ => rfl⟩
theorem rm_CI_skip {P : rm_FE → Bool} {fr ft fr' ft' : Nat → Int32} {k i : Nat} (h : rm_CI P fr ft k i fr' ft') (hp : P (fr i, ft (3 * i), ft (3 * i + 1), ft (3 * i + 2)) = false) : rm_CI P fr ft k (i + 1) fr' ft' := by
  refine ⟨by have := h.1; omega, ?_, fun j hj => h.2.2.1 j (by omega), fun m hm => h.2.2.2 m (by omega)⟩
  rw [rm_F_s, List.filter_append, h.2.1, List.filter_cons_of_neg (by rw [hp]; simp), List.filter_nil, List.append_nil]
theorem rm_CI_keep {P : rm_FE → Bool} {fr ft fr' ft' fr2 ft2 : Nat → Int32} {k i : Nat} (h : rm_CI P fr ft k i fr' ft') (hp : P (fr i, ft (3 * i), ft (3 * i + 1), ft (3 * i + 2)) = true)
    (h1 : fr2 = upd fr' k (fr' i)) (h2 : ∀ m, ¬ (3 * k ≤ m ∧ m < 3 * k + 3) → ft2 m = ft' m) (h3 : ∀ m, m < 3 → ft2 (3 * k + m) = ft' (3 * i + m)) : rm_CI P fr ft (k + 1) (i + 1) fr2 ft2 := by
  have hk := h.1
  refine ⟨by omega, ?_, fun j hj => ?_, fun m hm => ?_⟩
  · rw [rm_F_s, rm_F_s, List.filter_append, ← h.2.1, List.filter_cons_of_pos hp, List.filter_nil]
    have e1 : rm_F k fr2 ft2 = rm_F k fr' ft' := rm_F_c (fun j hj => by rw [h1]; exact pk_un (by omega)) (fun m hm => h2 m (by omega))
    have e2 : fr2 k = fr i := by rw [h1, pk_us]; exact h.2.2.1 i (Nat.le_refl _)
    have e3 : ft2 (3 * k) = ft (3 * i) := (h3 0 (by omega)).trans (h.2.2.2 _ (by omega))
    have e4 : ft2 (3 * k + 1) = ft (3 * i + 1) := (h3 1 (by omega)).trans (h.2.2.2 _ (by omega))
    have e5 : ft2 (3 * k + 2) = ft (3 * i + 2) := (h3 2 (by omega)).trans (h.2.2.2 _ (by omega))
    rw [e1, e2, e3, e4, e5]
  · rw [h1, pk_un (by omega)]
    exact h.2.2.1 j (by omega)
  · rw [h2 m (by omega)]
    exact h.2.2.2 m (by omega)
/-! ===== the component's cells ===== -/
def rm_q (o : Option rm_El) (f : rm_El → Bool) : Bool := match o with
  | none => false
  | some x => f x
def rm_cu (cell : Nat → Option rm_El) (c : Nat) (o : Option rm_El) : Nat → Option rm_El := fun i => if i = c then o else cell i
theorem rm_cu_s (cell : Nat → Option rm_El) (c : Nat) (o : Option rm_El) : rm_cu cell c o c = o := if_pos rfl
theorem rm_cu_n {cell : Nat → Option rm_El} {c i : Nat} {o : Option rm_El} (h : i ≠ c) : rm_cu cell c o i = cell i := if_neg h
def rm_ce (cell : Nat → Option rm_El) : List rm_El := (List.range 12).filterMap cell
theorem rm_ce_mem {cell : Nat → Option rm_El} (h : ∀ c x, cell c = some x → c < 12) {x : rm_El} : x ∈ rm_ce cell ↔ ∃ c, cell c = some x := by
  unfold rm_ce
  rw [List.mem_filterMap]
  constructor
  · rintro ⟨c, _, e⟩; exact ⟨c, e⟩
  · rintro ⟨c, e⟩; exact ⟨c, List.mem_range.mpr (h c x e), e⟩
theorem rm_fmcg {f g : Nat → Option rm_El} : ∀ n, (∀ i, i < n → f i = g i) → (List.range n).filterMap f = (List.range n).filterMap g
  | 0, _ => rfl
  | n + 1, h => by
    rw [List.range_succ, List.filterMap_append, List.filterMap_append, rm_fmcg n (fun i hi => h i (by omega))]
    congr 1
    rw [List.filterMap_cons, List.filterMap_cons, h n (by omega)]
    rfl
theorem rm_ce_put {cell : Nat → Option rm_El} {c : Nat} (e : rm_El) (h0 : cell c = none) : ∀ n, c < n → List.Perm ((List.range n).filterMap (rm_cu cell c (some e))) (e :: (List.range n).filterMap cell)
  | 0, h => absurd h (by omega)
  | n + 1, h => by
    rw [List.range_succ, List.filterMap_append, List.filterMap_append]
    by_cases hc : c = n
    · subst hc
      rw [rm_fmcg (f := rm_cu cell c (some e)) (g := cell) c (fun i hi => rm_cu_n (by omega)), List.filterMap_cons_some (rm_cu_s cell c (some e)), List.filterMap_cons_none h0, List.filterMap_nil, List.filterMap_nil, List.append_nil]
      exact List.perm_append_singleton _ _
    · have e2 : List.filterMap (rm_cu cell c (some e)) [n] = List.filterMap cell [n] := by
        rw [List.filterMap_cons, List.filterMap_cons, rm_cu_n (by omega)]
        rfl
      rw [e2]
      exact (rm_ce_put e h0 n (by omega)).append_right _
theorem rm_cu_back {cell : Nat → Option rm_El} {c : Nat} {e : rm_El} (h : cell c = some e) : rm_cu (rm_cu cell c none) c (some e) = cell := by
  funext i
  by_cases hi : i = c
  · subst hi; rw [rm_cu_s]; exact h.symm
  · rw [rm_cu_n hi, rm_cu_n hi]
theorem rm_ce_any {cell : Nat → Option rm_El} (f : rm_El → Bool) (h : ∀ i, i < 12 → rm_q (cell i) f = false) : (rm_ce cell).any f = false := by
  rw [List.any_eq_false]
  intro x hx
  unfold rm_ce at hx
  rw [List.mem_filterMap] at hx
  obtain ⟨c, hc, e⟩ := hx
  have h2 := h c (List.mem_range.mp hc)
  rw [e] at h2
  show ¬ f x = true
  intro h3
  have h4 : f x = false := h2
  rw [h3] at h4
  exact absurd h4 (by simp)
theorem rm_ce_any1 {cell : Nat → Option rm_El} (f : rm_El → Bool) {i : Nat} (hi : i < 12) (h : rm_q (cell i) f = true) : (rm_ce cell).any f = true := by
  rw [List.any_eq_true]
  cases hc : cell i with
  | none => rw [hc] at h; exact absurd h (by simp [rm_q])
  | some x =>
    rw [hc] at h
    refine ⟨x, ?_, h⟩
    unfold rm_ce
    rw [List.mem_filterMap]
    exact ⟨i, List.mem_range.mpr hi, hc⟩
end
section
/-! ===== the component: cells, enter, leave ===== -/
def rx_XE (cell : Nat → Option rm_El) (f_used : Int32) (a_tags a_types a_fields a_ofType a_ofValue : Nat → Int32) : Prop :=
  (∀ c x, cell c = some x → c < 12 ∧ a_tags c = x.1 ∧ 0 < x.1 ∧ a_types c = nI x.2.1 ∧ x.2.1 < 4 ∧ x.2.2 < 4096 ∧ ∀ k, k < 3 → a_fields (3 * c + k) = nI (rm_fd x.2.2 k))
  ∧ (∀ i, i < 32 → bt f_used i = (cell i).isSome)
  ∧ (∀ y, y < 4 → ∀ i, i < 32 → bt (a_ofType y) i = rm_q (cell i) (fun x => decide (x.2.1 = y)))
  ∧ (∀ k, k < 3 → ∀ v, v < 16 → ∀ i, i < 32 → bt (a_ofValue (16 * k + v)) i = rm_q (cell i) (fun x => decide (rm_fd x.2.2 k = v)))
def rx_VI (cell cell' : Nat → Option rm_El) (j : Nat) (ofV : Nat → Int32) : Prop := ∀ k, k < 3 → ∀ v, v < 16 → ∀ i, i < 32 → bt (ofV (16 * k + v)) i = rm_q ((if k < j then cell' else cell) i) (fun x => decide (rm_fd x.2.2 k = v))
section
variable {f_used f_count f_lastTag f_ruleCount f_draftSize f_firedCount f_bestRule f_rowSize f_bestSize f_total f_openTotal : Int32} {a_tags a_types a_fields a_ofType a_ofValue a_sizes a_patterns a_negative a_actions a_firedRule a_firedTags a_bound a_candidates a_chosen a_row a_bestRow a_bestBound a_falling a_bestFalling : Nat → Int32}
theorem rx_cell2 {cell : Nat → Option rm_El} (hE : rx_XE cell f_used a_tags a_types a_fields a_ofType a_ofValue) {t : Int32} {post : Int32 → Prop} (h1 : ∀ c x, cell c = some x → x.1 = t → post (nI c)) (h0 : (∀ c x, cell c = some x → x.1 ≠ t) → post (-1)) :
    ∀ d j, j + d = 12 → (∀ c x, c < j → cell c = some x → x.1 ≠ t) → wX_cellOf_2 post t f_used f_count f_lastTag f_ruleCount f_draftSize f_firedCount f_bestRule f_rowSize f_bestSize f_total f_openTotal a_tags a_types a_fields a_ofType a_ofValue a_sizes a_patterns a_negative a_actions a_firedRule a_firedTags a_bound a_candidates a_chosen a_row a_bestRow a_bestBound a_falling a_bestFalling (d + 1) (nI j) := by
  intro d
  induction d with
  | zero =>
    intro j hj hn
    refine pk_le 12 j (fun _ => h0 (fun c x hc => hn c x ?_ hc)) (fun h => absurd h (by omega))
    have := (hE.1 c x hc).1
    omega
  | succ d ih =>
    intro j hj hn
    refine pk_le 12 j (fun h => absurd h (by omega)) (fun _ => ?_)
    have hu := hE.2.1 j (by omega)
    cases hc : cell j with
    | none =>
      rw [hc] at hu
      refine br_f (rm_bit_f (by omega) hu) (nm_r (nI_1 j) (ih (j + 1) (by omega) ?_))
      intro c x hcj hx
      by_cases e : c = j
      · subst e; rw [hc] at hx; exact absurd hx (by simp)
      · exact hn c x (by omega) hx
    | some x =>
      rw [hc] at hu
      have hx := hE.1 j x hc
      refine br_t (rm_bit_t (by omega) hu) (And.intro (vp_in_nI (by omega) (by omega)) ?_)
      rw [nI_clamp (n := j) (by omega), hx.2.1]
      by_cases e : x.1 = t
      · exact br_t e (h1 j x hc e)
      · refine br_f e (nm_r (nI_1 j) (ih (j + 1) (by omega) ?_))
        intro c y hcj hy
        by_cases e2 : c = j
        · subst e2
          rw [hc] at hy
          cases hy
          exact e
        · exact hn c y (by omega) hy
theorem rx_cellOf {cell : Nat → Option rm_El} (hE : rx_XE cell f_used a_tags a_types a_fields a_ofType a_ofValue) {t : Int32} {post : Int32 → Prop} (h1 : ∀ c x, cell c = some x → x.1 = t → post (nI c)) (h0 : (∀ c x, cell c = some x → x.1 ≠ t) → post (-1)) : wpX_cellOf post (f_used, f_count, f_lastTag, f_ruleCount, f_draftSize, f_firedCount, f_bestRule, f_rowSize, f_bestSize, f_total, f_openTotal, a_tags, a_types, a_fields, a_ofType, a_ofValue, a_sizes, a_patterns, a_negative, a_actions, a_firedRule, a_firedTags, a_bound, a_candidates, a_chosen, a_row, a_bestRow, a_bestBound, a_falling, a_bestFalling) t :=
  Exists.intro 13 (rx_cell2 hE h1 h0 12 0 rfl (fun c x h => absurd h (by omega)))
/-! enter -/
theorem rx_enter84 {cell cell' : Nat → Option rm_El} {c ty code : Nat} {tg : Int32} (hc : c < 12) (hcode : code < 4096) (h0 : cell c = none) (hc' : cell' = rm_cu cell c (some (tg, ty, code))) {post : SX → Prop} (fld : Nat → Int32)
    (K : ∀ fld' ofV', (∀ k, k < 3 → fld' (3 * c + k) = nI (rm_fd code k)) → (∀ m, ¬ (3 * c ≤ m ∧ m < 3 * c + 3) → fld' m = fld m) → rx_VI cell cell' 3 ofV' → post (f_used, f_count + 1, f_lastTag, f_ruleCount, f_draftSize, f_firedCount, f_bestRule, f_rowSize, f_bestSize, f_total, f_openTotal, a_tags, a_types, fld', a_ofType, ofV', a_sizes, a_patterns, a_negative, a_actions, a_firedRule, a_firedTags, a_bound, a_candidates, a_chosen, a_row, a_bestRow, a_bestBound, a_falling, a_bestFalling)) :
    ∀ d j fld' ofV', j + d = 3 → (∀ k, k < j → fld' (3 * c + k) = nI (rm_fd code k)) → (∀ m, ¬ (3 * c ≤ m ∧ m < 3 * c + 3) → fld' m = fld m) → rx_VI cell cell' j ofV' →
      wX_enter_84 post (nI code) (nI c) f_used f_count f_lastTag f_ruleCount f_draftSize f_firedCount f_bestRule f_rowSize f_bestSize f_total f_openTotal (d + 1) (nI j) a_tags a_types fld' a_ofType ofV' a_sizes a_patterns a_negative a_actions a_firedRule a_firedTags a_bound a_candidates a_chosen a_row a_bestRow a_bestBound a_falling a_bestFalling := by
  intro d
  induction d with
  | zero =>
    intro j fld' ofV' hj hf hg hv
    have hj : j = 3 := by omega
    subst hj
    exact pk_le 3 3 (fun _ => nm_e (K fld' ofV' hf hg hv)) (fun h => absurd h (by omega))
  | succ d ih =>
    intro j fld' ofV' hj hf hg hv
    have hfd := rm_fd_lt code j
    refine pk_le 3 j (fun h => absurd h (by omega)) (fun _ => nm_r (rm_fdI hcode (by omega)) ?_)
    rw [rm_n3k, rm_n16]
    refine And.intro (vp_in_nI (by omega) (by omega)) (nm_e (And.intro (vp_in_nI (by omega) (by omega)) (And.intro (vp_in_nI (by omega) (by omega)) (nm_e (nm_r (nI_1 j) ?_)))))
    rw [nI_clamp (n := 3 * c + j) (by omega), nI_clamp (n := 16 * j + rm_fd code j) (by omega)]
    refine ih (j + 1) _ _ (by omega) ?_ ?_ ?_
    · intro k hk
      by_cases e : k = j
      · subst e; exact pk_us
      · rw [pk_un (by omega)]; exact hf k (by omega)
    · intro m hm
      rw [pk_un (by omega)]; exact hg m hm
    · intro k hk v hv' i hi
      have old := hv k hk v hv' i hi
      by_cases e : k = j
      · subst e
        rw [if_neg (by omega)] at old
        rw [if_pos (by omega)]
        by_cases e2 : v = rm_fd code k
        · subst e2
          rw [pk_us, b_or, rm_one (by omega) hi, old, hc']
          by_cases e3 : i = c
          · subst e3
            rw [rm_cu_s, h0]
            simp [rm_q]
          · rw [rm_cu_n e3, decide_eq_false e3, Bool.or_false]
        · rw [pk_un (by omega), old, hc']
          by_cases e3 : i = c
          · subst e3
            rw [rm_cu_s, h0]
            show false = decide (rm_fd code k = v)
            rw [decide_eq_false (fun z => e2 z.symm)]
          · rw [rm_cu_n e3]
      · rw [pk_un (by omega), old]
        by_cases e4 : k < j
        · rw [if_pos e4, if_pos (by omega)]
        · rw [if_neg e4, if_neg (by omega)]
theorem rx_XE_put {cell : Nat → Option rm_El} (hE : rx_XE cell f_used a_tags a_types a_fields a_ofType a_ofValue) {c ty code : Nat} {tg : Int32} (hc : c < 12) (hty : ty < 4) (hcode : code < 4096) (h0 : cell c = none) (htg : 0 < tg) {fld' ofV' : Nat → Int32}
    (h1 : ∀ k, k < 3 → fld' (3 * c + k) = nI (rm_fd code k)) (h2 : ∀ m, ¬ (3 * c ≤ m ∧ m < 3 * c + 3) → fld' m = a_fields m) (h3 : rx_VI cell (rm_cu cell c (some (tg, ty, code))) 3 ofV') :
    rx_XE (rm_cu cell c (some (tg, ty, code))) (f_used ||| ((1 : Int32) <<< (nI c &&& 31))) (upd a_tags c tg) (upd a_types c (nI ty)) fld' (upd a_ofType ty ((a_ofType ty) ||| ((1 : Int32) <<< (nI c &&& 31)))) ofV' := by
  refine ⟨?_, ?_, ?_, ?_⟩
  · intro i x hx
    by_cases e : i = c
    · subst e
      rw [rm_cu_s] at hx
      cases hx
      exact ⟨hc, pk_us, htg, pk_us, hty, hcode, h1⟩
    · rw [rm_cu_n e] at hx
      obtain ⟨a1, a2, a3, a4, a5, a6, a7⟩ := hE.1 i x hx
      refine ⟨a1, ?_, a3, ?_, a5, a6, ?_⟩
      · rw [pk_un e]; exact a2
      · rw [pk_un e]; exact a4
      · intro k hk
        rw [h2 _ (by omega)]
        exact a7 k hk
  · intro i hi
    rw [b_or, rm_one (by omega) hi, hE.2.1 i hi]
    by_cases e : i = c
    · subst e; rw [rm_cu_s]; simp
    · rw [rm_cu_n e, decide_eq_false e, Bool.or_false]
  · intro y hy i hi
    have old := hE.2.2.1 y hy i hi
    by_cases e2 : y = ty
    · subst e2
      rw [pk_us, b_or, rm_one (by omega) hi, old]
      by_cases e : i = c
      · subst e; rw [rm_cu_s]; simp [rm_q]
      · rw [rm_cu_n e, decide_eq_false e, Bool.or_false]
    · rw [pk_un e2, old]
      by_cases e : i = c
      · subst e
        rw [rm_cu_s, h0]
        show false = decide (ty = y)
        rw [decide_eq_false (fun z => e2 z.symm)]
      · rw [rm_cu_n e]
  · intro k hk v hv i hi
    have := h3 k hk v hv i hi
    rw [if_pos hk] at this
    exact this
theorem rx_enter2 {c ty code : Nat} {L : Nat} {cell : Nat → Option rm_El} (hL : L < 2147483000) (hE : rx_XE cell f_used a_tags a_types a_fields a_ofType a_ofValue) (hc : c < 12) (hty : ty < 4) (hcode : code < 4096) (h0 : cell c = none) (hlt : ∀ j, j < c → cell j ≠ none) {post : SX → Prop}
    (K : ∀ (f_used' : Int32) (a_tags' a_types' a_fields' a_ofType' a_ofValue' : Nat → Int32), rx_XE (rm_cu cell c (some (nI (L + 1), ty, code))) f_used' a_tags' a_types' a_fields' a_ofType' a_ofValue' → post (f_used', f_count + 1, nI (L + 1), f_ruleCount, f_draftSize, f_firedCount, f_bestRule, f_rowSize, f_bestSize, f_total, f_openTotal, a_tags', a_types', a_fields', a_ofType', a_ofValue', a_sizes, a_patterns, a_negative, a_actions, a_firedRule, a_firedTags, a_bound, a_candidates, a_chosen, a_row, a_bestRow, a_bestBound, a_falling, a_bestFalling)) :
    ∀ d j, j + d = c → wX_enter_2 post (nI ty) (nI code) f_used f_count (nI L) f_ruleCount f_draftSize f_firedCount f_bestRule f_rowSize f_bestSize f_total f_openTotal a_tags a_types a_fields a_ofType a_ofValue a_sizes a_patterns a_negative a_actions a_firedRule a_firedTags a_bound a_candidates a_chosen a_row a_bestRow a_bestBound a_falling a_bestFalling (d + 1) (nI j) := by
  have key : wX_enter_26 post (nI ty) (nI code) (nI c) f_used f_count (nI L) f_ruleCount f_draftSize f_firedCount f_bestRule f_rowSize f_bestSize f_total f_openTotal a_tags a_types a_fields a_ofType a_ofValue a_sizes a_patterns a_negative a_actions a_firedRule a_firedTags a_bound a_candidates a_chosen a_row a_bestRow a_bestBound a_falling a_bestFalling := by
    refine nm_r (nI_1 L) (And.intro (vp_in_nI hc (by omega)) (nm_e (And.intro (vp_in_nI hc (by omega)) (nm_e (nm_e (And.intro (vp_in_nI hty (by omega)) (And.intro (vp_in_nI hty (by omega)) (nm_e ?_))))))))
    rw [nI_clamp (n := c) (by omega), nI_clamp (n := ty) (by omega)]
    refine Exists.intro 4 (rx_enter84 (cell := cell) (cell' := rm_cu cell c (some (nI (L + 1), ty, code))) (tg := nI (L + 1)) (ty := ty) hc hcode h0 rfl a_fields ?_ 3 0 a_fields a_ofValue rfl (fun k hk => absurd hk (by omega)) (fun _ _ => rfl) ?_)
    · intro fld' ofV' a1 a2 a3
      exact K _ _ _ _ _ _ (rx_XE_put hE hc hty hcode h0 (by rw [← nI_0]; exact nI_lt (by omega) (by omega)) a1 a2 a3)
    · intro k hk v hv i hi
      rw [if_neg (by omega)]
      exact hE.2.2.2 k hk v hv i hi
  intro d
  induction d with
  | zero =>
    intro j hj
    have hj : j = c := by omega
    subst hj
    refine pk_le 11 j (fun _ => key) (fun _ => br_f (rm_bit_f (by omega) ?_) key)
    rw [hE.2.1 j (by omega), h0]; rfl
  | succ d ih =>
    intro j hj
    refine pk_le 11 j (fun h => absurd h (by omega)) (fun _ => br_t (rm_bit_t (by omega) ?_) (nm_r (nI_1 j) (ih (j + 1) (by omega))))
    rw [hE.2.1 j (by omega)]
    cases h : cell j with
    | none => exact absurd h (hlt j (by omega))
    | some x => rfl
theorem rx_enter {ty code : Nat} {L : Nat} {cell : Nat → Option rm_El} (hL : L < 2147483000) (hlast : f_lastTag = nI L) (hE : rx_XE cell f_used a_tags a_types a_fields a_ofType a_ofValue) (hty : ty < 4) (hcode : code < 4096) (hfree : ∃ c, c < 12 ∧ cell c = none) {post : SX → Prop}
    (K : ∀ c (f_used' : Int32) (a_tags' a_types' a_fields' a_ofType' a_ofValue' : Nat → Int32), c < 12 → cell c = none → rx_XE (rm_cu cell c (some (nI (L + 1), ty, code))) f_used' a_tags' a_types' a_fields' a_ofType' a_ofValue' → post (f_used', f_count + 1, nI (L + 1), f_ruleCount, f_draftSize, f_firedCount, f_bestRule, f_rowSize, f_bestSize, f_total, f_openTotal, a_tags', a_types', a_fields', a_ofType', a_ofValue', a_sizes, a_patterns, a_negative, a_actions, a_firedRule, a_firedTags, a_bound, a_candidates, a_chosen, a_row, a_bestRow, a_bestBound, a_falling, a_bestFalling)) :
    wpX_enter post (f_used, f_count, f_lastTag, f_ruleCount, f_draftSize, f_firedCount, f_bestRule, f_rowSize, f_bestSize, f_total, f_openTotal, a_tags, a_types, a_fields, a_ofType, a_ofValue, a_sizes, a_patterns, a_negative, a_actions, a_firedRule, a_firedTags, a_bound, a_candidates, a_chosen, a_row, a_bestRow, a_bestBound, a_falling, a_bestFalling) (nI ty) (nI code) := by
  obtain ⟨c, ⟨hc, h0⟩, hlt⟩ := pk_least _ hfree
  subst hlast
  exact Exists.intro (c + 1) (rx_enter2 hL hE hc hty hcode h0 (fun j hj hn => hlt j hj ⟨by omega, hn⟩) (fun f_used' a_tags' a_types' a_fields' a_ofType' a_ofValue' h => K c f_used' a_tags' a_types' a_fields' a_ofType' a_ofValue' hc h0 h) c 0 (by omega))
/-! dropFired -/
def rm_nh (t : Int32) (f : rm_FE) : Bool := !(decide (f.2.1 = t) || (decide (f.2.2.1 = t) || decide (f.2.2.2 = t)))
theorem rx_df79 {kept i : Nat} (hk : kept ≤ i) (hi : i < 40) (t : Int32) {post : SX → Prop} {J : Int32 → Int32 → (Nat → Int32) → (Nat → Int32) → (Nat → Int32) → (Nat → Int32) → (Nat → Int32) → (Nat → Int32) → (Nat → Int32) → (Nat → Int32) → (Nat → Int32) → (Nat → Int32) → (Nat → Int32) → (Nat → Int32) → (Nat → Int32) → (Nat → Int32) → (Nat → Int32) → (Nat → Int32) → (Nat → Int32) → (Nat → Int32) → (Nat → Int32) → Prop}
    (K : ∀ ft', (∀ m, ¬ (3 * kept ≤ m ∧ m < 3 * kept + 3) → ft' m = a_firedTags m) → (∀ m, m < 3 → ft' (3 * kept + m) = a_firedTags (3 * i + m)) → J (nI (kept + 1)) (nI (i + 1)) a_tags a_types a_fields a_ofType a_ofValue a_sizes a_patterns a_negative a_actions a_firedRule ft' a_bound a_candidates a_chosen a_row a_bestRow a_bestBound a_falling a_bestFalling) :
    ∀ d k ft', k + d = 3 → (∀ m, ¬ (3 * kept ≤ m ∧ m < 3 * kept + k) → ft' m = a_firedTags m) → (∀ m, m < k → ft' (3 * kept + m) = a_firedTags (3 * i + m)) →
      wX_dropFired_79 post J t (nI kept) (nI i) f_used f_count f_lastTag f_ruleCount f_draftSize f_firedCount f_bestRule f_rowSize f_bestSize f_total f_openTotal (d + 1) (nI k) a_tags a_types a_fields a_ofType a_ofValue a_sizes a_patterns a_negative a_actions a_firedRule ft' a_bound a_candidates a_chosen a_row a_bestRow a_bestBound a_falling a_bestFalling := by
  intro d
  induction d with
  | zero =>
    intro k ft' hkd h1 h2
    have e : k = 3 := by omega
    subst e
    exact pk_le 3 3 (fun _ => nm_r (nI_1 kept) (nm_r (nI_1 i) (K ft' h1 h2))) (fun h => absurd h (by omega))
  | succ d ih =>
    intro k ft' hkd h1 h2
    refine pk_le 3 k (fun h => absurd h (by omega)) (fun _ => ?_)
    rw [rm_n3k, rm_n3k]
    refine And.intro (vp_in_nI (by omega) (by omega)) (And.intro (vp_in_nI (by omega) (by omega)) (nm_e (nm_r (nI_1 k) ?_)))
    rw [nI_clamp (n := 3 * i + k) (by omega), nI_clamp (n := 3 * kept + k) (by omega)]
    refine ih (k + 1) _ (by omega) ?_ ?_
    · intro m hm
      rw [pk_un (by omega)]
      exact h1 m (by omega)
    · intro m hm
      by_cases e : m = k
      · subst e; rw [pk_us]; exact h1 _ (by omega)
      · rw [pk_un (by omega)]; exact h2 m (by omega)
theorem rx_df4 {n : Nat} (hn : n ≤ 40) (t : Int32) {post : SX → Prop} (fr ft : Nat → Int32)
    (K : ∀ m fr' ft', m ≤ n → rm_F m fr' ft' = (rm_F n fr ft).filter (rm_nh t) → post (f_used, f_count, f_lastTag, f_ruleCount, f_draftSize, nI m, f_bestRule, f_rowSize, f_bestSize, f_total, f_openTotal, a_tags, a_types, a_fields, a_ofType, a_ofValue, a_sizes, a_patterns, a_negative, a_actions, fr', ft', a_bound, a_candidates, a_chosen, a_row, a_bestRow, a_bestBound, a_falling, a_bestFalling)) :
    ∀ d kept i fr' ft', i + d = n → rm_CI (rm_nh t) fr ft kept i fr' ft' →
      wX_dropFired_4 post t f_used f_count f_lastTag f_ruleCount f_draftSize (nI n) f_bestRule f_rowSize f_bestSize f_total f_openTotal (d + 1) (nI kept) (nI i) a_tags a_types a_fields a_ofType a_ofValue a_sizes a_patterns a_negative a_actions fr' ft' a_bound a_candidates a_chosen a_row a_bestRow a_bestBound a_falling a_bestFalling := by
  intro d
  induction d with
  | zero =>
    intro kept i fr' ft' hi hI
    have e : i = n := by omega
    subst e
    exact pk_le i i (fun _ => K kept fr' ft' hI.1 hI.2.1) (fun h => absurd h (by omega))
  | succ d ih =>
    intro kept i fr' ft' hi hI
    have hki := hI.1
    have e0 : ft' (3 * i) = ft (3 * i) := hI.2.2.2 _ (by omega)
    have e1 : ft' (3 * i + 1) = ft (3 * i + 1) := hI.2.2.2 _ (by omega)
    have e2 : ft' (3 * i + 2) = ft (3 * i + 2) := hI.2.2.2 _ (by omega)
    have skip : rm_nh t (fr i, ft (3 * i), ft (3 * i + 1), ft (3 * i + 2)) = false → wX_dropFired_57 post (wX_dropFired_4 post t f_used f_count f_lastTag f_ruleCount f_draftSize (nI n) f_bestRule f_rowSize f_bestSize f_total f_openTotal (d + 1)) t (nI kept) (nI i) 1 f_used f_count f_lastTag f_ruleCount f_draftSize (nI n) f_bestRule f_rowSize f_bestSize f_total f_openTotal a_tags a_types a_fields a_ofType a_ofValue a_sizes a_patterns a_negative a_actions fr' ft' a_bound a_candidates a_chosen a_row a_bestRow a_bestBound a_falling a_bestFalling := fun hp =>
      br_f (by decide) (nm_r (nI_1 i) (ih kept (i + 1) fr' ft' (by omega) (rm_CI_skip hI hp)))
    refine pk_le n i (fun h => absurd h (by omega)) (fun _ => ?_)
    rw [rm_n31, rm_n32, rm_n3]
    refine And.intro (vp_in_nI (by omega) (by omega)) ?_
    rw [nI_clamp (n := 3 * i) (by omega), nI_clamp (n := 3 * i + 1) (by omega), nI_clamp (n := 3 * i + 2) (by omega), e0, e1, e2]
    by_cases h0 : ft (3 * i) = t
    · exact br_t h0 (skip (by simp [rm_nh, h0]))
    · refine br_f h0 (And.intro (vp_in_nI (by omega) (by omega)) ?_)
      by_cases h1 : ft (3 * i + 1) = t
      · exact br_t h1 (skip (by simp [rm_nh, h1]))
      · refine br_f h1 (And.intro (vp_in_nI (by omega) (by omega)) ?_)
        by_cases h2 : ft (3 * i + 2) = t
        · exact br_t h2 (skip (by simp [rm_nh, h2]))
        · refine br_f h2 (br_t rfl (And.intro (vp_in_nI (by omega) (by omega)) (And.intro (vp_in_nI (by omega) (by omega)) (nm_e ?_))))
          rw [nI_clamp (n := kept) (by omega), nI_clamp (n := i) (by omega)]
          refine Exists.intro 4 (rx_df79 hki (by omega) t ?_ 3 0 ft' rfl (fun m _ => rfl) (fun m hm => absurd hm (by omega)))
          intro ft2 g1 g2
          exact ih (kept + 1) (i + 1) _ ft2 (by omega) (rm_CI_keep hI (by simp [rm_nh, h0, h1, h2]) rfl g1 g2)
theorem rx_dropFired {n : Nat} (hn : n ≤ 40) (hf : f_firedCount = nI n) (t : Int32) {post : SX → Prop}
    (K : ∀ m fr' ft', m ≤ n → rm_F m fr' ft' = (rm_F n a_firedRule a_firedTags).filter (rm_nh t) → post (f_used, f_count, f_lastTag, f_ruleCount, f_draftSize, nI m, f_bestRule, f_rowSize, f_bestSize, f_total, f_openTotal, a_tags, a_types, a_fields, a_ofType, a_ofValue, a_sizes, a_patterns, a_negative, a_actions, fr', ft', a_bound, a_candidates, a_chosen, a_row, a_bestRow, a_bestBound, a_falling, a_bestFalling)) : wpX_dropFired post (f_used, f_count, f_lastTag, f_ruleCount, f_draftSize, f_firedCount, f_bestRule, f_rowSize, f_bestSize, f_total, f_openTotal, a_tags, a_types, a_fields, a_ofType, a_ofValue, a_sizes, a_patterns, a_negative, a_actions, a_firedRule, a_firedTags, a_bound, a_candidates, a_chosen, a_row, a_bestRow, a_bestBound, a_falling, a_bestFalling) t := by
  subst hf
  exact Exists.intro (n + 1) (rx_df4 hn t a_firedRule a_firedTags K n 0 0 a_firedRule a_firedTags (by omega) (rm_CI_0 _ _ _))
/-! leave -/
theorem rx_leave44 {cell : Nat → Option rm_El} {c : Nat} {x : rm_El} (hc : c < 12) (hx : cell c = some x) (hf : ∀ k, k < 3 → a_fields (3 * c + k) = nI (rm_fd x.2.2 k)) {n : Nat} (hn : n ≤ 40) (hfc : f_firedCount = nI n) {post : SX → Prop}
    (K : ∀ ofV' m fr' ft', rx_VI cell (rm_cu cell c none) 3 ofV' → m ≤ n → rm_F m fr' ft' = (rm_F n a_firedRule a_firedTags).filter (rm_nh (a_tags c)) → post (f_used, f_count - 1, f_lastTag, f_ruleCount, f_draftSize, nI m, f_bestRule, f_rowSize, f_bestSize, f_total, f_openTotal, a_tags, a_types, a_fields, a_ofType, ofV', a_sizes, a_patterns, a_negative, a_actions, fr', ft', a_bound, a_candidates, a_chosen, a_row, a_bestRow, a_bestBound, a_falling, a_bestFalling)) :
    ∀ d j ofV', j + d = 3 → rx_VI cell (rm_cu cell c none) j ofV' →
      wX_leave_44 post (nI c) ((1 : Int32) <<< (nI c &&& 31)) f_used f_count f_lastTag f_ruleCount f_draftSize f_firedCount f_bestRule f_rowSize f_bestSize f_total f_openTotal (d + 1) (nI j) a_tags a_types a_fields a_ofType ofV' a_sizes a_patterns a_negative a_actions a_firedRule a_firedTags a_bound a_candidates a_chosen a_row a_bestRow a_bestBound a_falling a_bestFalling := by
  intro d
  induction d with
  | zero =>
    intro j ofV' hj hv
    have hj : j = 3 := by omega
    subst hj
    refine pk_le 3 3 (fun _ => nm_e (And.intro (vp_in_nI hc (by omega)) ?_)) (fun h => absurd h (by omega))
    rw [nI_clamp (n := c) (by omega)]
    exact rx_dropFired hn hfc (a_tags c) (fun m fr' ft' hm hF => K ofV' m fr' ft' hv hm hF)
  | succ d ih =>
    intro j ofV' hj hv
    have hfd := rm_fd_lt x.2.2 j
    refine pk_le 3 j (fun h => absurd h (by omega)) (fun _ => ?_)
    rw [rm_n3k]
    refine And.intro (vp_in_nI (by omega) (by omega)) ?_
    rw [nI_clamp (n := 3 * c + j) (by omega), hf j (by omega), rm_n16]
    refine nm_e (And.intro (vp_in_nI (by omega) (by omega)) (And.intro (vp_in_nI (by omega) (by omega)) (nm_e (nm_r (nI_1 j) ?_))))
    rw [nI_clamp (n := 16 * j + rm_fd x.2.2 j) (by omega)]
    refine ih (j + 1) _ (by omega) ?_
    intro k hk v hv' i hi
    have old := hv k hk v hv' i hi
    by_cases e : k = j
    · subst e
      rw [if_neg (by omega)] at old
      rw [if_pos (by omega)]
      by_cases e2 : v = rm_fd x.2.2 k
      · subst e2
        rw [pk_us, rm_clr _ (by omega) hi, old]
        by_cases e3 : i = c
        · subst e3
          rw [rm_cu_s]
          simp [rm_q]
        · rw [rm_cu_n e3, decide_eq_false e3]; simp
      · rw [pk_un (by omega), old]
        by_cases e3 : i = c
        · subst e3
          rw [rm_cu_s, hx]
          show decide (rm_fd x.2.2 k = v) = false
          rw [decide_eq_false (fun z => e2 z.symm)]
        · rw [rm_cu_n e3]
    · rw [pk_un (by omega), old]
      by_cases e4 : k < j
      · rw [if_pos e4, if_pos (by omega)]
      · rw [if_neg e4, if_neg (by omega)]
theorem rx_XE_del {cell : Nat → Option rm_El} (hE : rx_XE cell f_used a_tags a_types a_fields a_ofType a_ofValue) {c : Nat} {x : rm_El} (hx : cell c = some x) {ofV' : Nat → Int32} (h3 : rx_VI cell (rm_cu cell c none) 3 ofV') :
    rx_XE (rm_cu cell c none) (f_used &&& (((1 : Int32) <<< (nI c &&& 31)) ^^^ (-1))) a_tags a_types a_fields (upd a_ofType x.2.1 ((a_ofType x.2.1) &&& (((1 : Int32) <<< (nI c &&& 31)) ^^^ (-1)))) ofV' := by
  have hc := (hE.1 c x hx).1
  refine ⟨?_, ?_, ?_, ?_⟩
  · intro i y hy
    by_cases e : i = c
    · subst e; rw [rm_cu_s] at hy; exact absurd hy (by simp)
    · rw [rm_cu_n e] at hy; exact hE.1 i y hy
  · intro i hi
    rw [rm_clr _ (by omega) hi, hE.2.1 i hi]
    by_cases e : i = c
    · subst e; rw [rm_cu_s]; simp
    · rw [rm_cu_n e, decide_eq_false e]; simp
  · intro y hy i hi
    have old := hE.2.2.1 y hy i hi
    by_cases e2 : y = x.2.1
    · subst e2
      rw [pk_us, rm_clr _ (by omega) hi, old]
      by_cases e : i = c
      · subst e; rw [rm_cu_s]; simp [rm_q]
      · rw [rm_cu_n e, decide_eq_false e]; simp
    · rw [pk_un e2, old]
      by_cases e : i = c
      · subst e
        rw [rm_cu_s, hx]
        show decide (x.2.1 = y) = false
        rw [decide_eq_false (fun z => e2 z.symm)]
      · rw [rm_cu_n e]
  · intro k hk v hv i hi
    have := h3 k hk v hv i hi
    rw [if_pos hk] at this
    exact this
theorem rx_leave {cell : Nat → Option rm_El} (hE : rx_XE cell f_used a_tags a_types a_fields a_ofType a_ofValue) {c : Nat} {x : rm_El} (hx : cell c = some x) {n : Nat} (hn : n ≤ 40) (hf : f_firedCount = nI n) {post : SX → Prop}
    (K : ∀ (f_used' : Int32) (a_tags' a_types' a_fields' a_ofType' a_ofValue' : Nat → Int32) m fr' ft', rx_XE (rm_cu cell c none) f_used' a_tags' a_types' a_fields' a_ofType' a_ofValue' → m ≤ n → rm_F m fr' ft' = (rm_F n a_firedRule a_firedTags).filter (rm_nh x.1) → post (f_used', f_count - 1, f_lastTag, f_ruleCount, f_draftSize, nI m, f_bestRule, f_rowSize, f_bestSize, f_total, f_openTotal, a_tags', a_types', a_fields', a_ofType', a_ofValue', a_sizes, a_patterns, a_negative, a_actions, fr', ft', a_bound, a_candidates, a_chosen, a_row, a_bestRow, a_bestBound, a_falling, a_bestFalling)) :
    wpX_leave post (f_used, f_count, f_lastTag, f_ruleCount, f_draftSize, f_firedCount, f_bestRule, f_rowSize, f_bestSize, f_total, f_openTotal, a_tags, a_types, a_fields, a_ofType, a_ofValue, a_sizes, a_patterns, a_negative, a_actions, a_firedRule, a_firedTags, a_bound, a_candidates, a_chosen, a_row, a_bestRow, a_bestBound, a_falling, a_bestFalling) (nI c) := by
  obtain ⟨hc, h2, h3, h4, h5, h6, h7⟩ := hE.1 c x hx
  refine nm_e (nm_e (And.intro (vp_in_nI hc (by omega)) (And.intro (vp_in_nI hc (by omega)) ?_)))
  rw [nI_clamp (n := c) (by omega), h4, nI_clamp (n := x.2.1) (by omega)]
  refine And.intro (vp_in_nI h5 (by omega)) (And.intro (vp_in_nI h5 (by omega)) (nm_e ?_))
  refine Exists.intro 4 (rx_leave44 hc hx h7 hn hf ?_ 3 0 a_ofValue rfl ?_)
  · intro ofV' m fr' ft' hv hm hF
    rw [h2] at hF
    exact K _ _ _ _ _ _ m fr' ft' (rx_XE_del hE hx hv) hm hF
  · intro k hk v hv i hi
    rw [if_neg (by omega)]
    exact hE.2.2.2 k hk v hv i hi
end
end
section
/-! ===== the component: candidates ===== -/
theorem rm_a1_lo {q x k j : Nat} (h : rm_en q k ≤ 16) : rm_a1 q x k j = true := by
  unfold rm_a1
  exact decide_eq_true (fun z => absurd z (by omega))
theorem rm_a1_ne {q x k j : Nat} (h : rm_en q k ≠ rm_en q j) : rm_a1 q x k j = true := by
  unfold rm_a1
  exact decide_eq_true (fun _ z => absurd z h)
theorem rm_a1_t {q x k j : Nat} (h : rm_fd x k = rm_fd x j) : rm_a1 q x k j = true := by
  unfold rm_a1
  exact decide_eq_true (fun _ _ => h)
theorem rm_a1_f {q x k j : Nat} (h1 : 16 < rm_en q k) (h2 : rm_en q k = rm_en q j) (h : rm_fd x k ≠ rm_fd x j) : rm_a1 q x k j = false := by
  unfold rm_a1
  exact decide_eq_false (fun z => h (z h1 h2))
def rm_fk (q x : Nat) (b : rm_As) : Nat → Bool
  | 0 => true
  | j + 1 => rm_fk q x b j && rm_f1 q x b j
theorem rm_fk3 (q x : Nat) (b : rm_As) : rm_fk q x b 3 = rm_f3 q x b := by
  unfold rm_f3
  show (((true && rm_f1 q x b 0) && rm_f1 q x b 1) && rm_f1 q x b 2) = _
  rw [Bool.true_and]
def rm_sk (q x : Nat) (b : rm_As) : Nat → rm_As
  | 0 => b
  | j + 1 => rm_s1 q x (rm_sk q x b j) j
theorem rm_sk3 (q x : Nat) (b : rm_As) : rm_sk q x b 3 = rm_ex q x b := rfl
theorem rm_q_and (o : Option rm_El) (f g : rm_El → Bool) : (rm_q o f && rm_q o g) = rm_q o (fun x => f x && g x) := by
  cases o <;> rfl
theorem rm_q_c {o : Option rm_El} {f g : rm_El → Bool} (h : ∀ x, o = some x → f x = g x) : rm_q o f = rm_q o g := by
  cases o with
  | none => rfl
  | some x => exact h x rfl
def rx_CW (cell : Nat → Option rm_El) (q : Nat) (b : rm_As) (j : Nat) (w : Int32) : Prop := ∀ i, i < 32 → bt w i = rm_q (cell i) (fun x => decide (x.2.1 = q / 8000) && rm_fk q x.2.2 b j)
def rx_CA (cell : Nat → Option rm_El) (q : Nat) (b : rm_As) (j : Nat) (w : Int32) : Prop := ∀ i, i < 32 → bt w i = rm_q (cell i) (fun x => (decide (x.2.1 = q / 8000) && rm_fk q x.2.2 b 3) && (decide (j ≤ i) || rm_ag q x.2.2))
def rx_WD (cell : Nat → Option rm_El) (q : Nat) (b : rm_As) (ng : Bool) (w : Int32) : Prop := match ng with
  | true => w = if (rm_ce cell).any (rm_ft q b) = true then 0 else 32768
  | false => ∀ i, i < 32 → bt w i = rm_q (cell i) (rm_ft q b)
def rx_RU (cs : List rm_Cd) (r : Nat) (a_sizes a_patterns a_negative : Nat → Int32) : Prop :=
  r < 5 ∧ a_sizes r = nI cs.length ∧ cs.length ≤ 3 ∧ ∀ k q n, cs[k]? = some (q, n) → a_patterns (3 * r + k) = nI q ∧ q < 32000 ∧ a_negative (3 * r + k) = rm_b n
def rx_BD (b : rm_As) (base : Nat) (a_bound : Nat → Int32) : Prop := ∀ v, v < 3 → a_bound (base + v) = rm_enc (b v)
section
variable {f_used f_count f_lastTag f_ruleCount f_draftSize f_firedCount f_bestRule f_rowSize f_bestSize f_total f_openTotal : Int32} {a_tags a_types a_fields a_ofType a_ofValue a_sizes a_patterns a_negative a_actions a_firedRule a_firedTags a_bound a_candidates a_chosen a_row a_bestRow a_bestBound a_falling a_bestFalling : Nat → Int32}
theorem rx_ag142 {post : Int32 → Prop} {p1 p2 p3 : Bool} (h : post (rm_b (p1 && p2 && p3))) : wX_agrees_142 post (rm_b p1) (rm_b p2) (rm_b p3) f_used f_count f_lastTag f_ruleCount f_draftSize f_firedCount f_bestRule f_rowSize f_bestSize f_total f_openTotal a_tags a_types a_fields a_ofType a_ofValue a_sizes a_patterns a_negative a_actions a_firedRule a_firedTags a_bound a_candidates a_chosen a_row a_bestRow a_bestBound a_falling a_bestFalling := by
  refine rm_b_0 (fun e => ?_) (fun e => rm_b_0 (fun e2 => ?_) (fun e2 => rm_b_0 (fun e3 => ?_) (fun e3 => ?_)))
  · subst e; simpa [rm_b] using h
  · subst e e2; simpa [rm_b] using h
  · subst e e2 e3; simpa [rm_b] using h
  · subst e e2 e3; simpa [rm_b] using h
theorem rx_ag98 {q c : Nat} {x : rm_El} (hc : c < 12) (hf : ∀ k, k < 3 → a_fields (3 * c + k) = nI (rm_fd x.2.2 k)) {post : Int32 → Prop} {p1 p2 : Bool} (h : post (rm_b (p1 && p2 && rm_a1 q x.2.2 1 2))) :
    wX_agrees_98 post (nI c) (nI (rm_en q 1)) (nI (rm_en q 2)) (rm_b p1) (rm_b p2) f_used f_count f_lastTag f_ruleCount f_draftSize f_firedCount f_bestRule f_rowSize f_bestSize f_total f_openTotal a_tags a_types a_fields a_ofType a_ofValue a_sizes a_patterns a_negative a_actions a_firedRule a_firedTags a_bound a_candidates a_chosen a_row a_bestRow a_bestBound a_falling a_bestFalling := by
  have l1 := rm_en_lt q 1
  have l2 := rm_en_lt q 2
  have f1 := rm_fd_lt x.2.2 1
  have f2 := rm_fd_lt x.2.2 2
  refine pk_le (rm_en q 1) 16 (fun z => ?_) (fun z => pk_eq (rm_en q 1) (rm_en q 2) (fun e => ?_) (fun e => ?_))
  · rw [rm_a1_lo z] at h
    exact rx_ag142 (p3 := true) h
  · rw [rm_n31, rm_n32]
    refine And.intro (vp_in_nI (by omega) (by omega)) (And.intro (vp_in_nI (by omega) (by omega)) ?_)
    rw [nI_clamp (n := 3 * c + 1) (by omega), nI_clamp (n := 3 * c + 2) (by omega), hf 1 (by omega), hf 2 (by omega)]
    refine pk_eq (rm_fd x.2.2 1) (rm_fd x.2.2 2) (fun g => ?_) (fun g => ?_)
    · rw [rm_a1_t g] at h
      exact rx_ag142 (p3 := true) h
    · rw [rm_a1_f (by omega) e g] at h
      exact rx_ag142 (p3 := false) h
  · rw [rm_a1_ne e] at h
    exact rx_ag142 (p3 := true) h
theorem rx_ag58 {q c : Nat} {x : rm_El} (hc : c < 12) (hf : ∀ k, k < 3 → a_fields (3 * c + k) = nI (rm_fd x.2.2 k)) {post : Int32 → Prop} {p1 : Bool} (h : post (rm_b (p1 && rm_a1 q x.2.2 0 2 && rm_a1 q x.2.2 1 2))) :
    wX_agrees_58 post (nI c) (nI (rm_en q 0)) (nI (rm_en q 1)) (nI (rm_en q 2)) (rm_b p1) f_used f_count f_lastTag f_ruleCount f_draftSize f_firedCount f_bestRule f_rowSize f_bestSize f_total f_openTotal a_tags a_types a_fields a_ofType a_ofValue a_sizes a_patterns a_negative a_actions a_firedRule a_firedTags a_bound a_candidates a_chosen a_row a_bestRow a_bestBound a_falling a_bestFalling := by
  have l1 := rm_en_lt q 0
  have l2 := rm_en_lt q 2
  have f1 := rm_fd_lt x.2.2 0
  have f2 := rm_fd_lt x.2.2 2
  refine pk_le (rm_en q 0) 16 (fun z => ?_) (fun z => pk_eq (rm_en q 0) (rm_en q 2) (fun e => ?_) (fun e => ?_))
  · rw [rm_a1_lo (k := 0) z] at h
    exact rx_ag98 hc hf (p2 := true) h
  · rw [rm_n32, rm_n3]
    refine And.intro (vp_in_nI (by omega) (by omega)) (And.intro (vp_in_nI (by omega) (by omega)) ?_)
    rw [nI_clamp (n := 3 * c) (by omega), nI_clamp (n := 3 * c + 2) (by omega), show a_fields (3 * c) = nI (rm_fd x.2.2 0) from hf 0 (by omega), hf 2 (by omega)]
    refine pk_eq (rm_fd x.2.2 0) (rm_fd x.2.2 2) (fun g => ?_) (fun g => ?_)
    · rw [rm_a1_t (k := 0) g] at h
      exact rx_ag98 hc hf (p2 := true) h
    · rw [rm_a1_f (k := 0) (by omega) e g] at h
      exact rx_ag98 hc hf (p2 := false) h
  · rw [rm_a1_ne (k := 0) e] at h
    exact rx_ag98 hc hf (p2 := true) h
theorem rx_agrees {q c : Nat} {x : rm_El} (hq : q < 32000) (hc : c < 12) (hf : ∀ k, k < 3 → a_fields (3 * c + k) = nI (rm_fd x.2.2 k)) {post : Int32 → Prop} (h : post (rm_b (rm_ag q x.2.2))) :
    wpX_agrees post (f_used, f_count, f_lastTag, f_ruleCount, f_draftSize, f_firedCount, f_bestRule, f_rowSize, f_bestSize, f_total, f_openTotal, a_tags, a_types, a_fields, a_ofType, a_ofValue, a_sizes, a_patterns, a_negative, a_actions, a_firedRule, a_firedTags, a_bound, a_candidates, a_chosen, a_row, a_bestRow, a_bestBound, a_falling, a_bestFalling) (nI q) (nI c) := by
  have l1 := rm_en_lt q 0
  have l2 := rm_en_lt q 1
  have f1 := rm_fd_lt x.2.2 0
  have f2 := rm_fd_lt x.2.2 1
  unfold rm_ag at h
  unfold wpX_agrees
  refine rm_wpe (q := q) (k := 0) (by omega) (by omega) ?_
  refine rm_wpe (q := q) (k := 1) (by omega) (by omega) ?_
  refine rm_wpe (q := q) (k := 2) (by omega) (by omega) ?_
  refine pk_le (rm_en q 0) 16 (fun z => ?_) (fun z => pk_eq (rm_en q 0) (rm_en q 1) (fun e => ?_) (fun e => ?_))
  · rw [rm_a1_lo (k := 0) (j := 1) z] at h
    exact rx_ag58 hc hf (p1 := true) h
  · rw [rm_n31, rm_n3]
    refine And.intro (vp_in_nI (by omega) (by omega)) (And.intro (vp_in_nI (by omega) (by omega)) ?_)
    rw [nI_clamp (n := 3 * c) (by omega), nI_clamp (n := 3 * c + 1) (by omega), show a_fields (3 * c) = nI (rm_fd x.2.2 0) from hf 0 (by omega), hf 1 (by omega)]
    refine pk_eq (rm_fd x.2.2 0) (rm_fd x.2.2 1) (fun g => ?_) (fun g => ?_)
    · rw [rm_a1_t (k := 0) (j := 1) g] at h
      exact rx_ag58 hc hf (p1 := true) h
    · rw [rm_a1_f (k := 0) (j := 1) (by omega) e g] at h
      exact rx_ag58 hc hf (p1 := false) h
  · rw [rm_a1_ne (k := 0) (j := 1) e] at h
    exact rx_ag58 hc hf (p1 := true) h
theorem rx_cf112 {cell : Nat → Option rm_El} (hE : rx_XE cell f_used a_tags a_types a_fields a_ofType a_ofValue) {q : Nat} (hq : q < 32000) {b : rm_As} {post : Int32 → Prop} (K : ∀ w, (∀ i, i < 32 → bt w i = rm_q (cell i) (rm_ft q b)) → post w) :
    ∀ d j w, j + d = 12 → rx_CA cell q b j w → wX_candidatesFor_112 post (nI q) f_used f_count f_lastTag f_ruleCount f_draftSize f_firedCount f_bestRule f_rowSize f_bestSize f_total f_openTotal a_tags a_types a_fields a_ofType a_ofValue a_sizes a_patterns a_negative a_actions a_firedRule a_firedTags a_bound a_candidates a_chosen a_row a_bestRow a_bestBound a_falling a_bestFalling (d + 1) w (nI j) := by
  intro d
  induction d with
  | zero =>
    intro j w hj hw
    have e : j = 12 := by omega
    subst e
    refine pk_le 12 12 (fun _ => K w (fun i hi => ?_)) (fun h => absurd h (by omega))
    rw [hw i hi]
    apply rm_q_c
    intro x hx
    have := (hE.1 i x hx).1
    unfold rm_ft
    rw [decide_eq_false (p := 12 ≤ i) (by omega), Bool.false_or, rm_fk3]
  | succ d ih =>
    intro j w hj hw
    refine pk_le 12 j (fun h => absurd h (by omega)) (fun _ => ?_)
    have hwj := hw j (by omega)
    have go : ∀ w', (bt w' j = rm_q (cell j) (fun x => (decide (x.2.1 = q / 8000) && rm_fk q x.2.2 b 3) && rm_ag q x.2.2)) → (∀ i, i < 32 → i ≠ j → bt w' i = bt w i) → rx_CA cell q b (j + 1) w' := by
      intro w' h1 h2 i hi
      by_cases e : i = j
      · subst e
        rw [h1]
        apply rm_q_c
        intro x _
        rw [decide_eq_false (p := i + 1 ≤ i) (by omega), Bool.false_or]
      · rw [h2 i hi e, hw i hi]
        apply rm_q_c
        intro x _
        have e2 : decide (j ≤ i) = decide (j + 1 ≤ i) := by rw [decide_eq_decide]; omega
        rw [e2]
    cases hb : bt w j with
    | false =>
      refine br_f (rm_bit_f (by omega) hb) (nm_r (nI_1 j) (ih (j + 1) w (by omega) (go w ?_ (fun _ _ _ => rfl))))
      rw [hwj]
      rw [hb] at hwj
      cases hc : cell j with
      | none => rfl
      | some x =>
        rw [hc] at hwj
        have hwj : false = ((decide (x.2.1 = q / 8000) && rm_fk q x.2.2 b 3) && (decide (j ≤ j) || rm_ag q x.2.2)) := hwj
        rw [decide_eq_true (p := j ≤ j) (by omega), Bool.true_or, Bool.and_true] at hwj
        show ((decide (x.2.1 = q / 8000) && rm_fk q x.2.2 b 3) && (decide (j ≤ j) || rm_ag q x.2.2)) = ((decide (x.2.1 = q / 8000) && rm_fk q x.2.2 b 3) && rm_ag q x.2.2)
        rw [← hwj, Bool.false_and, Bool.false_and]
    | true =>
      refine br_t (rm_bit_t (by omega) hb) ?_
      rw [hb] at hwj
      cases hc : cell j with
      | none => rw [hc] at hwj; exact absurd hwj (by simp [rm_q])
      | some x =>
        rw [hc] at hwj
        have hwj : true = ((decide (x.2.1 = q / 8000) && rm_fk q x.2.2 b 3) && (decide (j ≤ j) || rm_ag q x.2.2)) := hwj
        rw [decide_eq_true (p := j ≤ j) (by omega), Bool.true_or, Bool.and_true] at hwj
        have hx := hE.1 j x hc
        refine rx_agrees hq hx.1 hx.2.2.2.2.2.2 (rm_b_0 (fun g => ?_) (fun g => ?_))
        · refine nm_e (nm_r (nI_1 j) (ih (j + 1) _ (by omega) (go _ ?_ (fun i hi hij => ?_))))
          · rw [rm_clr _ (by omega) (by omega), hb, hc]
            show (true && !decide (j = j)) = ((decide (x.2.1 = q / 8000) && rm_fk q x.2.2 b 3) && rm_ag q x.2.2)
            rw [g, decide_eq_true rfl, Bool.and_false]; rfl
          · rw [rm_clr _ (by omega) hi, decide_eq_false hij]; simp
        · refine nm_r (nI_1 j) (ih (j + 1) w (by omega) (go w ?_ (fun _ _ _ => rfl)))
          rw [hb, hc]
          show true = ((decide (x.2.1 = q / 8000) && rm_fk q x.2.2 b 3) && rm_ag q x.2.2)
          rw [g, ← hwj]; rfl
theorem rx_cf14 {cell : Nat → Option rm_El} (hE : rx_XE cell f_used a_tags a_types a_fields a_ofType a_ofValue) {q base : Nat} (hq : q < 32000) (hbase : base ≤ 12) {b : rm_As} (hok : rm_okb b) (hB : rx_BD b base a_bound) {post : Int32 → Prop} (K : ∀ w, (∀ i, i < 32 → bt w i = rm_q (cell i) (rm_ft q b)) → post w) :
    ∀ d j w, j + d = 3 → rx_CW cell q b j w → wX_candidatesFor_14 post (nI q) (nI base) f_used f_count f_lastTag f_ruleCount f_draftSize f_firedCount f_bestRule f_rowSize f_bestSize f_total f_openTotal a_tags a_types a_fields a_ofType a_ofValue a_sizes a_patterns a_negative a_actions a_firedRule a_firedTags a_bound a_candidates a_chosen a_row a_bestRow a_bestBound a_falling a_bestFalling (d + 1) w (nI j) := by
  intro d
  induction d with
  | zero =>
    intro j w hj hw
    have e : j = 3 := by omega
    subst e
    refine pk_le 3 3 (fun _ => Exists.intro 13 (rx_cf112 hE hq K 12 0 w rfl ?_)) (fun h => absurd h (by omega))
    intro i hi
    rw [hw i hi]
    apply rm_q_c
    intro x _
    rw [decide_eq_true (p := 0 ≤ i) (by omega), Bool.true_or, Bool.and_true]
  | succ d ih =>
    intro j w hj hw
    have l := rm_en_lt q j
    have same : (∀ x, rm_f1 q x b j = true) → rx_CW cell q b (j + 1) w := by
      intro h i hi
      rw [hw i hi]
      apply rm_q_c
      intro x _
      show _ = (decide (x.2.1 = q / 8000) && (rm_fk q x.2.2 b j && rm_f1 q x.2.2 b j))
      rw [h, Bool.and_true]
    have less : ∀ v, v < 16 → (∀ x, rm_f1 q x b j = decide (rm_fd x j = v)) → rx_CW cell q b (j + 1) (w &&& a_ofValue (16 * j + v)) := by
      intro v hv h i hi
      rw [b_and, hw i hi, hE.2.2.2 j (by omega) v hv i hi, rm_q_and]
      apply rm_q_c
      intro x _
      show _ = (decide (x.2.1 = q / 8000) && (rm_fk q x.2.2 b j && rm_f1 q x.2.2 b j))
      rw [h, Bool.and_assoc]
    refine pk_le 3 j (fun h => absurd h (by omega)) (fun _ => rm_wpe (k := j) (by omega) (by omega) ?_)
    refine pk_le 16 (rm_en q j) (fun h16 => pk_le (rm_en q j) 16 (fun h => ?_) (fun h => ?_)) (fun h => ?_)
    · exact nm_r (nI_1 j) (ih (j + 1) w (by omega) (same (fun x => rm_f1_16 (by omega))))
    · have e1 : nI base + nI (rm_en q j) - 17 = nI (base + (rm_en q j - 17)) := by
        rw [nI_add]
        refine (pk_sub (b := 17) (by omega)).trans (congrArg nI ?_)
        omega
      rw [e1]
      refine And.intro (vp_in_nI (by omega) (by omega)) ?_
      rw [nI_clamp (n := base + (rm_en q j - 17)) (by omega), hB _ (by omega)]
      cases hbv : b (rm_en q j - 17) with
      | none => exact br_t rfl (nm_r (nI_1 j) (ih (j + 1) w (by omega) (same (fun x => rm_f1_n (by omega) hbv))))
      | some y =>
        have hy := hok _ _ hbv
        refine br_f ?_ (And.intro (vp_in_nI (by omega) (by omega)) ?_)
        · intro z
          have := (rm_encm1 (o := some y) (fun y' h' => by cases h'; exact hy)).mp z
          exact absurd this (by simp)
        · show vp_in (16 * nI j + nI y) 48 ∧ _
          rw [show rm_enc (some y) = nI y from rfl, rm_n16]
          refine And.intro (vp_in_nI (by omega) (by omega)) (nm_e (nm_r (nI_1 j) ?_))
          rw [nI_clamp (n := 16 * j + y) (by omega)]
          exact ih (j + 1) _ (by omega) (less y hy (fun x => rm_f1_s (by omega) hbv))
    · rw [rm_n16]
      refine And.intro (vp_in_nI (by omega) (by omega)) (nm_e (nm_r (nI_1 j) ?_))
      rw [nI_clamp (n := 16 * j + rm_en q j) (by omega)]
      exact ih (j + 1) _ (by omega) (less _ h (fun x => rm_f1_lo h))
theorem rx_candidatesFor {cell : Nat → Option rm_El} (hE : rx_XE cell f_used a_tags a_types a_fields a_ofType a_ofValue) {q base : Nat} (hq : q < 32000) (hbase : base ≤ 12) {b : rm_As} (hok : rm_okb b) (hB : rx_BD b base a_bound) {post : Int32 → Prop} (K : ∀ w, (∀ i, i < 32 → bt w i = rm_q (cell i) (rm_ft q b)) → post w) :
    wpX_candidatesFor post (f_used, f_count, f_lastTag, f_ruleCount, f_draftSize, f_firedCount, f_bestRule, f_rowSize, f_bestSize, f_total, f_openTotal, a_tags, a_types, a_fields, a_ofType, a_ofValue, a_sizes, a_patterns, a_negative, a_actions, a_firedRule, a_firedTags, a_bound, a_candidates, a_chosen, a_row, a_bestRow, a_bestBound, a_falling, a_bestFalling) (nI q) (nI base) := by
  refine And.intro (by decide) ?_
  rw [rm_d8 (by omega)]
  refine And.intro (vp_in_nI (by omega) (by omega)) (nm_e (Exists.intro 4 ?_))
  rw [nI_clamp (n := q / 8000) (by omega)]
  refine rx_cf14 hE hq hbase hok hB K 3 0 _ rfl ?_
  intro i hi
  rw [hE.2.2.1 _ (by omega) i hi]
  apply rm_q_c
  intro x _
  exact (Bool.and_true _).symm
theorem rx_openDepth {cell : Nat → Option rm_El} (hE : rx_XE cell f_used a_tags a_types a_fields a_ofType a_ofValue) {cs : List rm_Cd} {r d : Nat} (hR : rx_RU cs r a_sizes a_patterns a_negative) (hd : d ≤ cs.length) {b : rm_As} (hok : rm_okb b) (hB : rx_BD b (4 * d) a_bound) {post : SX → Prop}
    (K0 : d = cs.length → post (f_used, f_count, f_lastTag, f_ruleCount, f_draftSize, f_firedCount, f_bestRule, f_rowSize, f_bestSize, f_total, f_openTotal, a_tags, a_types, a_fields, a_ofType, a_ofValue, a_sizes, a_patterns, a_negative, a_actions, a_firedRule, a_firedTags, a_bound, a_candidates, a_chosen, a_row, a_bestRow, a_bestBound, a_falling, a_bestFalling)) (K1 : ∀ q n w, cs[d]? = some (q, n) → rx_WD cell q b n w → post (f_used, f_count, f_lastTag, f_ruleCount, f_draftSize, f_firedCount, f_bestRule, f_rowSize, f_bestSize, f_total, f_openTotal, a_tags, a_types, a_fields, a_ofType, a_ofValue, a_sizes, a_patterns, a_negative, a_actions, a_firedRule, a_firedTags, a_bound, upd a_candidates d w, a_chosen, a_row, a_bestRow, a_bestBound, a_falling, a_bestFalling)) : wpX_openDepth post (f_used, f_count, f_lastTag, f_ruleCount, f_draftSize, f_firedCount, f_bestRule, f_rowSize, f_bestSize, f_total, f_openTotal, a_tags, a_types, a_fields, a_ofType, a_ofValue, a_sizes, a_patterns, a_negative, a_actions, a_firedRule, a_firedTags, a_bound, a_candidates, a_chosen, a_row, a_bestRow, a_bestBound, a_falling, a_bestFalling) (nI r) (nI d) := by
  obtain ⟨h1, h2, h3, h4⟩ := hR
  refine And.intro (vp_in_nI (by omega) (by omega)) ?_
  rw [nI_clamp (n := r) (by omega), h2]
  refine pk_eq d cs.length K0 (fun hne => ?_)
  have hlt : d < cs.length := by omega
  rcases hcs : cs[d] with ⟨q, n⟩
  have hg : cs[d]? = some (q, n) := by rw [List.getElem?_eq_getElem hlt, hcs]
  obtain ⟨g1, g2, g3⟩ := h4 d q n hg
  refine nm_r (rm_n3k r d) (And.intro (vp_in_nI (by omega) (by omega)) ?_)
  rw [nI_clamp (n := 3 * r + d) (by omega), g1, g3, rm_n40]
  refine rx_candidatesFor hE g2 (by omega) hok hB (fun w hw => And.intro (vp_in_nI (by omega) (by omega)) ?_)
  refine rm_b_0 (fun e => ?_) (fun e => ?_)
  · subst e
    refine And.intro (vp_in_nI (by omega) (by omega)) (nm_e ?_)
    rw [nI_clamp (n := d) (by omega)]
    exact K1 q false w hg hw
  · subst e
    by_cases hz : w = 0
    · refine br_t hz (And.intro (vp_in_nI (by omega) (by omega)) (nm_e ?_))
      rw [nI_clamp (n := d) (by omega)]
      refine K1 q true _ hg ?_
      show (32768 : Int32) = if (rm_ce cell).any (rm_ft q b) = true then 0 else 32768
      rw [rm_ce_any _ (fun i hi => by rw [← hw i (by omega), hz, b_0])]
      rfl
    · refine br_f hz (And.intro (vp_in_nI (by omega) (by omega)) (nm_e ?_))
      rw [nI_clamp (n := d) (by omega)]
      refine K1 q true _ hg ?_
      show (0 : Int32) = if (rm_ce cell).any (rm_ft q b) = true then 0 else 32768
      by_cases ha : (rm_ce cell).any (rm_ft q b) = true
      · rw [if_pos ha]
      · exfalso
        apply hz
        apply rm_zero
        intro i hi
        rw [hw i hi]
        cases hq : rm_q (cell i) (rm_ft q b) with
        | false => rfl
        | true =>
          exfalso
          cases hc : cell i with
          | none => rw [hc] at hq; exact absurd hq (by simp [rm_q])
          | some x => exact ha (rm_ce_any1 _ (hE.1 i x hc).1 hq)
/-! choose -/
theorem rx_ch112 {cs : List rm_Cd} {r d c q : Nat} {n : Bool} {x : rm_El} (hR : rx_RU cs r a_sizes a_patterns a_negative) (hg : cs[d]? = some (q, n)) (hd : d < 3) (hc : c < 12) (hf : ∀ k, k < 3 → a_fields (3 * c + k) = nI (rm_fd x.2.2 k)) (b : rm_As) (bd : Nat → Int32) {post : SX → Prop}
    (K : ∀ bd', (∀ m, m < 4 * d + 4 → bd' m = bd m) → rx_BD (rm_ex q x.2.2 b) (4 * d + 4) bd' → post (f_used, f_count, f_lastTag, f_ruleCount, f_draftSize, f_firedCount, f_bestRule, f_rowSize, f_bestSize, f_total, f_openTotal, a_tags, a_types, a_fields, a_ofType, a_ofValue, a_sizes, a_patterns, a_negative, a_actions, a_firedRule, a_firedTags, bd', a_candidates, a_chosen, a_row, a_bestRow, a_bestBound, a_falling, a_bestFalling)) :
    ∀ e k bd', k + e = 3 → (∀ m, m < 4 * d + 4 → bd' m = bd m) → rx_BD (rm_sk q x.2.2 b k) (4 * d + 4) bd' →
      wX_choose_112 post (nI r) (nI d) (nI c) f_used f_count f_lastTag f_ruleCount f_draftSize f_firedCount f_bestRule f_rowSize f_bestSize f_total f_openTotal (e + 1) (nI k) a_tags a_types a_fields a_ofType a_ofValue a_sizes a_patterns a_negative a_actions a_firedRule a_firedTags bd' a_candidates a_chosen a_row a_bestRow a_bestBound a_falling a_bestFalling := by
  obtain ⟨g1, g2, g3⟩ := hR.2.2.2 d q n hg
  have hr := hR.1
  intro e
  induction e with
  | zero =>
    intro k bd' hk h1 h2
    have e : k = 3 := by omega
    subst e
    exact pk_le 3 3 (fun _ => K bd' h1 h2) (fun h => absurd h (by omega))
  | succ e ih =>
    intro k bd' hk h1 h2
    have l := rm_en_lt q k
    refine pk_le 3 k (fun h => absurd h (by omega)) (fun _ => ?_)
    rw [rm_n3k]
    refine And.intro (vp_in_nI (by omega) (by omega)) ?_
    rw [nI_clamp (n := 3 * r + d) (by omega), g1]
    refine rm_wpe (k := k) (by omega) (by omega) ?_
    refine pk_le (rm_en q k) 16 (fun h => nm_r (nI_1 k) (ih (k + 1) bd' (by omega) h1 ?_)) (fun h => ?_)
    · have e2 : rm_sk q x.2.2 b (k + 1) = rm_sk q x.2.2 b k := by
        show rm_s1 q x.2.2 (rm_sk q x.2.2 b k) k = _
        unfold rm_s1
        rw [if_neg (by omega)]
      rw [e2]; exact h2
    · have e1 : 4 * nI d + 4 + nI (rm_en q k) - 17 = nI (4 * d + 4 + (rm_en q k - 17)) := by
        rw [rm_n44]
        refine (pk_sub (b := 17) (by omega)).trans (congrArg nI ?_)
        omega
      rw [rm_n3k, e1]
      refine And.intro (vp_in_nI (by omega) (by omega)) (And.intro (vp_in_nI (by omega) (by omega)) (nm_e (nm_r (nI_1 k) ?_)))
      rw [nI_clamp (n := 3 * c + k) (by omega), nI_clamp (n := 4 * d + 4 + (rm_en q k - 17)) (by omega), hf k (by omega)]
      refine ih (k + 1) _ (by omega) (fun m hm => ?_) (fun v hv => ?_)
      · rw [pk_un (by omega)]; exact h1 m hm
      · have e2 : rm_sk q x.2.2 b (k + 1) = rm_set (rm_sk q x.2.2 b k) (rm_en q k - 17) (rm_fd x.2.2 k) := by
          show rm_s1 q x.2.2 (rm_sk q x.2.2 b k) k = _
          unfold rm_s1
          rw [if_pos h]
        rw [e2]
        unfold rm_set
        by_cases ev : v = rm_en q k - 17
        · rw [if_pos ev, ev, pk_us]; rfl
        · rw [if_neg ev, pk_un (by omega)]; exact h2 v hv
theorem rx_ch66 {d c : Nat} (hd : d < 3) {r : Int32} (hc : c < 16) (bd : Nat → Int32) {post : SX → Prop}
    (K0 : 12 ≤ c → ∀ bd', (∀ m, m < 4 * d + 4 → bd' m = bd m) → (∀ v, v < 4 → bd' (4 * d + 4 + v) = bd (4 * d + v)) → post (f_used, f_count, f_lastTag, f_ruleCount, f_draftSize, f_firedCount, f_bestRule, f_rowSize, f_bestSize, f_total, f_openTotal, a_tags, a_types, a_fields, a_ofType, a_ofValue, a_sizes, a_patterns, a_negative, a_actions, a_firedRule, a_firedTags, bd', a_candidates, a_chosen, a_row, a_bestRow, a_bestBound, a_falling, a_bestFalling))
    (K1 : c < 12 → ∀ bd', (∀ m, m < 4 * d + 4 → bd' m = bd m) → (∀ v, v < 4 → bd' (4 * d + 4 + v) = bd (4 * d + v)) → ∃ n, wX_choose_112 post r (nI d) (nI c) f_used f_count f_lastTag f_ruleCount f_draftSize f_firedCount f_bestRule f_rowSize f_bestSize f_total f_openTotal n 0 a_tags a_types a_fields a_ofType a_ofValue a_sizes a_patterns a_negative a_actions a_firedRule a_firedTags bd' a_candidates a_chosen a_row a_bestRow a_bestBound a_falling a_bestFalling) :
    ∀ e k bd', k + e = 4 → (∀ m, m < 4 * d + 4 → bd' m = bd m) → (∀ v, v < k → bd' (4 * d + 4 + v) = bd (4 * d + v)) →
      wX_choose_66 post r (nI d) (nI c) f_used f_count f_lastTag f_ruleCount f_draftSize f_firedCount f_bestRule f_rowSize f_bestSize f_total f_openTotal (e + 1) (nI k) a_tags a_types a_fields a_ofType a_ofValue a_sizes a_patterns a_negative a_actions a_firedRule a_firedTags bd' a_candidates a_chosen a_row a_bestRow a_bestBound a_falling a_bestFalling := by
  intro e
  induction e with
  | zero =>
    intro k bd' hk h1 h2
    have e : k = 4 := by omega
    subst e
    exact pk_le 4 4 (fun _ => pk_le 12 c (fun h => K0 h bd' h1 h2) (fun h => K1 h bd' h1 h2)) (fun h => absurd h (by omega))
  | succ e ih =>
    intro k bd' hk h1 h2
    refine pk_le 4 k (fun h => absurd h (by omega)) (fun _ => ?_)
    rw [rm_n44, rm_n4]
    refine And.intro (vp_in_nI (by omega) (by omega)) (And.intro (vp_in_nI (by omega) (by omega)) (nm_e (nm_r (nI_1 k) ?_)))
    rw [nI_clamp (n := 4 * d + k) (by omega), nI_clamp (n := 4 * d + 4 + k) (by omega)]
    refine ih (k + 1) _ (by omega) (fun m hm => ?_) (fun v hv => ?_)
    · rw [pk_un (by omega)]; exact h1 m hm
    · by_cases e2 : v = k
      · subst e2; rw [pk_us]; exact h1 _ (by omega)
      · rw [pk_un (by omega)]; exact h2 v (by omega)
theorem rx_ch34 {d c : Nat} (hd : d < 3) {r : Int32} (hc : c < 16) {post : SX → Prop} (K : ∃ n, wX_choose_66 post r (nI d) (nI c) f_used f_count f_lastTag f_ruleCount f_draftSize f_firedCount f_bestRule f_rowSize f_bestSize f_total f_openTotal n 0 a_tags a_types a_fields a_ofType a_ofValue a_sizes a_patterns a_negative a_actions a_firedRule a_firedTags a_bound a_candidates (upd a_chosen d (nI c)) a_row a_bestRow a_bestBound a_falling a_bestFalling) :
    ∀ e j, j + e = c → wX_choose_34 post r (nI d) ((1 : Int32) <<< (nI c &&& 31)) f_used f_count f_lastTag f_ruleCount f_draftSize f_firedCount f_bestRule f_rowSize f_bestSize f_total f_openTotal a_tags a_types a_fields a_ofType a_ofValue a_sizes a_patterns a_negative a_actions a_firedRule a_firedTags a_bound a_candidates a_chosen a_row a_bestRow a_bestBound a_falling a_bestFalling (e + 1) (nI j) := by
  intro e
  induction e with
  | zero =>
    intro j hj
    have e : j = c := by omega
    subst e
    refine pk_le 15 j (fun _ => And.intro (vp_in_nI (by omega) (by omega)) (nm_e ?_)) (fun _ => br_t rfl (And.intro (vp_in_nI (by omega) (by omega)) (nm_e ?_)))
    · rw [nI_clamp (n := d) (by omega)]; exact K
    · rw [nI_clamp (n := d) (by omega)]; exact K
  | succ e ih =>
    intro j hj
    exact pk_le 15 j (fun h => absurd h (by omega)) (fun _ => br_f (fun z => absurd (rm_one_inj (by omega) (by omega) z) (by omega)) (nm_r (nI_1 j) (ih (j + 1) (by omega))))
/-- the next candidate is c: its bit goes, and the assignment b becomes b' -/
theorem rx_choose {cell : Nat → Option rm_El} (hE : rx_XE cell f_used a_tags a_types a_fields a_ofType a_ofValue) {cs : List rm_Cd} {r d c q : Nat} {n : Bool} {w : Int32} (hR : rx_RU cs r a_sizes a_patterns a_negative) (hg : cs[d]? = some (q, n)) {b b' : rm_As} (hB : rx_BD b (4 * d) a_bound)
    (hw : a_candidates d = w) (hb1 : bt w c = true) (hb0 : ∀ j, j < c → bt w j = false) (hcase : (c = 15 ∧ b' = b) ∨ (∃ x, cell c = some x ∧ b' = rm_ex q x.2.2 b)) {post : SX → Prop}
    (K : ∀ bd', (∀ m, m < 4 * d + 4 → bd' m = a_bound m) → rx_BD b' (4 * d + 4) bd' → post (f_used, f_count, f_lastTag, f_ruleCount, f_draftSize, f_firedCount, f_bestRule, f_rowSize, f_bestSize, f_total, f_openTotal, a_tags, a_types, a_fields, a_ofType, a_ofValue, a_sizes, a_patterns, a_negative, a_actions, a_firedRule, a_firedTags, bd', upd a_candidates d (w &&& (((1 : Int32) <<< (nI c &&& 31)) ^^^ (-1))), upd a_chosen d (nI c), a_row, a_bestRow, a_bestBound, a_falling, a_bestFalling)) :
    wpX_choose post (f_used, f_count, f_lastTag, f_ruleCount, f_draftSize, f_firedCount, f_bestRule, f_rowSize, f_bestSize, f_total, f_openTotal, a_tags, a_types, a_fields, a_ofType, a_ofValue, a_sizes, a_patterns, a_negative, a_actions, a_firedRule, a_firedTags, a_bound, a_candidates, a_chosen, a_row, a_bestRow, a_bestBound, a_falling, a_bestFalling) (nI r) (nI d) := by
  have hd : d < 3 := by
    have h1 := hR.2.2.1
    have h2 := (List.getElem?_eq_some_iff.mp hg).1
    omega
  have hc : c < 16 := by
    rcases hcase with ⟨e, _⟩ | ⟨x, hx, _⟩
    · omega
    · have := (hE.1 c x hx).1; omega
  refine And.intro (vp_in_nI (by omega) (by omega)) (And.intro (vp_in_nI (by omega) (by omega)) ?_)
  rw [nI_clamp (n := d) (by omega), hw]
  refine nm_r (rm_low (by omega) hb1 hb0) (And.intro (vp_in_nI (by omega) (by omega)) (And.intro (vp_in_nI (by omega) (by omega)) (nm_e ?_)))
  refine Exists.intro (c + 1) (rx_ch34 hd hc ?_ c 0 (by omega))
  refine Exists.intro 5 (rx_ch66 hd hc a_bound ?_ ?_ 4 0 a_bound rfl (fun _ _ => rfl) (fun v hv => absurd hv (by omega)))
  · intro h12 bd' h1 h2
    rcases hcase with ⟨_, e⟩ | ⟨x, hx, _⟩
    · subst e
      exact K bd' h1 (fun v hv => by rw [h2 v (by omega)]; exact hB v hv)
    · have := (hE.1 c x hx).1; omega
  · intro h12 bd' h1 h2
    rcases hcase with ⟨e, _⟩ | ⟨x, hx, e⟩
    · omega
    · subst e
      have hx' := hE.1 c x hx
      refine Exists.intro 4 (rx_ch112 hR hg hd h12 hx'.2.2.2.2.2.2 b a_bound (fun bd2 k1 k2 => K bd2 k1 k2) 3 0 bd' rfl h1 (fun v hv => ?_))
      rw [h2 v (by omega)]
      exact hB v hv
end
end
section
/-! ===== the component: a match is noted ===== -/
def rm_ls (f g : Nat → Int32) (z : Bool) (k : Nat) : Bool := if k = 0 then rm_lx f g z else if k = 1 then rm_l1 (f 1) (g 1) (rm_l1 (f 2) (g 2) z) else if k = 2 then rm_l1 (f 2) (g 2) z else z
theorem rm_ls_s {f g : Nat → Int32} {z : Bool} {k : Nat} (h : k < 3) : rm_ls f g z k = rm_l1 (f k) (g k) (rm_ls f g z (k + 1)) := by
  have hk : k = 0 ∨ k = 1 ∨ k = 2 := by omega
  rcases hk with rfl | rfl | rfl <;> rfl
theorem rm_ls_eq {f g : Nat → Int32} {z : Bool} : ∀ (d k : Nat), k + d = 3 → (∀ j, k ≤ j → j < 3 → f j = g j) → rm_ls f g z k = z
  | 0, k, hk, _ => by
    have : k = 3 := by omega
    subst this
    rfl
  | d + 1, k, hk, h => by
    rw [rm_ls_s (by omega), h k (by omega) (by omega), rm_l1_ir]
    exact rm_ls_eq d (k + 1) (by omega) (fun j h1 h2 => h j (by omega) h2)
def rm_pos (t : List Int32) : Prop := ∀ x, x ∈ t → 0 < x
theorem rm_pos_g {t : List Int32} (h : rm_pos t) {k : Nat} (hk : k < t.length) : 0 < rm_g t k := by
  rw [rm_g_lt hk]
  exact h _ (List.getElem_mem hk)
theorem rm_lele {a : Int32} (h : 0 < a) : (0 : Int32) ≤ a := Int32.le_of_lt h
theorem rm_s3_1 {a : Int32} (h : 0 < a) : rm_s3 a 0 0 = (a, 0, 0) := by
  rw [rm_s3_in]
  have e1 : rm_mn a 0 = 0 := if_pos (rm_lele h)
  have e2 : rm_mx a 0 = a := if_pos (rm_lele h)
  rw [e1, e2, if_pos (by decide)]
theorem rm_mn_pos {a b : Int32} (h : 0 < a) (h2 : 0 < b) : 0 < rm_mn a b := by
  unfold rm_mn
  split
  · exact h2
  · exact h
theorem rm_mx_pos {a b : Int32} (h : 0 < a) (h2 : 0 < b) : 0 < rm_mx a b := by
  unfold rm_mx
  split
  · exact h
  · exact h2
theorem rm_s3_2 {a b : Int32} (h : 0 < a) (h2 : 0 < b) : rm_s3 a b 0 = (rm_mx a b, rm_mn a b, 0) := by
  rw [rm_s3_in, if_pos (rm_lele (rm_mn_pos h h2))]
theorem rm_s3_pos {a b c : Int32} (h : 0 < a) (h2 : 0 < b) (h3 : 0 < c) : 0 < (rm_s3 a b c).1 ∧ 0 < (rm_s3 a b c).2.1 ∧ 0 < (rm_s3 a b c).2.2 := by
  have g1 := rm_mn_pos h h2
  have g2 := rm_mx_pos h h2
  rw [rm_s3_in]
  split
  · exact ⟨g2, g1, h3⟩
  · split
    · exact ⟨g2, h3, g1⟩
    · exact ⟨h3, g2, g1⟩
theorem rm_fl_0 (t : List Int32) : rm_fl t 0 = (rm_s3 (rm_g t 0) (rm_g t 1) (rm_g t 2)).1 := by
  unfold rm_fl
  rw [if_pos rfl]
theorem rm_fl_1 (t : List Int32) : rm_fl t 1 = (rm_s3 (rm_g t 0) (rm_g t 1) (rm_g t 2)).2.1 := by
  unfold rm_fl
  rw [if_neg (by omega), if_pos rfl]
theorem rm_fl_2 (t : List Int32) : rm_fl t 2 = (rm_s3 (rm_g t 0) (rm_g t 1) (rm_g t 2)).2.2 := by
  unfold rm_fl
  rw [if_neg (by omega), if_neg (by omega)]
theorem rm_len3 {t : List Int32} (h1 : 1 ≤ t.length) (h3 : t.length ≤ 3) : t.length = 1 ∨ t.length = 2 ∨ t.length = 3 := by omega
theorem rm_fl_pz {t : List Int32} (hp : rm_pos t) (h1 : 1 ≤ t.length) (h3 : t.length ≤ 3) : ∀ k, k < 3 → (k < t.length → 0 < rm_fl t k) ∧ (t.length ≤ k → rm_fl t k = 0) := by
  intro k hk
  have g0 := rm_pos_g hp (k := 0) (by omega)
  rcases rm_len3 h1 h3 with e | e | e
  · have e1 : rm_g t 1 = 0 := rm_g_ge (by omega)
    have e2 : rm_g t 2 = 0 := rm_g_ge (by omega)
    have hk : k = 0 ∨ k = 1 ∨ k = 2 := by omega
    rcases hk with rfl | rfl | rfl
    · rw [rm_fl_0, e1, e2, rm_s3_1 g0]; exact ⟨fun _ => g0, fun z => absurd z (by omega)⟩
    · rw [rm_fl_1, e1, e2, rm_s3_1 g0]; exact ⟨fun z => absurd z (by omega), fun _ => rfl⟩
    · rw [rm_fl_2, e1, e2, rm_s3_1 g0]; exact ⟨fun z => absurd z (by omega), fun _ => rfl⟩
  · have g1 := rm_pos_g hp (k := 1) (by omega)
    have e2 : rm_g t 2 = 0 := rm_g_ge (by omega)
    have hk : k = 0 ∨ k = 1 ∨ k = 2 := by omega
    rcases hk with rfl | rfl | rfl
    · rw [rm_fl_0, e2, rm_s3_2 g0 g1]; exact ⟨fun _ => rm_mx_pos g0 g1, fun z => absurd z (by omega)⟩
    · rw [rm_fl_1, e2, rm_s3_2 g0 g1]; exact ⟨fun _ => rm_mn_pos g0 g1, fun z => absurd z (by omega)⟩
    · rw [rm_fl_2, e2, rm_s3_2 g0 g1]; exact ⟨fun z => absurd z (by omega), fun _ => rfl⟩
  · have g1 := rm_pos_g hp (k := 1) (by omega)
    have g2 := rm_pos_g hp (k := 2) (by omega)
    have g := rm_s3_pos g0 g1 g2
    have hk : k = 0 ∨ k = 1 ∨ k = 2 := by omega
    rcases hk with rfl | rfl | rfl
    · rw [rm_fl_0]; exact ⟨fun _ => g.1, fun z => absurd z (by omega)⟩
    · rw [rm_fl_1]; exact ⟨fun _ => g.2.1, fun z => absurd z (by omega)⟩
    · rw [rm_fl_2]; exact ⟨fun _ => g.2.2, fun z => absurd z (by omega)⟩
def rx_BS (o : rm_Bs) (bR bS : Int32) (bRow bBd bFal : Nat → Int32) : Prop := match o with
  | none => bR = -1
  | some w => bR = nI w.1 ∧ w.1 < 5 ∧ bS = nI w.2.1.length ∧ 1 ≤ w.2.1.length ∧ w.2.1.length ≤ 3 ∧ rm_pos w.2.1 ∧ (∀ k, k < w.2.1.length → bRow k = rm_g w.2.1 k) ∧ (∀ k, k < w.2.1.length → bFal k = rm_fl w.2.1 k) ∧ (∀ v, v < 3 → bBd v = rm_enc (w.2.2 v)) ∧ rm_okb w.2.2
def rx_AX (a : rm_Ac) (bR bS tot op : Int32) (bRow bBd bFal : Nat → Int32) : Prop := tot = a.1 ∧ op = a.2.1 ∧ rx_BS a.2.2 bR bS bRow bBd bFal
def rm_ngf (cs : List rm_Cd) (i : Nat) : Bool := match cs[i]? with
  | none => true
  | some c => c.2
def rx_tl (cs : List rm_Cd) (tags chosen : Nat → Int32) (k : Nat) : List Int32 := (List.range k).flatMap (fun i => if rm_ngf cs i then [] else [tags (chosen i).toNatClampNeg])
theorem rx_tl_s (cs : List rm_Cd) (tags chosen : Nat → Int32) (k : Nat) : rx_tl cs tags chosen (k + 1) = rx_tl cs tags chosen k ++ (if rm_ngf cs k then [] else [tags (chosen k).toNatClampNeg]) := by
  unfold rx_tl
  rw [List.range_succ, List.flatMap_append, List.flatMap_cons, List.flatMap_nil, List.append_nil]
theorem rx_tl_len (cs : List rm_Cd) (tags chosen : Nat → Int32) : ∀ k, (rx_tl cs tags chosen k).length ≤ k := by
  intro k
  induction k with
  | zero => unfold rx_tl; rw [List.range_zero, List.flatMap_nil]; exact Nat.le_refl _
  | succ k ih =>
    rw [rx_tl_s, List.length_append]
    split
    · rw [List.length_nil]; omega
    · rw [List.length_cons, List.length_nil]; omega
theorem rx_tl_c {cs : List rm_Cd} {tags chosen chosen' : Nat → Int32} : ∀ k, (∀ i, i < k → chosen' i = chosen i) → rx_tl cs tags chosen' k = rx_tl cs tags chosen k := by
  intro k
  induction k with
  | zero => intro _; unfold rx_tl; rw [List.range_zero, List.flatMap_nil, List.flatMap_nil]
  | succ k ih =>
    intro h
    rw [rx_tl_s, rx_tl_s, ih (fun i hi => h i (by omega)), h k (by omega)]
def rx_PT (cs : List rm_Cd) (cell : Nat → Option rm_El) (a_tags a_chosen : Nat → Int32) (d : Nat) (t : List Int32) : Prop :=
  t = rx_tl cs a_tags a_chosen d ∧ ∀ k, k < d → rm_ngf cs k = false → ∃ c x, a_chosen k = nI c ∧ cell c = some x
theorem rx_PT_pos {cs : List rm_Cd} {cell : Nat → Option rm_El} {a_tags a_chosen : Nat → Int32} {d : Nat} {t : List Int32} (hT : ∀ c x, cell c = some x → c < 12 ∧ a_tags c = x.1 ∧ 0 < x.1) (h : rx_PT cs cell a_tags a_chosen d t) : rm_pos t := by
  intro x hx
  rw [h.1] at hx
  unfold rx_tl at hx
  rw [List.mem_flatMap] at hx
  obtain ⟨i, hi, hx⟩ := hx
  have hi := List.mem_range.mp hi
  cases hn : rm_ngf cs i with
  | true => rw [hn] at hx; exact absurd hx (by simp)
  | false =>
    rw [hn] at hx
    obtain ⟨c, y, h1, h2⟩ := h.2 i hi hn
    have h3 := hT c y h2
    have hx : x ∈ [a_tags (a_chosen i).toNatClampNeg] := hx
    rw [List.mem_singleton, h1, nI_clamp (n := c) (by omega), h3.2.1] at hx
    rw [hx]; exact h3.2.2
end
section
section
variable {f_used f_count f_lastTag f_ruleCount f_draftSize f_firedCount f_bestRule f_rowSize f_bestSize f_total f_openTotal : Int32} {a_tags a_types a_fields a_ofType a_ofValue a_sizes a_patterns a_negative a_actions a_firedRule a_firedTags a_bound a_candidates a_chosen a_row a_bestRow a_bestBound a_falling a_bestFalling : Nat → Int32}
theorem rx_hf29 {r i : Nat} {t : List Int32} (ht : t.length ≤ 3) (hi : i < 40) (hrs : f_rowSize = nI t.length) (hrow : ∀ k, k < t.length → a_row k = rm_g t k) {post : Int32 → Prop} {J : Int32 → Prop} (Q0 : Prop)
    (K1 : Q0 → (∀ k, k < t.length → a_firedTags (3 * i + k) = rm_g t k) → post 1) (K0 : ¬ (Q0 ∧ ∀ k, k < t.length → a_firedTags (3 * i + k) = rm_g t k) → J (nI (i + 1))) :
    ∀ d k (p : Bool), k + d = t.length → (p = true ↔ (Q0 ∧ ∀ j, j < k → a_firedTags (3 * i + j) = rm_g t j)) → wX_hasFired_29 post J (nI r) (nI i) f_used f_count f_lastTag f_ruleCount f_draftSize f_firedCount f_bestRule f_rowSize f_bestSize f_total f_openTotal a_tags a_types a_fields a_ofType a_ofValue a_sizes a_patterns a_negative a_actions a_firedRule a_firedTags a_bound a_candidates a_chosen a_row a_bestRow a_bestBound a_falling a_bestFalling (d + 1) (rm_b p) (nI k) := by
  intro d
  induction d with
  | zero =>
    intro k p hk hp
    have e : k = t.length := by omega
    subst e
    refine pk_le t.length t.length (fun _ => rm_b_0 (fun e => nm_r (nI_1 i) (K0 (fun z => ?_))) (fun e => K1 (hp.mp e).1 (hp.mp e).2)) (fun h => absurd h (by omega)) (hx := hrs)
    rw [hp.mpr z] at e; exact absurd e (by simp)
  | succ d ih =>
    intro k p hk hp
    refine pk_le t.length k (fun h => absurd h (by omega)) (fun _ => rm_b_0 (fun e => ?_) (fun e => ?_)) (hx := hrs)
    · refine nm_r (nI_1 k) (ih (k + 1) false (by omega) ⟨fun z => absurd z (by simp), fun z => ?_⟩)
      rw [hp.mpr ⟨z.1, fun j hj => z.2 j (by omega)⟩] at e; exact absurd e (by simp)
    · rw [rm_n3k]
      refine And.intro (vp_in_nI (by omega) (by omega)) (And.intro (vp_in_nI (by omega) (by omega)) ?_)
      rw [nI_clamp (n := 3 * i + k) (by omega), nI_clamp (n := k) (by omega), hrow k (by omega)]
      have hq := hp.mp e
      by_cases g : a_firedTags (3 * i + k) = rm_g t k
      · refine br_t g (nm_r (nI_1 k) (ih (k + 1) true (by omega) ⟨fun _ => ⟨hq.1, fun j hj => ?_⟩, fun _ => rfl⟩))
        by_cases ej : j = k
        · subst ej; exact g
        · exact hq.2 j (by omega)
      · exact br_f g (nm_r (nI_1 k) (ih (k + 1) false (by omega) ⟨fun z => absurd z (by simp), fun z => absurd (z.2 k (by omega)) g⟩))
theorem rx_hf2 {r n : Nat} {t : List Int32} (ht : t.length ≤ 3) (hn : n ≤ 40) (hfc : f_firedCount = nI n) (hrs : f_rowSize = nI t.length) (hrow : ∀ k, k < t.length → a_row k = rm_g t k)
    (hS : ∀ i, i < n → a_firedRule i = nI r → ∀ k, t.length ≤ k → k < 3 → a_firedTags (3 * i + k) = 0) {post : Int32 → Prop} (h : post (rm_b (rm_hf (rm_F n a_firedRule a_firedTags) r t))) :
    ∀ d i, i + d = n → (∀ j, j < i → (a_firedRule j, a_firedTags (3 * j), a_firedTags (3 * j + 1), a_firedTags (3 * j + 2)) ≠ (nI r, rm_g t 0, rm_g t 1, rm_g t 2)) → wX_hasFired_2 post (nI r) f_used f_count f_lastTag f_ruleCount f_draftSize f_firedCount f_bestRule f_rowSize f_bestSize f_total f_openTotal a_tags a_types a_fields a_ofType a_ofValue a_sizes a_patterns a_negative a_actions a_firedRule a_firedTags a_bound a_candidates a_chosen a_row a_bestRow a_bestBound a_falling a_bestFalling (d + 1) (nI i) := by
  intro d
  induction d with
  | zero =>
    intro i hi hne
    have e : i = n := by omega
    subst e
    refine pk_le i i (fun _ => ?_) (fun h => absurd h (by omega)) (hx := hfc)
    have e2 : rm_hf (rm_F i a_firedRule a_firedTags) r t = false := by
      unfold rm_hf
      apply decide_eq_false
      rw [rm_F_mem]
      rintro ⟨j, hj, e⟩
      exact hne j hj e.symm
    rw [e2] at h
    exact h
  | succ d ih =>
    intro i hi hne
    have key : (a_firedRule i = nI r ∧ ∀ k, k < t.length → a_firedTags (3 * i + k) = rm_g t k) ↔ (a_firedRule i, a_firedTags (3 * i), a_firedTags (3 * i + 1), a_firedTags (3 * i + 2)) = (nI r, rm_g t 0, rm_g t 1, rm_g t 2) := by
      constructor
      · rintro ⟨h1, h2⟩
        have hall : ∀ k, k < 3 → a_firedTags (3 * i + k) = rm_g t k := by
          intro k hk
          by_cases hkt : k < t.length
          · exact h2 k hkt
          · rw [rm_g_ge (by omega)]; exact hS i (by omega) h1 k (by omega) hk
        rw [h1, ← hall 0 (by omega), ← hall 1 (by omega), ← hall 2 (by omega)]
        rfl
      · intro e
        obtain ⟨e0, e⟩ := Prod.mk.inj e
        obtain ⟨e1, e⟩ := Prod.mk.inj e
        obtain ⟨e2, e3⟩ := Prod.mk.inj e
        refine ⟨e0, fun k hk => ?_⟩
        have hk : k = 0 ∨ k = 1 ∨ k = 2 := by omega
        rcases hk with rfl | rfl | rfl
        · exact e1
        · exact e2
        · exact e3
    have K1 : a_firedRule i = nI r → (∀ k, k < t.length → a_firedTags (3 * i + k) = rm_g t k) → post 1 := by
      intro h1 h2
      have e2 : rm_hf (rm_F n a_firedRule a_firedTags) r t = true := by
        unfold rm_hf
        apply decide_eq_true
        rw [rm_F_mem]
        exact ⟨i, by omega, (key.mp ⟨h1, h2⟩).symm⟩
      rw [e2] at h
      exact h
    have K0 : ¬ (a_firedRule i = nI r ∧ ∀ k, k < t.length → a_firedTags (3 * i + k) = rm_g t k) → wX_hasFired_2 post (nI r) f_used f_count f_lastTag f_ruleCount f_draftSize f_firedCount f_bestRule f_rowSize f_bestSize f_total f_openTotal a_tags a_types a_fields a_ofType a_ofValue a_sizes a_patterns a_negative a_actions a_firedRule a_firedTags a_bound a_candidates a_chosen a_row a_bestRow a_bestBound a_falling a_bestFalling (d + 1) (nI (i + 1)) := by
      intro hz
      refine ih (i + 1) (by omega) (fun j hj => ?_)
      by_cases e : j = i
      · subst e; exact fun z => hz (key.mpr z)
      · exact hne j (by omega)
    refine pk_le n i (fun h => absurd h (by omega)) (fun _ => And.intro (vp_in_nI (by omega) (by omega)) ?_) (hx := hfc)
    rw [nI_clamp (n := i) (by omega)]
    by_cases e : a_firedRule i = nI r
    · exact br_t e (Exists.intro (t.length + 1) (rx_hf29 ht (by omega) hrs hrow _ K1 K0 t.length 0 true (by omega) ⟨fun _ => ⟨e, fun j hj => absurd hj (by omega)⟩, fun _ => rfl⟩))
    · exact br_f e (Exists.intro (t.length + 1) (rx_hf29 ht (by omega) hrs hrow _ K1 K0 t.length 0 false (by omega) ⟨fun z => absurd z (by simp), fun z => absurd z.1 e⟩))
theorem rx_hasFired {r n : Nat} {t : List Int32} (ht : t.length ≤ 3) (hn : n ≤ 40) (hfc : f_firedCount = nI n) (hrs : f_rowSize = nI t.length) (hrow : ∀ k, k < t.length → a_row k = rm_g t k)
    (hS : ∀ i, i < n → a_firedRule i = nI r → ∀ k, t.length ≤ k → k < 3 → a_firedTags (3 * i + k) = 0) {post : Int32 → Prop} (h : post (rm_b (rm_hf (rm_F n a_firedRule a_firedTags) r t))) : wpX_hasFired post (f_used, f_count, f_lastTag, f_ruleCount, f_draftSize, f_firedCount, f_bestRule, f_rowSize, f_bestSize, f_total, f_openTotal, a_tags, a_types, a_fields, a_ofType, a_ofValue, a_sizes, a_patterns, a_negative, a_actions, a_firedRule, a_firedTags, a_bound, a_candidates, a_chosen, a_row, a_bestRow, a_bestBound, a_falling, a_bestFalling) (nI r) :=
  Exists.intro (n + 1) (rx_hf2 ht hn hfc hrs hrow hS h n 0 (by omega) (fun j hj => absurd hj (by omega)))
end
end
section
section
variable {f_used f_count f_lastTag f_ruleCount f_draftSize f_firedCount f_bestRule f_rowSize f_bestSize f_total f_openTotal : Int32} {a_tags a_types a_fields a_ofType a_ofValue a_sizes a_patterns a_negative a_actions a_firedRule a_firedTags a_bound a_candidates a_chosen a_row a_bestRow a_bestBound a_falling a_bestFalling : Nat → Int32}
/-! sortRow -/
theorem rx_so53 {post : SX → Prop} {J : Int32 → (Nat → Int32) → (Nat → Int32) → (Nat → Int32) → (Nat → Int32) → (Nat → Int32) → (Nat → Int32) → (Nat → Int32) → (Nat → Int32) → (Nat → Int32) → (Nat → Int32) → (Nat → Int32) → (Nat → Int32) → (Nat → Int32) → (Nat → Int32) → (Nat → Int32) → (Nat → Int32) → (Nat → Int32) → (Nat → Int32) → (Nat → Int32) → Prop} {k j : Nat} (hk : k < 3) (hj : j < 3)
    (K : J (nI (k + 1)) a_tags a_types a_fields a_ofType a_ofValue a_sizes a_patterns a_negative a_actions a_firedRule a_firedTags a_bound a_candidates a_chosen a_row a_bestRow a_bestBound (upd a_falling j (a_row k)) a_bestFalling) : wX_sortRow_53 post J (nI k) (nI j) f_used f_count f_lastTag f_ruleCount f_draftSize f_firedCount f_bestRule f_rowSize f_bestSize f_total f_openTotal a_tags a_types a_fields a_ofType a_ofValue a_sizes a_patterns a_negative a_actions a_firedRule a_firedTags a_bound a_candidates a_chosen a_row a_bestRow a_bestBound a_falling a_bestFalling := by
  refine And.intro (vp_in_nI hk (by omega)) (And.intro (vp_in_nI hj (by omega)) (nm_e (nm_r (nI_1 k) ?_)))
  rw [nI_clamp (n := k) (by omega), nI_clamp (n := j) (by omega)]
  exact K
theorem rx_so12 {post : SX → Prop} {J : Int32 → (Nat → Int32) → (Nat → Int32) → (Nat → Int32) → (Nat → Int32) → (Nat → Int32) → (Nat → Int32) → (Nat → Int32) → (Nat → Int32) → (Nat → Int32) → (Nat → Int32) → (Nat → Int32) → (Nat → Int32) → (Nat → Int32) → (Nat → Int32) → (Nat → Int32) → (Nat → Int32) → (Nat → Int32) → (Nat → Int32) → (Nat → Int32) → Prop} {k : Nat} (hk : k < 3) {n : Nat} {fa : Nat → Int32} :
    (J (nI (k + 1)) a_tags a_types a_fields a_ofType a_ofValue a_sizes a_patterns a_negative a_actions a_firedRule a_firedTags a_bound a_candidates a_chosen a_row a_bestRow a_bestBound (upd fa 0 (a_row k)) a_bestFalling → wX_sortRow_12 post J (nI k) f_used f_count f_lastTag f_ruleCount f_draftSize f_firedCount f_bestRule f_rowSize f_bestSize f_total f_openTotal (n + 1) (nI 0) a_tags a_types a_fields a_ofType a_ofValue a_sizes a_patterns a_negative a_actions a_firedRule a_firedTags a_bound a_candidates a_chosen a_row a_bestRow a_bestBound fa a_bestFalling) ∧
    (∀ j, j < 2 → (a_row k ≤ fa j → J (nI (k + 1)) a_tags a_types a_fields a_ofType a_ofValue a_sizes a_patterns a_negative a_actions a_firedRule a_firedTags a_bound a_candidates a_chosen a_row a_bestRow a_bestBound (upd fa (j + 1) (a_row k)) a_bestFalling) → (¬ a_row k ≤ fa j → wX_sortRow_12 post J (nI k) f_used f_count f_lastTag f_ruleCount f_draftSize f_firedCount f_bestRule f_rowSize f_bestSize f_total f_openTotal n (nI j) a_tags a_types a_fields a_ofType a_ofValue a_sizes a_patterns a_negative a_actions a_firedRule a_firedTags a_bound a_candidates a_chosen a_row a_bestRow a_bestBound (upd fa (j + 1) (fa j)) a_bestFalling) → wX_sortRow_12 post J (nI k) f_used f_count f_lastTag f_ruleCount f_draftSize f_firedCount f_bestRule f_rowSize f_bestSize f_total f_openTotal (n + 1) (nI (j + 1)) a_tags a_types a_fields a_ofType a_ofValue a_sizes a_patterns a_negative a_actions a_firedRule a_firedTags a_bound a_candidates a_chosen a_row a_bestRow a_bestBound fa a_bestFalling) := by
  constructor
  · intro K
    exact pk_le 0 0 (fun _ => rx_so53 hk (by omega) K) (fun h => absurd h (by omega))
  · intro j hj K1 K2
    refine pk_le (j + 1) 0 (fun h => absurd h (by omega)) (fun _ => ?_)
    rw [nI_pred]
    refine And.intro (vp_in_nI (by omega) (by omega)) (And.intro (vp_in_nI hk (by omega)) ?_)
    rw [nI_clamp (n := j) (by omega), nI_clamp (n := k) (by omega)]
    by_cases e : a_row k ≤ fa j
    · exact br_t e (rx_so53 hk (by omega) (K1 e))
    · refine br_f e (And.intro (vp_in_nI (by omega) (by omega)) (And.intro (vp_in_nI (by omega) (by omega)) (nm_e (nm_r (pk_m1 j) ?_))))
      rw [nI_clamp (n := j + 1) (by omega)]
      exact K2 e
theorem rx_sortRow {t : List Int32} (hp : rm_pos t) (h1 : 1 ≤ t.length) (h3 : t.length ≤ 3) (hrs : f_rowSize = nI t.length) (hrow : ∀ k, k < t.length → a_row k = rm_g t k) {post : SX → Prop}
    (K : ∀ fa, (∀ k, k < t.length → fa k = rm_fl t k) → post (f_used, f_count, f_lastTag, f_ruleCount, f_draftSize, f_firedCount, f_bestRule, f_rowSize, f_bestSize, f_total, f_openTotal, a_tags, a_types, a_fields, a_ofType, a_ofValue, a_sizes, a_patterns, a_negative, a_actions, a_firedRule, a_firedTags, a_bound, a_candidates, a_chosen, a_row, a_bestRow, a_bestBound, fa, a_bestFalling)) : wpX_sortRow post (f_used, f_count, f_lastTag, f_ruleCount, f_draftSize, f_firedCount, f_bestRule, f_rowSize, f_bestSize, f_total, f_openTotal, a_tags, a_types, a_fields, a_ofType, a_ofValue, a_sizes, a_patterns, a_negative, a_actions, a_firedRule, a_firedTags, a_bound, a_candidates, a_chosen, a_row, a_bestRow, a_bestBound, a_falling, a_bestFalling) := by
  have g0 := rm_pos_g hp (k := 0) (by omega)
  refine Exists.intro 4 (pk_le t.length 0 (fun h => absurd h (by omega)) (fun _ => Exists.intro 1 ((rx_so12 (k := 0) (by omega)).1 ?_)) (hx := hrs))
  rw [hrow 0 (by omega)]
  rcases rm_len3 h1 h3 with e | e | e
  · have e1 : rm_g t 1 = 0 := rm_g_ge (by omega)
    have e2 : rm_g t 2 = 0 := rm_g_ge (by omega)
    refine pk_le t.length 1 (fun _ => K _ (fun k hk => ?_)) (fun h => absurd h (by omega)) (hx := hrs)
    have hk : k = 0 := by omega
    subst hk
    rw [pk_us, rm_fl_0, e1, e2, rm_s3_1 g0]
  · have g1 := rm_pos_g hp (k := 1) (by omega)
    have e2 : rm_g t 2 = 0 := rm_g_ge (by omega)
    have fin : ∀ fa, fa 0 = rm_mx (rm_g t 0) (rm_g t 1) → fa 1 = rm_mn (rm_g t 0) (rm_g t 1) → wX_sortRow_2 post f_used f_count f_lastTag f_ruleCount f_draftSize f_firedCount f_bestRule f_rowSize f_bestSize f_total f_openTotal 2 (nI 2) a_tags a_types a_fields a_ofType a_ofValue a_sizes a_patterns a_negative a_actions a_firedRule a_firedTags a_bound a_candidates a_chosen a_row a_bestRow a_bestBound fa a_bestFalling := by
      intro fa a0 a1
      refine pk_le t.length 2 (fun _ => K _ (fun k hk => ?_)) (fun h => absurd h (by omega)) (hx := hrs)
      have hk : k = 0 ∨ k = 1 := by omega
      rcases hk with rfl | rfl
      · rw [a0, rm_fl_0, e2, rm_s3_2 g0 g1]
      · rw [a1, rm_fl_1, e2, rm_s3_2 g0 g1]
    refine pk_le t.length 1 (fun h => absurd h (by omega)) (fun _ => Exists.intro 2 ((rx_so12 (k := 1) (by omega)).2 0 (by omega) (fun z => fin _ ?_ ?_) (fun z => (rx_so12 (k := 1) (by omega)).1 (fin _ ?_ ?_)))) (hx := hrs)
    · rw [pk_un (by omega), pk_us]; rw [hrow 1 (by omega), pk_us] at z; exact (if_pos z).symm
    · rw [pk_us, hrow 1 (by omega)]; rw [hrow 1 (by omega), pk_us] at z; exact (if_pos z).symm
    · rw [pk_us, hrow 1 (by omega)]; rw [hrow 1 (by omega), pk_us] at z; exact (if_neg z).symm
    · rw [pk_un (by omega), pk_us, pk_us]; rw [hrow 1 (by omega), pk_us] at z; exact (if_neg z).symm
  · have g1 := rm_pos_g hp (k := 1) (by omega)
    have g2 := rm_pos_g hp (k := 2) (by omega)
    have fin : ∀ fa, (fa 0, fa 1, fa 2) = rm_s3 (rm_g t 0) (rm_g t 1) (rm_g t 2) → wX_sortRow_2 post f_used f_count f_lastTag f_ruleCount f_draftSize f_firedCount f_bestRule f_rowSize f_bestSize f_total f_openTotal 1 (nI 3) a_tags a_types a_fields a_ofType a_ofValue a_sizes a_patterns a_negative a_actions a_firedRule a_firedTags a_bound a_candidates a_chosen a_row a_bestRow a_bestBound fa a_bestFalling := by
      intro fa ha
      refine pk_le t.length 3 (fun _ => K _ (fun k hk => ?_)) (fun h => absurd h (by omega)) (hx := hrs)
      have hk : k = 0 ∨ k = 1 ∨ k = 2 := by omega
      rcases hk with rfl | rfl | rfl
      · rw [rm_fl_0, ← ha]
      · rw [rm_fl_1, ← ha]
      · rw [rm_fl_2, ← ha]
    have mid : ∀ fa, fa 0 = rm_mx (rm_g t 0) (rm_g t 1) → fa 1 = rm_mn (rm_g t 0) (rm_g t 1) → wX_sortRow_2 post f_used f_count f_lastTag f_ruleCount f_draftSize f_firedCount f_bestRule f_rowSize f_bestSize f_total f_openTotal 2 (nI 2) a_tags a_types a_fields a_ofType a_ofValue a_sizes a_patterns a_negative a_actions a_firedRule a_firedTags a_bound a_candidates a_chosen a_row a_bestRow a_bestBound fa a_bestFalling := by
      intro fa a0 a1
      refine pk_le t.length 2 (fun h => absurd h (by omega)) (fun _ => Exists.intro 3 ((rx_so12 (k := 2) (by omega)).2 1 (by omega) (fun z => fin _ ?_) (fun z => (rx_so12 (k := 2) (by omega)).2 0 (by omega) (fun y => fin _ ?_) (fun y => (rx_so12 (k := 2) (by omega)).1 (fin _ ?_))))) (hx := hrs)
      · rw [hrow 2 (by omega), a1] at z
        rw [rm_s3_in, if_pos z, pk_un (by omega), pk_un (by omega), pk_us, a0, a1, hrow 2 (by omega)]
      · rw [hrow 2 (by omega), a1] at z
        rw [hrow 2 (by omega), pk_un (by omega), a0] at y
        rw [rm_s3_in, if_neg z, if_pos y, pk_un (by omega), pk_un (by omega), pk_us, pk_un (by omega), pk_us, a0, a1, hrow 2 (by omega)]
      · rw [hrow 2 (by omega), a1] at z
        rw [hrow 2 (by omega), pk_un (by omega), a0] at y
        rw [rm_s3_in, if_neg z, if_neg y, pk_us, pk_un (by omega), pk_us, pk_un (by omega), pk_un (by omega), pk_un (by omega), pk_us, a0, a1, hrow 2 (by omega)]
    refine pk_le t.length 1 (fun h => absurd h (by omega)) (fun _ => Exists.intro 2 ((rx_so12 (k := 1) (by omega)).2 0 (by omega) (fun z => mid _ ?_ ?_) (fun z => (rx_so12 (k := 1) (by omega)).1 (mid _ ?_ ?_)))) (hx := hrs)
    · rw [pk_un (by omega), pk_us]; rw [hrow 1 (by omega), pk_us] at z; exact (if_pos z).symm
    · rw [pk_us, hrow 1 (by omega)]; rw [hrow 1 (by omega), pk_us] at z; exact (if_pos z).symm
    · rw [pk_us, hrow 1 (by omega)]; rw [hrow 1 (by omega), pk_us] at z; exact (if_neg z).symm
    · rw [pk_un (by omega), pk_us, pk_us]; rw [hrow 1 (by omega), pk_us] at z; exact (if_neg z).symm
end
end
section
section
variable {f_used f_count f_lastTag f_ruleCount f_draftSize f_firedCount f_bestRule f_rowSize f_bestSize f_total f_openTotal : Int32} {a_tags a_types a_fields a_ofType a_ofValue a_sizes a_patterns a_negative a_actions a_firedRule a_firedTags a_bound a_candidates a_chosen a_row a_bestRow a_bestBound a_falling a_bestFalling : Nat → Int32}
/-! comesFirst -/
theorem rx_cm112 {t s : List Int32} (hl : t.length = s.length) (h3 : t.length ≤ 3) (hrs : f_rowSize = nI t.length) (hrow : ∀ k, k < t.length → a_row k = rm_g t k) (hbr : ∀ k, k < s.length → a_bestRow k = rm_g s k) {post : Int32 → Prop} :
    ∀ d k, k + d = t.length → post (rm_b (rm_ls (rm_g t) (rm_g s) false k)) → wX_comesFirst_112 post f_used f_count f_lastTag f_ruleCount f_draftSize f_firedCount f_bestRule f_rowSize f_bestSize f_total f_openTotal a_tags a_types a_fields a_ofType a_ofValue a_sizes a_patterns a_negative a_actions a_firedRule a_firedTags a_bound a_candidates a_chosen a_row a_bestRow a_bestBound a_falling a_bestFalling (d + 1) (nI k) := by
  intro d
  induction d with
  | zero =>
    intro k hk h
    have e : k = t.length := by omega
    subst e
    refine pk_le t.length t.length (fun _ => ?_) (fun h => absurd h (by omega)) (hx := hrs)
    rw [rm_ls_eq (3 - t.length) _ (by omega) (fun j h1 h2 => by rw [rm_g_ge h1, rm_g_ge (by omega)])] at h
    exact h
  | succ d ih =>
    intro k hk h
    rw [rm_ls_s (by omega)] at h
    refine pk_le t.length k (fun h => absurd h (by omega)) (fun _ => And.intro (vp_in_nI (by omega) (by omega)) (And.intro (vp_in_nI (by omega) (by omega)) ?_)) (hx := hrs)
    rw [nI_clamp (n := k) (by omega), hrow k (by omega), hbr k (by omega)]
    by_cases e : rm_g t k = rm_g s k
    · rw [e, rm_l1_ir] at h
      exact br_t e (nm_r (nI_1 k) (ih (k + 1) (by omega) h))
    · unfold rm_l1 at h
      rw [if_neg e] at h
      refine br_f e (And.intro (vp_in_nI (by omega) (by omega)) (And.intro (vp_in_nI (by omega) (by omega)) ?_))
      by_cases g : rm_g t k ≤ rm_g s k
      · rw [decide_eq_false (Int32.not_lt.mpr g)] at h
        exact br_t g h
      · rw [decide_eq_true (Int32.not_le.mp g)] at h
        exact br_f g h
theorem rx_cm60 {r r' : Nat} (hr : r < 5) (hr' : r' < 5) {t s : List Int32} (h3 : t.length ≤ 3) (hs3 : s.length ≤ 3) (hrs : f_rowSize = nI t.length) (hbs : f_bestSize = nI s.length) (hbr : f_bestRule = nI r') (hrow : ∀ k, k < t.length → a_row k = rm_g t k) (hbrow : ∀ k, k < s.length → a_bestRow k = rm_g s k) {post : Int32 → Prop}
    (h : post (rm_b (if t.length = s.length then rm_lr r r' (rm_lx (rm_g t) (rm_g s) false) else decide (s.length < t.length)))) : wX_comesFirst_60 post (nI r) f_used f_count f_lastTag f_ruleCount f_draftSize f_firedCount f_bestRule f_rowSize f_bestSize f_total f_openTotal a_tags a_types a_fields a_ofType a_ofValue a_sizes a_patterns a_negative a_actions a_firedRule a_firedTags a_bound a_candidates a_chosen a_row a_bestRow a_bestBound a_falling a_bestFalling := by
  refine pk_eq t.length s.length (fun e => ?_) (fun e => ?_) (hx := hrs) (hy := hbs)
  · rw [if_pos e] at h
    refine pk_eq r r' (fun e2 => ?_) (fun e2 => ?_) (hy := hbr)
    · unfold rm_lr at h
      rw [if_pos e2] at h
      exact Exists.intro (t.length + 1) (rx_cm112 e h3 hrs hrow hbrow t.length 0 (by omega) h)
    · unfold rm_lr at h
      rw [if_neg e2] at h
      refine pk_le r' r (fun z => ?_) (fun z => ?_) (hx := hbr)
      · rw [decide_eq_false (by omega)] at h; exact h
      · rw [decide_eq_true (by omega)] at h; exact h
  · rw [if_neg e] at h
    refine pk_le t.length s.length (fun z => ?_) (fun z => ?_) (hx := hrs) (hy := hbs)
    · rw [decide_eq_false (by omega)] at h; exact h
    · rw [decide_eq_true (by omega)] at h; exact h
theorem rx_comesFirst {r r' : Nat} (hr : r < 5) (hr' : r' < 5) {t s : List Int32} (hp : rm_pos t) (hps : rm_pos s) (h1 : 1 ≤ t.length) (hs1 : 1 ≤ s.length) (h3 : t.length ≤ 3) (hs3 : s.length ≤ 3) (hrs : f_rowSize = nI t.length) (hbs : f_bestSize = nI s.length) (hbr : f_bestRule = nI r') (hrow : ∀ k, k < t.length → a_row k = rm_g t k) (hbrow : ∀ k, k < s.length → a_bestRow k = rm_g s k)
    (hfa : ∀ k, k < t.length → a_falling k = rm_fl t k) (hbf : ∀ k, k < s.length → a_bestFalling k = rm_fl s k) {post : Int32 → Prop} (h : post (rm_b (rm_bt r t r' s))) : wpX_comesFirst post (f_used, f_count, f_lastTag, f_ruleCount, f_draftSize, f_firedCount, f_bestRule, f_rowSize, f_bestSize, f_total, f_openTotal, a_tags, a_types, a_fields, a_ofType, a_ofValue, a_sizes, a_patterns, a_negative, a_actions, a_firedRule, a_firedTags, a_bound, a_candidates, a_chosen, a_row, a_bestRow, a_bestBound, a_falling, a_bestFalling) (nI r) := by
  have pzt := rm_fl_pz hp h1 h3
  have pzs := rm_fl_pz hps hs1 hs3
  have loop : ∀ d k, k + d = 3 → k ≤ t.length → k ≤ s.length → post (rm_b (rm_ls (rm_fl t) (rm_fl s) (rm_lr r r' (rm_lx (rm_g t) (rm_g s) false)) k)) → wX_comesFirst_2 post (nI r) f_used f_count f_lastTag f_ruleCount f_draftSize f_firedCount f_bestRule f_rowSize f_bestSize f_total f_openTotal a_tags a_types a_fields a_ofType a_ofValue a_sizes a_patterns a_negative a_actions a_firedRule a_firedTags a_bound a_candidates a_chosen a_row a_bestRow a_bestBound a_falling a_bestFalling (d + 1) (nI k) := by
    intro d
    induction d with
    | zero =>
      intro k hk k1 k2 h
      have e : k = 3 := by omega
      subst e
      refine pk_le t.length 3 (fun _ => rx_cm60 hr hr' h3 hs3 hrs hbs hbr hrow hbrow ?_) (fun z => absurd z (by omega)) (hx := hrs)
      rw [if_pos (by omega)]
      exact h
    | succ d ih =>
      intro k hk k1 k2 h
      refine pk_le t.length k (fun z => rx_cm60 hr hr' h3 hs3 hrs hbs hbr hrow hbrow ?_) (fun z => pk_le s.length k (fun y => rx_cm60 hr hr' h3 hs3 hrs hbs hbr hrow hbrow ?_) (fun y => ?_) (hx := hbs)) (hx := hrs)
      · by_cases e : t.length = s.length
        · rw [if_pos e]
          rw [rm_ls_eq (3 - k) k (by omega) (fun j j1 j2 => by rw [(pzt j j2).2 (by omega), (pzs j j2).2 (by omega)])] at h
          exact h
        · rw [if_neg e, decide_eq_false (by omega)]
          have a := (pzt k (by omega)).2 (by omega)
          have b := (pzs k (by omega)).1 (by omega)
          rw [rm_ls_s (by omega), a] at h
          unfold rm_l1 at h
          rw [if_neg (fun z => by rw [← z] at b; exact absurd b (by decide)), decide_eq_false (fun z => absurd (Int32.lt_trans b z) (by decide))] at h
          exact h
      · rw [if_neg (by omega), decide_eq_true (by omega)]
        have a := (pzt k (by omega)).1 (by omega)
        have b := (pzs k (by omega)).2 (by omega)
        rw [rm_ls_s (by omega), b] at h
        unfold rm_l1 at h
        rw [if_neg (fun z => by rw [z] at a; exact absurd a (by decide)), decide_eq_true a] at h
        exact h
      · refine And.intro (vp_in_nI (by omega) (by omega)) (And.intro (vp_in_nI (by omega) (by omega)) ?_)
        rw [nI_clamp (n := k) (by omega), hfa k (by omega), hbf k (by omega)]
        rw [rm_ls_s (by omega)] at h
        by_cases e : rm_fl t k = rm_fl s k
        · rw [e, rm_l1_ir] at h
          exact br_t e (nm_r (nI_1 k) (ih (k + 1) (by omega) (by omega) (by omega) h))
        · unfold rm_l1 at h
          rw [if_neg e] at h
          refine br_f e (And.intro (vp_in_nI (by omega) (by omega)) (And.intro (vp_in_nI (by omega) (by omega)) ?_))
          by_cases g : rm_fl t k ≤ rm_fl s k
          · rw [decide_eq_false (Int32.not_lt.mpr g)] at h
            exact br_t g h
          · rw [decide_eq_true (Int32.not_le.mp g)] at h
            exact br_f g h
  exact Exists.intro 4 (loop 3 0 rfl (by omega) (by omega) h)
end
end
section
section
variable {f_used f_count f_lastTag f_ruleCount f_draftSize f_firedCount f_bestRule f_rowSize f_bestSize f_total f_openTotal : Int32} {a_tags a_types a_fields a_ofType a_ofValue a_sizes a_patterns a_negative a_actions a_firedRule a_firedTags a_bound a_candidates a_chosen a_row a_bestRow a_bestBound a_falling a_bestFalling : Nat → Int32}
theorem rx_note170 {r s : Nat} (hr : r < 5) (hsz : a_sizes r = nI s) (hs : s ≤ 3) {post : SX → Prop} (K : ∀ bb, (∀ v, v < 3 → bb v = a_bound (4 * s + v)) → post (f_used, f_count, f_lastTag, f_ruleCount, f_draftSize, f_firedCount, f_bestRule, f_rowSize, f_bestSize, f_total, f_openTotal, a_tags, a_types, a_fields, a_ofType, a_ofValue, a_sizes, a_patterns, a_negative, a_actions, a_firedRule, a_firedTags, a_bound, a_candidates, a_chosen, a_row, a_bestRow, bb, a_falling, a_bestFalling)) :
    ∀ d k bb, k + d = 3 → (∀ v, v < k → bb v = a_bound (4 * s + v)) → wX_note_170 post (nI r) f_used f_count f_lastTag f_ruleCount f_draftSize f_firedCount f_bestRule f_rowSize f_bestSize f_total f_openTotal (d + 1) (nI k) a_tags a_types a_fields a_ofType a_ofValue a_sizes a_patterns a_negative a_actions a_firedRule a_firedTags a_bound a_candidates a_chosen a_row a_bestRow bb a_falling a_bestFalling := by
  intro d
  induction d with
  | zero =>
    intro k bb hk h
    have e : k = 3 := by omega
    subst e
    exact pk_le 3 3 (fun _ => K bb h) (fun h => absurd h (by omega))
  | succ d ih =>
    intro k bb hk h
    refine pk_le 3 k (fun h => absurd h (by omega)) (fun _ => And.intro (vp_in_nI (by omega) (by omega)) ?_)
    rw [nI_clamp (n := r) (by omega), hsz, rm_n4]
    refine And.intro (vp_in_nI (by omega) (by omega)) (And.intro (vp_in_nI (by omega) (by omega)) (nm_e (nm_r (nI_1 k) ?_)))
    rw [nI_clamp (n := k) (by omega), nI_clamp (n := 4 * s + k) (by omega)]
    refine ih (k + 1) _ (by omega) (fun v hv => ?_)
    by_cases e : v = k
    · subst e; exact pk_us
    · rw [pk_un e]; exact h v (by omega)
theorem rx_note115 {r s n : Nat} (hr : r < 5) (hsz : a_sizes r = nI s) (hs : s ≤ 3) (hn : n ≤ 3) (hrs : f_rowSize = nI n) {post : SX → Prop}
    (K : ∀ bb br bf, (∀ v, v < 3 → bb v = a_bound (4 * s + v)) → (∀ k, k < n → br k = a_row k) → (∀ k, k < n → bf k = a_falling k) → post (f_used, f_count, f_lastTag, f_ruleCount, f_draftSize, f_firedCount, nI r, f_rowSize, f_rowSize, f_total, f_openTotal, a_tags, a_types, a_fields, a_ofType, a_ofValue, a_sizes, a_patterns, a_negative, a_actions, a_firedRule, a_firedTags, a_bound, a_candidates, a_chosen, a_row, br, bb, a_falling, bf)) : wX_note_115 post (nI r) f_used f_count f_lastTag f_ruleCount f_draftSize f_firedCount f_bestRule f_rowSize f_bestSize f_total f_openTotal a_tags a_types a_fields a_ofType a_ofValue a_sizes a_patterns a_negative a_actions a_firedRule a_firedTags a_bound a_candidates a_chosen a_row a_bestRow a_bestBound a_falling a_bestFalling := by
  have loop : ∀ d k br bf, k + d = n → (∀ j, j < k → br j = a_row j) → (∀ j, j < k → bf j = a_falling j) → wX_note_130 post (nI r) f_used f_count f_lastTag f_ruleCount f_draftSize f_firedCount (nI r) f_rowSize f_rowSize f_total f_openTotal (d + 1) (nI k) a_tags a_types a_fields a_ofType a_ofValue a_sizes a_patterns a_negative a_actions a_firedRule a_firedTags a_bound a_candidates a_chosen a_row br a_bestBound a_falling bf := by
    intro d
    induction d with
    | zero =>
      intro k br bf hk h1 h2
      have e : k = n := by omega
      subst e
      exact pk_le k k (fun _ => Exists.intro 4 (rx_note170 hr hsz hs (fun bb hb => K bb br bf hb h1 h2) 3 0 a_bestBound rfl (fun v hv => absurd hv (by omega)))) (fun h => absurd h (by omega)) (hx := hrs)
    | succ d ih =>
      intro k br bf hk h1 h2
      refine pk_le n k (fun h => absurd h (by omega)) (fun _ => And.intro (vp_in_nI (by omega) (by omega)) (And.intro (vp_in_nI (by omega) (by omega)) (nm_e (And.intro (vp_in_nI (by omega) (by omega)) (And.intro (vp_in_nI (by omega) (by omega)) (nm_e (nm_r (nI_1 k) ?_))))))) (hx := hrs)
      rw [nI_clamp (n := k) (by omega)]
      refine ih (k + 1) _ _ (by omega) (fun j hj => ?_) (fun j hj => ?_)
      · by_cases e : j = k
        · subst e; exact pk_us
        · rw [pk_un e]; exact h1 j (by omega)
      · by_cases e : j = k
        · subst e; exact pk_us
        · rw [pk_un e]; exact h2 j (by omega)
  exact Exists.intro (n + 1) (loop n 0 a_bestRow a_bestFalling (by omega) (fun j hj => absurd hj (by omega)) (fun j hj => absurd hj (by omega)))
/-- what follows when the row is complete -/
theorem rx_noteEnd {cs : List rm_Cd} {r n : Nat} {t : List Int32} {b : rm_As} {a : rm_Ac} (hR : rx_RU cs r a_sizes a_patterns a_negative) (hB : rx_BD b (4 * cs.length) a_bound) (hok : rm_okb b) (hp : rm_pos t) (h1 : 1 ≤ t.length) (h3 : t.length ≤ 3) (hn : n ≤ 40) (hfc : f_firedCount = nI n)
    (hS : ∀ i, i < n → a_firedRule i = nI r → ∀ k, t.length ≤ k → k < 3 → a_firedTags (3 * i + k) = 0) (hA : rx_AX a f_bestRule f_bestSize f_total f_openTotal a_bestRow a_bestBound a_bestFalling) {post : SX → Prop}
    (K : ∀ (f_bestRule' f_rowSize' f_bestSize' f_total' f_openTotal' : Int32) (a_row' a_bestRow' a_bestBound' a_falling' a_bestFalling' : Nat → Int32), rx_AX (rm_nt (rm_F n a_firedRule a_firedTags) r a (t, b)) f_bestRule' f_bestSize' f_total' f_openTotal' a_bestRow' a_bestBound' a_bestFalling' → post (f_used, f_count, f_lastTag, f_ruleCount, f_draftSize, f_firedCount, f_bestRule', f_rowSize', f_bestSize', f_total', f_openTotal', a_tags, a_types, a_fields, a_ofType, a_ofValue, a_sizes, a_patterns, a_negative, a_actions, a_firedRule, a_firedTags, a_bound, a_candidates, a_chosen, a_row', a_bestRow', a_bestBound', a_falling', a_bestFalling')) (row : Nat → Int32) (hrow : ∀ k, k < t.length → row k = rm_g t k) :
    wX_note_17 post (nI r) f_used f_count f_lastTag f_ruleCount f_draftSize f_firedCount f_bestRule f_bestSize (f_total + 1) f_openTotal 1 (nI cs.length) (nI t.length) a_tags a_types a_fields a_ofType a_ofValue a_sizes a_patterns a_negative a_actions a_firedRule a_firedTags a_bound a_candidates a_chosen row a_bestRow a_bestBound a_falling a_bestFalling := by
  have hr := hR.1
  have hcl := hR.2.2.1
  refine And.intro (vp_in_nI (by omega) (by omega)) ?_
  rw [nI_clamp (n := r) (by omega), hR.2.1]
  refine pk_le cs.length cs.length (fun _ => ?_) (fun h => absurd h (by omega))
  refine rx_hasFired h3 hn hfc rfl hrow hS (rm_b_0 (fun e => ?_) (fun e => ?_))
  · refine nm_e (rx_sortRow hp h1 h3 rfl hrow (fun fa hfa => ?_))
    have nt : rm_nt (rm_F n a_firedRule a_firedTags) r a (t, b) = (a.1 + 1, a.2.1 + 1, rm_up a.2.2 r (t, b)) := by
      unfold rm_nt
      rw [e]
      rfl
    rw [nt] at K
    have write : (rm_up a.2.2 r (t, b) = some (r, t, b)) → wX_note_115 post (nI r) f_used f_count f_lastTag f_ruleCount f_draftSize f_firedCount f_bestRule (nI t.length) f_bestSize (f_total + 1) (f_openTotal + 1) a_tags a_types a_fields a_ofType a_ofValue a_sizes a_patterns a_negative a_actions a_firedRule a_firedTags a_bound a_candidates a_chosen row a_bestRow a_bestBound fa a_bestFalling := by
      intro hu
      refine rx_note115 hr hR.2.1 hR.2.2.1 h3 rfl (fun bb br bf c1 c2 c3 => K _ _ _ _ _ _ _ _ _ _ ?_)
      rw [hu]
      refine ⟨by rw [hA.1], by rw [hA.2.1], rfl, hr, rfl, h1, h3, hp, fun k hk => ?_, fun k hk => ?_, fun v hv => ?_, hok⟩
      · rw [c2 k hk]; exact hrow k hk
      · rw [c3 k hk]; exact hfa k hk
      · rw [c1 v hv]; exact hB v hv
    cases hb : a.2.2 with
    | none =>
      have hbs := hA.2.2
      rw [hb] at hbs
      exact br_t hbs (write (by rw [hb]; rfl))
    | some w =>
      have hbs := hA.2.2
      rw [hb] at hbs
      obtain ⟨w1, w2, w3, w4, w5, w6, w7, w8, w9, w10⟩ := hbs
      refine br_f ?_ (rx_comesFirst hr w2 hp w6 h1 w4 h3 w5 rfl w3 w1 hrow w7 hfa w8 (rm_b_0 (fun g => ?_) (fun g => ?_)))
      · rw [w1]
        intro z
        have z2 := congrArg Int32.toInt z
        rw [nI_toInt (by omega)] at z2
        have z3 : (-1 : Int32).toInt = -1 := by decide
        omega
      · refine K _ _ _ _ _ _ _ _ _ _ ?_
        have hu : rm_up a.2.2 r (t, b) = a.2.2 := by
          rw [hb]
          show (if rm_bt r t w.1 w.2.1 = true then some (r, t, b) else some w) = some w
          rw [g]; rfl
        rw [hu]
        exact ⟨by rw [hA.1], by rw [hA.2.1], hA.2.2⟩
      · refine write ?_
        rw [hb]
        show (if rm_bt r t w.1 w.2.1 = true then some (r, t, b) else some w) = some (r, t, b)
        rw [g]; rfl
  · refine K _ _ _ _ _ _ _ _ _ _ ?_
    unfold rm_nt
    rw [e, if_pos rfl]
    exact ⟨by rw [hA.1], hA.2.1, hA.2.2⟩
theorem rx_note {cell : Nat → Option rm_El} (hE : rx_XE cell f_used a_tags a_types a_fields a_ofType a_ofValue) {cs : List rm_Cd} {r n : Nat} {t : List Int32} {b : rm_As} {a : rm_Ac} (hR : rx_RU cs r a_sizes a_patterns a_negative) (hB : rx_BD b (4 * cs.length) a_bound) (hok : rm_okb b) (hT : rx_PT cs cell a_tags a_chosen cs.length t) (h1 : 1 ≤ t.length) (hn : n ≤ 40) (hfc : f_firedCount = nI n)
    (hS : ∀ i, i < n → a_firedRule i = nI r → ∀ k, t.length ≤ k → k < 3 → a_firedTags (3 * i + k) = 0) (hA : rx_AX a f_bestRule f_bestSize f_total f_openTotal a_bestRow a_bestBound a_bestFalling) {post : SX → Prop}
    (K : ∀ (f_bestRule' f_rowSize' f_bestSize' f_total' f_openTotal' : Int32) (a_row' a_bestRow' a_bestBound' a_falling' a_bestFalling' : Nat → Int32), rx_AX (rm_nt (rm_F n a_firedRule a_firedTags) r a (t, b)) f_bestRule' f_bestSize' f_total' f_openTotal' a_bestRow' a_bestBound' a_bestFalling' → post (f_used, f_count, f_lastTag, f_ruleCount, f_draftSize, f_firedCount, f_bestRule', f_rowSize', f_bestSize', f_total', f_openTotal', a_tags, a_types, a_fields, a_ofType, a_ofValue, a_sizes, a_patterns, a_negative, a_actions, a_firedRule, a_firedTags, a_bound, a_candidates, a_chosen, a_row', a_bestRow', a_bestBound', a_falling', a_bestFalling')) : wpX_note post (f_used, f_count, f_lastTag, f_ruleCount, f_draftSize, f_firedCount, f_bestRule, f_rowSize, f_bestSize, f_total, f_openTotal, a_tags, a_types, a_fields, a_ofType, a_ofValue, a_sizes, a_patterns, a_negative, a_actions, a_firedRule, a_firedTags, a_bound, a_candidates, a_chosen, a_row, a_bestRow, a_bestBound, a_falling, a_bestFalling) (nI r) := by
  have hr := hR.1
  have hcl := hR.2.2.1
  have hp := rx_PT_pos (fun c x hx => ⟨(hE.1 c x hx).1, (hE.1 c x hx).2.1, (hE.1 c x hx).2.2.1⟩) hT
  have h3 : t.length ≤ 3 := by
    rw [hT.1]
    have := rx_tl_len cs a_tags a_chosen cs.length
    omega
  have loop : ∀ d k row, k + d = cs.length → (∀ j, j < (rx_tl cs a_tags a_chosen k).length → row j = rm_g (rx_tl cs a_tags a_chosen k) j) →
      wX_note_17 post (nI r) f_used f_count f_lastTag f_ruleCount f_draftSize f_firedCount f_bestRule f_bestSize (f_total + 1) f_openTotal (d + 1) (nI k) (nI (rx_tl cs a_tags a_chosen k).length) a_tags a_types a_fields a_ofType a_ofValue a_sizes a_patterns a_negative a_actions a_firedRule a_firedTags a_bound a_candidates a_chosen row a_bestRow a_bestBound a_falling a_bestFalling := by
    intro d
    induction d with
    | zero =>
      intro k row hk hrow
      have e : k = cs.length := by omega
      subst e
      rw [← hT.1] at hrow ⊢
      exact rx_noteEnd hR hB hok hp h1 h3 hn hfc hS hA K row hrow
    | succ d ih =>
      intro k row hk hrow
      have hlt : k < cs.length := by omega
      rcases hcs : cs[k] with ⟨q, ng⟩
      have hg : cs[k]? = some (q, ng) := by rw [List.getElem?_eq_getElem hlt, hcs]
      have hng : rm_ngf cs k = ng := by unfold rm_ngf; rw [hg]
      have hl := rx_tl_len cs a_tags a_chosen k
      refine And.intro (vp_in_nI (by omega) (by omega)) ?_
      rw [nI_clamp (n := r) (by omega), hR.2.1, rm_n3k]
      refine pk_le cs.length k (fun h => absurd h (by omega)) (fun _ => And.intro (vp_in_nI (by omega) (by omega)) ?_)
      rw [nI_clamp (n := 3 * r + k) (by omega), (hR.2.2.2 k q ng hg).2.2]
      refine rm_b_0 (fun e => ?_) (fun e => ?_)
      · rw [e] at hng
        obtain ⟨c, x, c1, c2⟩ := hT.2 k hlt hng
        have hc := (hE.1 c x c2).1
        refine And.intro (vp_in_nI (by omega) (by omega)) ?_
        rw [nI_clamp (n := k) (by omega), c1]
        refine And.intro (vp_in_nI hc (by omega)) (And.intro (vp_in_nI (by omega) (by omega)) (nm_e (nm_r (nI_1 _) (nm_r (nI_1 k) ?_))))
        rw [nI_clamp (n := c) (by omega), nI_clamp (n := (rx_tl cs a_tags a_chosen k).length) (by omega)]
        have es : rx_tl cs a_tags a_chosen (k + 1) = rx_tl cs a_tags a_chosen k ++ [a_tags c] := by
          rw [rx_tl_s, hng, c1, nI_clamp (n := c) (by omega)]; rfl
        have el : (rx_tl cs a_tags a_chosen (k + 1)).length = (rx_tl cs a_tags a_chosen k).length + 1 := by
          rw [es, List.length_append]; rfl
        rw [← el]
        refine ih (k + 1) _ (by omega) (fun j hj => ?_)
        rw [el] at hj
        by_cases ej : j = (rx_tl cs a_tags a_chosen k).length
        · subst ej
          rw [pk_us, es]
          unfold rm_g
          rw [List.getD_eq_getElem?_getD, List.getElem?_append_right (Nat.le_refl _), Nat.sub_self]
          rfl
        · rw [pk_un ej, hrow j (by omega), es]
          unfold rm_g
          rw [List.getD_eq_getElem?_getD, List.getD_eq_getElem?_getD, List.getElem?_append_left (by omega)]
      · rw [e] at hng
        have es : rx_tl cs a_tags a_chosen (k + 1) = rx_tl cs a_tags a_chosen k := by
          rw [rx_tl_s, hng]; exact List.append_nil _
        refine nm_r (nI_1 k) ?_
        have := ih (k + 1) row (by omega) (by rw [es]; exact hrow)
        rw [es] at this
        exact this
  exact nm_e (Exists.intro (cs.length + 1) (loop cs.length 0 a_row (by omega) (fun j hj => absurd hj (by show ¬ j < 0; omega))))
end
end
section
/-! ===== the component: the search ===== -/
def rm_B : Nat → Nat
  | 0 => 1
  | k + 1 => 1 + 12 * (1 + rm_B k)
def rm_oH (o : Option rm_El) (H : rm_El → List rm_It) : List rm_It := match o with
  | none => []
  | some e => H e
theorem rm_fm_oH (g : Nat → Option rm_El) (H : rm_El → List rm_It) : ∀ l : List Nat, (l.filterMap g).flatMap H = l.flatMap (fun c => rm_oH (g c) H)
  | [] => rfl
  | c :: l => by
    rw [List.flatMap_cons, ← rm_fm_oH g H l]
    cases h : g c with
    | none => rw [List.filterMap_cons_none h]; rfl
    | some e => rw [List.filterMap_cons_some h, List.flatMap_cons]; rfl
theorem rm_mt_pos (cell : Nat → Option rm_El) (q : Nat) (cs : List rm_Cd) (b : rm_As) (t : List Int32) :
    rm_mt (rm_ce cell) ((q, false) :: cs) b t = (List.range' 0 12).flatMap (fun c => rm_oH (cell c) (fun e => if rm_ft q b e then rm_mt (rm_ce cell) cs (rm_ex q e.2.2 b) (t ++ [e.1]) else [])) := by
  rw [← List.range_eq_range', ← rm_fm_oH]
  rfl
theorem rm_np_app : ∀ (cs : List rm_Cd) (q : Nat), rm_np ((q, true) :: cs) = rm_np cs ∧ rm_np ((q, false) :: cs) = rm_np cs + 1 := fun _ _ => ⟨rfl, rfl⟩
section
variable {f_used f_count f_lastTag f_ruleCount f_draftSize f_firedCount f_bestRule f_rowSize f_bestSize f_total f_openTotal : Int32} {a_tags a_types a_fields a_ofType a_ofValue a_sizes a_patterns a_negative a_actions a_firedRule a_firedTags a_bound a_candidates a_chosen a_row a_bestRow a_bestBound a_falling a_bestFalling : Nat → Int32}
theorem rx_pop {cs : List rm_Cd} {r d step : Nat} (hR : rx_RU cs r a_sizes a_patterns a_negative) (hd : d < cs.length) (hw : a_candidates d = 0) (hst : step < 40000) {post : SX → Prop}
    (K : wX_search_30 post (nI r) (40001 - (step + 1)) (nI d + (-1)) (nI (step + 1)) f_used f_count f_lastTag f_ruleCount f_draftSize f_firedCount f_bestRule f_rowSize f_bestSize f_total f_openTotal a_tags a_types a_fields a_ofType a_ofValue a_sizes a_patterns a_negative a_actions a_firedRule a_firedTags a_bound a_candidates a_chosen a_row a_bestRow a_bestBound a_falling a_bestFalling) : wX_search_30 post (nI r) (40001 - step) (nI d) (nI step) f_used f_count f_lastTag f_ruleCount f_draftSize f_firedCount f_bestRule f_rowSize f_bestSize f_total f_openTotal a_tags a_types a_fields a_ofType a_ofValue a_sizes a_patterns a_negative a_actions a_firedRule a_firedTags a_bound a_candidates a_chosen a_row a_bestRow a_bestBound a_falling a_bestFalling := by
  have hr := hR.1
  have hl := hR.2.2.1
  have e : 40001 - step = 40000 - step + 1 := by omega
  have e2 : 40001 - (step + 1) = 40000 - step := by omega
  rw [e2] at K
  rw [e]
  refine pk_le 40000 step (fun h => absurd h (by omega)) (fun _ => pk_lt d 0 (fun h => absurd h (by omega)) (fun _ => And.intro (vp_in_nI (by omega) (by omega)) ?_))
  rw [nI_clamp (n := r) (by omega), hR.2.1]
  refine pk_eq d cs.length (fun h => absurd h (by omega)) (fun _ => And.intro (vp_in_nI (by omega) (by omega)) ?_)
  rw [nI_clamp (n := d) (by omega), hw]
  exact br_t rfl (nm_e (nm_r (nI_1 step) K))
theorem rx_down {cell : Nat → Option rm_El} (hE : rx_XE cell f_used a_tags a_types a_fields a_ofType a_ofValue) {cs : List rm_Cd} {r d c q step : Nat} {ng : Bool} {w : Int32} (hR : rx_RU cs r a_sizes a_patterns a_negative) (hg : cs[d]? = some (q, ng)) {b b' : rm_As} (hok : rm_okb b') (hB : rx_BD b (4 * d) a_bound)
    (hw : a_candidates d = w) (hb1 : bt w c = true) (hb0 : ∀ j, j < c → bt w j = false) (hcase : (c = 15 ∧ b' = b) ∨ (∃ x, cell c = some x ∧ b' = rm_ex q x.2.2 b)) (hst : step < 40000) {post : SX → Prop}
    (K : ∀ bd ca, (∀ m, m < 4 * d + 4 → bd m = a_bound m) → rx_BD b' (4 * (d + 1)) bd → (∀ i, i < d → ca i = a_candidates i) → ca d = (w &&& (((1 : Int32) <<< (nI c &&& 31)) ^^^ (-1))) → (∀ q2 n2, cs[d + 1]? = some (q2, n2) → rx_WD cell q2 b' n2 (ca (d + 1))) →
      wX_search_30 post (nI r) (40001 - (step + 1)) (nI (d + 1)) (nI (step + 1)) f_used f_count f_lastTag f_ruleCount f_draftSize f_firedCount f_bestRule f_rowSize f_bestSize f_total f_openTotal a_tags a_types a_fields a_ofType a_ofValue a_sizes a_patterns a_negative a_actions a_firedRule a_firedTags bd ca (upd a_chosen d (nI c)) a_row a_bestRow a_bestBound a_falling a_bestFalling) :
    wX_search_30 post (nI r) (40001 - step) (nI d) (nI step) f_used f_count f_lastTag f_ruleCount f_draftSize f_firedCount f_bestRule f_rowSize f_bestSize f_total f_openTotal a_tags a_types a_fields a_ofType a_ofValue a_sizes a_patterns a_negative a_actions a_firedRule a_firedTags a_bound a_candidates a_chosen a_row a_bestRow a_bestBound a_falling a_bestFalling := by
  have hr := hR.1
  have hl := hR.2.2.1
  have hd := (List.getElem?_eq_some_iff.mp hg).1
  have hc : c < 32 := by
    rcases hcase with ⟨e, _⟩ | ⟨x, hx, _⟩
    · omega
    · have := (hE.1 c x hx).1; omega
  have e : 40001 - step = 40000 - step + 1 := by omega
  have e2 : 40001 - (step + 1) = 40000 - step := by omega
  rw [e2] at K
  rw [e]
  refine pk_le 40000 step (fun h => absurd h (by omega)) (fun _ => pk_lt d 0 (fun h => absurd h (by omega)) (fun _ => And.intro (vp_in_nI (by omega) (by omega)) ?_))
  rw [nI_clamp (n := r) (by omega), hR.2.1]
  refine pk_eq d cs.length (fun h => absurd h (by omega)) (fun _ => And.intro (vp_in_nI (by omega) (by omega)) ?_)
  rw [nI_clamp (n := d) (by omega)]
  have hne : ¬ a_candidates d = 0 := by
    intro z
    rw [← hw, z, b_0] at hb1
    exact absurd hb1 (by simp)
  refine br_f hne (rx_choose hE hR hg hB hw hb1 hb0 hcase (fun bd k1 k2 => nm_r (nI_1 d) ?_))
  have k2 : rx_BD b' (4 * (d + 1)) bd := by
    have e3 : 4 * (d + 1) = 4 * d + 4 := by omega
    rw [e3]; exact k2
  refine rx_openDepth hE hR (by omega) hok k2 (fun hd1 => ?_) (fun q2 n2 w2 g2 hw2 => ?_)
  · refine nm_r (nI_1 step) (K bd _ k1 k2 (fun i hi => pk_un (by omega)) pk_us (fun q2 n2 g2 => ?_))
    have := (List.getElem?_eq_some_iff.mp g2).1
    omega
  · refine nm_r (nI_1 step) (K bd _ k1 k2 (fun i hi => ?_) ?_ (fun q3 n3 g3 => ?_))
    · rw [pk_un (by omega), pk_un (by omega)]
    · rw [pk_un (by omega), pk_us]
    · rw [g2] at g3
      cases g3
      rw [pk_us]
      exact hw2
end
section
variable {f_used f_count f_lastTag f_ruleCount f_draftSize f_firedCount : Int32} {a_tags a_types a_fields a_ofType a_ofValue a_sizes a_patterns a_negative a_actions a_firedRule a_firedTags : Nat → Int32}
theorem rx_srch {cell : Nat → Option rm_El} (hE : rx_XE cell f_used a_tags a_types a_fields a_ofType a_ofValue) {cs : List rm_Cd} {r n : Nat} (hR : rx_RU cs r a_sizes a_patterns a_negative) (hnp : 1 ≤ rm_np cs) (hn : n ≤ 40) (hfc : f_firedCount = nI n)
    (hS : ∀ i, i < n → a_firedRule i = nI r → ∀ k, rm_np cs ≤ k → k < 3 → a_firedTags (3 * i + k) = 0) {post : SX → Prop} :
    ∀ (rest : List rm_Cd) (d : Nat), cs.drop d = rest → d ≤ cs.length → ∀ (step : Nat) (b : rm_As) (t : List Int32) (a : rm_Ac) (f_bestRule f_rowSize f_bestSize f_total f_openTotal : Int32) (a_bound a_candidates a_chosen a_row a_bestRow a_bestBound a_falling a_bestFalling : Nat → Int32), step + rm_B rest.length ≤ 40000 → rm_okb b → rx_BD b (4 * d) a_bound → rx_PT cs cell a_tags a_chosen d t → t.length + rm_np rest = rm_np cs →
      (∀ q ng, cs[d]? = some (q, ng) → rx_WD cell q b ng (a_candidates d)) → rx_AX a f_bestRule f_bestSize f_total f_openTotal a_bestRow a_bestBound a_bestFalling →
      (∀ (step' : Nat) (f_bestRule' f_rowSize' f_bestSize' f_total' f_openTotal' : Int32) (a_bound' a_candidates' a_chosen' a_row' a_bestRow' a_bestBound' a_falling' a_bestFalling' : Nat → Int32), step' ≤ step + rm_B rest.length → rx_AX ((rm_mt (rm_ce cell) rest b t).foldl (rm_nt (rm_F n a_firedRule a_firedTags) r) a) f_bestRule' f_bestSize' f_total' f_openTotal' a_bestRow' a_bestBound' a_bestFalling' → (∀ i, i < 4 * d + 4 → a_bound' i = a_bound i) → (∀ i, i < d → a_candidates' i = a_candidates i) → (∀ i, i < d → a_chosen' i = a_chosen i) →
        wX_search_30 post (nI r) (40001 - step') (nI d + (-1)) (nI step') f_used f_count f_lastTag f_ruleCount f_draftSize f_firedCount f_bestRule' f_rowSize' f_bestSize' f_total' f_openTotal' a_tags a_types a_fields a_ofType a_ofValue a_sizes a_patterns a_negative a_actions a_firedRule a_firedTags a_bound' a_candidates' a_chosen' a_row' a_bestRow' a_bestBound' a_falling' a_bestFalling') →
      wX_search_30 post (nI r) (40001 - step) (nI d) (nI step) f_used f_count f_lastTag f_ruleCount f_draftSize f_firedCount f_bestRule f_rowSize f_bestSize f_total f_openTotal a_tags a_types a_fields a_ofType a_ofValue a_sizes a_patterns a_negative a_actions a_firedRule a_firedTags a_bound a_candidates a_chosen a_row a_bestRow a_bestBound a_falling a_bestFalling := by
  have hr := hR.1
  have hl := hR.2.2.1
  intro rest
  induction rest with
  | nil =>
    intro d hdrop hd step b t a f_bestRule f_rowSize f_bestSize f_total f_openTotal a_bound a_candidates a_chosen a_row a_bestRow a_bestBound a_falling a_bestFalling hst hok hB hT htl hW hA K
    have hd : d = cs.length := by
      have := List.drop_eq_nil_iff.mp hdrop
      omega
    subst hd
    have htl : t.length = rm_np cs := htl
    have hst : step + 1 ≤ 40000 := hst
    have e : 40001 - step = 40000 - step + 1 := by omega
    have e2 : 40001 - (step + 1) = 40000 - step := by omega
    rw [e]
    refine pk_le 40000 step (fun h => absurd h (by omega)) (fun _ => pk_lt cs.length 0 (fun h => absurd h (by omega)) (fun _ => And.intro (vp_in_nI (by omega) (by omega)) ?_))
    rw [nI_clamp (n := r) (by omega), hR.2.1]
    refine pk_eq cs.length cs.length (fun _ => ?_) (fun h => absurd rfl h)
    refine rx_note hE hR hB hok hT (by omega) hn hfc (by rw [htl]; exact hS) hA (fun f_bestRule' f_rowSize' f_bestSize' f_total' f_openTotal' a_row' a_bestRow' a_bestBound' a_falling' a_bestFalling' hA' => nm_e (nm_r (nI_1 step) ?_))
    have k := K (step + 1) f_bestRule' f_rowSize' f_bestSize' f_total' f_openTotal' a_bound a_candidates a_chosen a_row' a_bestRow' a_bestBound' a_falling' a_bestFalling' (Nat.le_refl _) hA' (fun _ _ => rfl) (fun _ _ => rfl) (fun _ _ => rfl)
    rw [e2] at k
    exact k
  | cons cd rest SUB =>
    intro d hdrop hd step b t a f_bestRule f_rowSize f_bestSize f_total f_openTotal a_bound a_candidates a_chosen a_row a_bestRow a_bestBound a_falling a_bestFalling hst hok hB hT htl hW hA K
    obtain ⟨q, ng⟩ := cd
    have hlt : d < cs.length := by
      by_cases z : d < cs.length
      · exact z
      · rw [List.drop_eq_nil_iff.mpr (by omega)] at hdrop
        exact absurd hdrop (by simp)
    have hdr := List.drop_eq_getElem_cons hlt
    rw [hdrop] at hdr
    obtain ⟨hd1, hd2⟩ := List.cons.inj hdr
    have hg : cs[d]? = some (q, ng) := by rw [List.getElem?_eq_getElem hlt, hd1]
    have hng : rm_ngf cs d = ng := by unfold rm_ngf; rw [hg]
    have hw := hW q ng hg
    have hBn : rm_B ((q, ng) :: rest).length = 1 + 12 * (1 + rm_B rest.length) := rfl
    rw [hBn] at hst K
    cases ng with
    | true =>
      have hw : a_candidates d = if (rm_ce cell).any (rm_ft q b) = true then 0 else 32768 := hw
      by_cases hany : (rm_ce cell).any (rm_ft q b) = true
      · rw [if_pos hany] at hw
        refine rx_pop hR hlt hw (by omega) (K (step + 1) f_bestRule f_rowSize f_bestSize f_total f_openTotal a_bound a_candidates a_chosen a_row a_bestRow a_bestBound a_falling a_bestFalling (by omega) ?_ (fun _ _ => rfl) (fun _ _ => rfl) (fun _ _ => rfl))
        have e : rm_mt (rm_ce cell) ((q, true) :: rest) b t = [] := by unfold rm_mt; rw [if_pos hany]
        rw [e]
        exact hA
      · rw [if_neg hany] at hw
        have e : rm_mt (rm_ce cell) ((q, true) :: rest) b t = rm_mt (rm_ce cell) rest b t := by rw [rm_mt, if_neg hany]
        rw [e] at K
        refine rx_down hE hR hg hok hB hw (c := 15) (by decide) (by decide) (Or.inl ⟨rfl, rfl⟩) (by omega) (fun bd ca k1 k2 k3 k4 k5 => ?_)
        refine SUB (d + 1) hd2.symm (by omega) (step + 1) b t a f_bestRule f_rowSize f_bestSize f_total f_openTotal bd ca (upd a_chosen d (nI 15)) a_row a_bestRow a_bestBound a_falling a_bestFalling (by omega) hok k2 ?_ htl k5 hA ?_
        · refine ⟨?_, fun k hk hkn => ?_⟩
          · rw [rx_tl_s, hng, rx_tl_c (chosen := a_chosen) d (fun i hi => pk_un (by omega)), ← hT.1]
            exact (List.append_nil t).symm
          · by_cases ek : k = d
            · subst ek; rw [hng] at hkn; exact absurd hkn (by simp)
            · rw [pk_un ek]; exact hT.2 k (by omega) hkn
        · intro step' f_bestRule' f_rowSize' f_bestSize' f_total' f_openTotal' a_bound' a_candidates' a_chosen' a_row' a_bestRow' a_bestBound' a_falling' a_bestFalling' s1 hA' f1 f2 f3
          rw [pk_m1]
          have z0 : a_candidates' d = 0 := by
            rw [f2 d (by omega), k4]
            decide
          refine rx_pop hR hlt z0 (by omega) (K (step' + 1) f_bestRule' f_rowSize' f_bestSize' f_total' f_openTotal' a_bound' a_candidates' a_chosen' a_row' a_bestRow' a_bestBound' a_falling' a_bestFalling' (by omega) hA' (fun i hi => ?_) (fun i hi => ?_) (fun i hi => ?_))
          · rw [f1 i (by omega)]; exact k1 i hi
          · rw [f2 i (by omega)]; exact k3 i hi
          · rw [f3 i (by omega)]; exact pk_un (by omega)
    | false =>
      have hw : ∀ i, i < 32 → bt (a_candidates d) i = rm_q (cell i) (rm_ft q b) := hw
      have htl : t.length + (rm_np rest + 1) = rm_np cs := htl
      rw [rm_mt_pos] at K
      have inner : ∀ (m j : Nat), j + m = 12 → ∀ (st1 : Nat) (a1 : rm_Ac) (f_bestRule1 f_rowSize1 f_bestSize1 f_total1 f_openTotal1 : Int32) (a_bound1 a_candidates1 a_chosen1 a_row1 a_bestRow1 a_bestBound1 a_falling1 a_bestFalling1 : Nat → Int32), st1 + 1 + m * (1 + rm_B rest.length) ≤ step + (1 + 12 * (1 + rm_B rest.length)) → (∀ i, i < 4 * d + 4 → a_bound1 i = a_bound i) → (∀ i, i < d → a_candidates1 i = a_candidates i) → (∀ i, i < d → a_chosen1 i = a_chosen i) →
          (∀ i, i < 32 → bt (a_candidates1 d) i = (decide (j ≤ i) && rm_q (cell i) (rm_ft q b))) → rx_AX a1 f_bestRule1 f_bestSize1 f_total1 f_openTotal1 a_bestRow1 a_bestBound1 a_bestFalling1 →
          (((List.range' j m).flatMap (fun c => rm_oH (cell c) (fun e => if rm_ft q b e then rm_mt (rm_ce cell) rest (rm_ex q e.2.2 b) (t ++ [e.1]) else []))).foldl (rm_nt (rm_F n a_firedRule a_firedTags) r) a1 = ((List.range' 0 12).flatMap (fun c => rm_oH (cell c) (fun e => if rm_ft q b e then rm_mt (rm_ce cell) rest (rm_ex q e.2.2 b) (t ++ [e.1]) else []))).foldl (rm_nt (rm_F n a_firedRule a_firedTags) r) a) →
          wX_search_30 post (nI r) (40001 - st1) (nI d) (nI st1) f_used f_count f_lastTag f_ruleCount f_draftSize f_firedCount f_bestRule1 f_rowSize1 f_bestSize1 f_total1 f_openTotal1 a_tags a_types a_fields a_ofType a_ofValue a_sizes a_patterns a_negative a_actions a_firedRule a_firedTags a_bound1 a_candidates1 a_chosen1 a_row1 a_bestRow1 a_bestBound1 a_falling1 a_bestFalling1 := by
        intro m
        induction m with
        | zero =>
          intro j hj st1 a1 f_bestRule1 f_rowSize1 f_bestSize1 f_total1 f_openTotal1 a_bound1 a_candidates1 a_chosen1 a_row1 a_bestRow1 a_bestBound1 a_falling1 a_bestFalling1 hs1 f1 f2 f3 hbits hA1 hfold
          have z0 : a_candidates1 d = 0 := by
            apply rm_zero
            intro i hi
            rw [hbits i hi]
            by_cases hij : j ≤ i
            · cases hc : cell i with
              | none => simp [rm_q]
              | some x => have := (hE.1 i x hc).1; omega
            · rw [decide_eq_false hij, Bool.false_and]
          refine rx_pop hR hlt z0 (by omega) (K (st1 + 1) f_bestRule1 f_rowSize1 f_bestSize1 f_total1 f_openTotal1 a_bound1 a_candidates1 a_chosen1 a_row1 a_bestRow1 a_bestBound1 a_falling1 a_bestFalling1 (by omega) ?_ f1 f2 f3)
          rw [← hfold]
          exact hA1
        | succ m IN =>
          intro j hj st1 a1 f_bestRule1 f_rowSize1 f_bestSize1 f_total1 f_openTotal1 a_bound1 a_candidates1 a_chosen1 a_row1 a_bestRow1 a_bestBound1 a_falling1 a_bestFalling1 hs1 f1 f2 f3 hbits hA1 hfold
          have hmul : (m + 1) * (1 + rm_B rest.length) = m * (1 + rm_B rest.length) + (1 + rm_B rest.length) := Nat.succ_mul _ _
          rw [hmul] at hs1
          have hrng : List.range' j (m + 1) = j :: List.range' (j + 1) m := rfl
          rw [hrng, List.flatMap_cons, List.foldl_append] at hfold
          cases hgood : rm_q (cell j) (rm_ft q b) with
          | false =>
            refine IN (j + 1) (by omega) st1 a1 f_bestRule1 f_rowSize1 f_bestSize1 f_total1 f_openTotal1 a_bound1 a_candidates1 a_chosen1 a_row1 a_bestRow1 a_bestBound1 a_falling1 a_bestFalling1 (by omega) f1 f2 f3 ?_ hA1 ?_
            · intro i hi
              rw [hbits i hi]
              by_cases e : i = j
              · subst e; rw [hgood, Bool.and_false, Bool.and_false]
              · have e2 : decide (j ≤ i) = decide (j + 1 ≤ i) := by rw [decide_eq_decide]; omega
                rw [e2]
            · have e : rm_oH (cell j) (fun e => if rm_ft q b e then rm_mt (rm_ce cell) rest (rm_ex q e.2.2 b) (t ++ [e.1]) else []) = [] := by
                cases hc : cell j with
                | none => rfl
                | some x =>
                  rw [hc] at hgood
                  have hgood : rm_ft q b x = false := hgood
                  show (if rm_ft q b x = true then _ else []) = []
                  rw [hgood]; rfl
              rw [e] at hfold
              exact hfold
          | true =>
            cases hc : cell j with
            | none => rw [hc] at hgood; exact absurd hgood (by simp [rm_q])
            | some x =>
              have hft : rm_ft q b x = true := by rw [hc] at hgood; exact hgood
              have hx := hE.1 j x hc
              have e : rm_oH (cell j) (fun e => if rm_ft q b e then rm_mt (rm_ce cell) rest (rm_ex q e.2.2 b) (t ++ [e.1]) else []) = rm_mt (rm_ce cell) rest (rm_ex q x.2.2 b) (t ++ [x.1]) := by
                rw [hc]
                show (if rm_ft q b x = true then _ else []) = _
                rw [hft]; rfl
              rw [e] at hfold
              refine rx_down hE hR hg (rm_okb_ex hok q x.2.2) (b := b) (w := a_candidates1 d) ?_ rfl (c := j) ?_ ?_ (Or.inr ⟨x, hc, rfl⟩) (by omega) (fun bd ca k1 k2 k3 k4 k5 => ?_)
              · intro v hv
                rw [f1 _ (by omega)]; exact hB v hv
              · rw [hbits j (by omega), hgood, decide_eq_true (Nat.le_refl j)]; rfl
              · intro i hi
                rw [hbits i (by omega), decide_eq_false (by omega), Bool.false_and]
              · refine SUB (d + 1) hd2.symm (by omega) (st1 + 1) (rm_ex q x.2.2 b) (t ++ [x.1]) a1 f_bestRule1 f_rowSize1 f_bestSize1 f_total1 f_openTotal1 bd ca (upd a_chosen1 d (nI j)) a_row1 a_bestRow1 a_bestBound1 a_falling1 a_bestFalling1 (by omega) (rm_okb_ex hok q x.2.2) k2 ?_ ?_ k5 hA1 ?_
                · refine ⟨?_, fun k hk hkn => ?_⟩
                  · rw [rx_tl_s, hng, rx_tl_c (chosen := a_chosen1) d (fun i hi => pk_un (by omega)), rx_tl_c (chosen := a_chosen) d f3, ← hT.1, pk_us, nI_clamp (n := j) (by omega), hx.2.1]
                    rfl
                  · by_cases ek : k = d
                    · subst ek; rw [pk_us]; exact ⟨j, x, rfl, hc⟩
                    · rw [pk_un ek, f3 k (by omega)]; exact hT.2 k (by omega) hkn
                · rw [List.length_append]
                  show t.length + 1 + rm_np rest = rm_np cs
                  omega
                · intro step' f_bestRule' f_rowSize' f_bestSize' f_total' f_openTotal' a_bound' a_candidates' a_chosen' a_row' a_bestRow' a_bestBound' a_falling' a_bestFalling' s1 hA' g1 g2 g3
                  rw [pk_m1]
                  refine IN (j + 1) (by omega) step' _ f_bestRule' f_rowSize' f_bestSize' f_total' f_openTotal' a_bound' a_candidates' a_chosen' a_row' a_bestRow' a_bestBound' a_falling' a_bestFalling' (by omega) (fun i hi => ?_) (fun i hi => ?_) (fun i hi => ?_) (fun i hi => ?_) hA' hfold
                  · rw [g1 i (by omega), k1 i hi]; exact f1 i hi
                  · rw [g2 i (by omega), k3 i hi]; exact f2 i hi
                  · rw [g3 i (by omega), pk_un (by omega)]; exact f3 i hi
                  · rw [g2 d (by omega), k4, rm_clr _ (by omega) hi, hbits i hi]
                    by_cases e : i = j
                    · subst e
                      rw [decide_eq_true rfl, decide_eq_false (p := i + 1 ≤ i) (by omega)]
                      simp
                    · have e2 : decide (j ≤ i) = decide (j + 1 ≤ i) := by rw [decide_eq_decide]; omega
                      rw [e2, decide_eq_false e]; simp
      refine inner 12 0 rfl step a f_bestRule f_rowSize f_bestSize f_total f_openTotal a_bound a_candidates a_chosen a_row a_bestRow a_bestBound a_falling a_bestFalling (by omega) (fun _ _ => rfl) (fun _ _ => rfl) (fun _ _ => rfl) (fun i hi => ?_) hA rfl
      rw [hw i hi, decide_eq_true (Nat.zero_le i), Bool.true_and]
end
section
variable {f_used f_count f_lastTag f_ruleCount f_draftSize f_firedCount f_bestRule f_rowSize f_bestSize f_total f_openTotal : Int32} {a_tags a_types a_fields a_ofType a_ofValue a_sizes a_patterns a_negative a_actions a_firedRule a_firedTags a_bound a_candidates a_chosen a_row a_bestRow a_bestBound a_falling a_bestFalling : Nat → Int32}
theorem rx_search {cell : Nat → Option rm_El} (hE : rx_XE cell f_used a_tags a_types a_fields a_ofType a_ofValue) {cs : List rm_Cd} {r n : Nat} (hR : rx_RU cs r a_sizes a_patterns a_negative) (hnp : 1 ≤ rm_np cs) (hn : n ≤ 40) (hfc : f_firedCount = nI n)
    (hS : ∀ i, i < n → a_firedRule i = nI r → ∀ k, rm_np cs ≤ k → k < 3 → a_firedTags (3 * i + k) = 0) {a : rm_Ac} (hA : rx_AX a f_bestRule f_bestSize f_total f_openTotal a_bestRow a_bestBound a_bestFalling) {post : SX → Prop}
    (K : ∀ (f_bestRule' f_rowSize' f_bestSize' f_total' f_openTotal' : Int32) (a_bound' a_candidates' a_chosen' a_row' a_bestRow' a_bestBound' a_falling' a_bestFalling' : Nat → Int32), rx_AX ((rm_mt (rm_ce cell) cs (fun _ => none) []).foldl (rm_nt (rm_F n a_firedRule a_firedTags) r) a) f_bestRule' f_bestSize' f_total' f_openTotal' a_bestRow' a_bestBound' a_bestFalling' → post (f_used, f_count, f_lastTag, f_ruleCount, f_draftSize, f_firedCount, f_bestRule', f_rowSize', f_bestSize', f_total', f_openTotal', a_tags, a_types, a_fields, a_ofType, a_ofValue, a_sizes, a_patterns, a_negative, a_actions, a_firedRule, a_firedTags, a_bound', a_candidates', a_chosen', a_row', a_bestRow', a_bestBound', a_falling', a_bestFalling')) : wpX_search post (f_used, f_count, f_lastTag, f_ruleCount, f_draftSize, f_firedCount, f_bestRule, f_rowSize, f_bestSize, f_total, f_openTotal, a_tags, a_types, a_fields, a_ofType, a_ofValue, a_sizes, a_patterns, a_negative, a_actions, a_firedRule, a_firedTags, a_bound, a_candidates, a_chosen, a_row, a_bestRow, a_bestBound, a_falling, a_bestFalling) (nI r) := by
  have hr := hR.1
  have hl := hR.2.2.1
  have loop : ∀ d k bd, k + d = 4 → (∀ v, v < k → bd v = -1) → wX_search_4 post (nI r) 0 f_used f_count f_lastTag f_ruleCount f_draftSize f_firedCount f_bestRule f_rowSize f_bestSize f_total f_openTotal (d + 1) (nI k) a_tags a_types a_fields a_ofType a_ofValue a_sizes a_patterns a_negative a_actions a_firedRule a_firedTags bd a_candidates a_chosen a_row a_bestRow a_bestBound a_falling a_bestFalling := by
    intro d
    induction d with
    | zero =>
      intro k bd hk h
      have e : k = 4 := by omega
      subst e
      refine pk_le 4 4 (fun _ => ?_) (fun h => absurd h (by omega))
      have hB : rx_BD (fun _ => none) (4 * 0) bd := fun v hv => by
        rw [show 4 * 0 + v = v by omega]
        exact h v (by omega)
      have go : ∀ ca, (∀ q ng, cs[0]? = some (q, ng) → rx_WD cell q (fun _ => none) ng (ca 0)) → wX_search_30 post (nI r) 40001 0 0 f_used f_count f_lastTag f_ruleCount f_draftSize f_firedCount f_bestRule f_rowSize f_bestSize f_total f_openTotal a_tags a_types a_fields a_ofType a_ofValue a_sizes a_patterns a_negative a_actions a_firedRule a_firedTags bd ca a_chosen a_row a_bestRow a_bestBound a_falling a_bestFalling := by
        intro ca hca
        have hb : rm_B cs.length ≤ 40000 := by
          have hc : cs.length = 0 ∨ cs.length = 1 ∨ cs.length = 2 ∨ cs.length = 3 := by omega
          rcases hc with e | e | e | e <;> rw [e] <;> decide
        refine rx_srch hE hR hnp hn hfc hS cs 0 rfl (Nat.zero_le _) 0 (fun _ => none) [] a f_bestRule f_rowSize f_bestSize f_total f_openTotal bd ca a_chosen a_row a_bestRow a_bestBound a_falling a_bestFalling (by omega) rm_okb0 hB ⟨rfl, fun k hk => absurd hk (by omega)⟩ (by show 0 + _ = _; omega) hca hA ?_
        intro step' f_bestRule' f_rowSize' f_bestSize' f_total' f_openTotal' a_bound' a_candidates' a_chosen' a_row' a_bestRow' a_bestBound' a_falling' a_bestFalling' s1 hA' _ _ _
        have e : 40001 - step' = 40000 - step' + 1 := by omega
        rw [e]
        refine pk_le 40000 step' (fun _ => K f_bestRule' f_rowSize' f_bestSize' f_total' f_openTotal' a_bound' a_candidates' a_chosen' a_row' a_bestRow' a_bestBound' a_falling' a_bestFalling' hA') (fun _ => br_t ?_ (K f_bestRule' f_rowSize' f_bestSize' f_total' f_openTotal' a_bound' a_candidates' a_chosen' a_row' a_bestRow' a_bestBound' a_falling' a_bestFalling' hA'))
        decide
      refine rx_openDepth hE hR (Nat.zero_le _) rm_okb0 hB (fun e => Exists.intro 40001 (go _ (fun q ng hq => ?_))) (fun q ng w hq hw => Exists.intro 40001 (go _ (fun q2 n2 hq2 => ?_)))
      · have := (List.getElem?_eq_some_iff.mp hq).1
        omega
      · rw [hq] at hq2
        cases hq2
        rw [pk_us]
        exact hw
    | succ d ih =>
      intro k bd hk h
      refine pk_le 4 k (fun h => absurd h (by omega)) (fun _ => And.intro (vp_in_nI (by omega) (by omega)) (nm_e (nm_r (nI_1 k) ?_)))
      rw [nI_clamp (n := k) (by omega)]
      refine ih (k + 1) _ (by omega) (fun v hv => ?_)
      by_cases e : v = k
      · subst e; exact pk_us
      · rw [pk_un e]; exact h v (by omega)
  exact Exists.intro 5 (loop 4 0 a_bound rfl (fun v hv => absurd hv (by omega)))
end
end
section
/-! ===== the component's methods over the abstract state ===== -/
abbrev rm_Ru : Type := List rm_Cd × Nat
def rx_RL (R : List rm_Ru) (a_sizes a_patterns a_negative a_actions : Nat → Int32) : Prop := ∀ r c, R[r]? = some c → rx_RU c.1 r a_sizes a_patterns a_negative ∧ a_actions r = nI c.2
def rx_CO (D : List rm_Cd) (base : Nat) (pat neg : Nat → Int32) : Prop := ∀ k q n, D[k]? = some (q, n) → pat (base + k) = nI q ∧ q < 32000 ∧ neg (base + k) = rm_b n
/-- what a list of rules keeps: at most five, each with a positive condition, and actions that name a positive condition -/
def rm_RV (R : List rm_Ru) : Prop := R.length ≤ 5 ∧ ∀ c, c ∈ R → 1 ≤ rm_np c.1 ∧ c.1.length ≤ 3 ∧ c.2 < 32004 ∧ (1 ≤ c.2 → c.2 ≤ 3 → c.2 ≤ rm_np c.1)
def rm_tk (f : rm_FE) (k : Nat) : Int32 := if k = 0 then f.2.1 else if k = 1 then f.2.2.1 else f.2.2.2
def rm_FS (R : List rm_Ru) (F : List rm_FE) : Prop := ∀ f, f ∈ F → ∃ r c, R[r]? = some c ∧ f.1 = nI r ∧ ∀ k, rm_np c.1 ≤ k → k < 3 → rm_tk f k = 0
def rm_all (E : List rm_El) (F : List rm_FE) (R : List rm_Ru) : Nat → rm_Ac
  | 0 => (0, 0, none)
  | r + 1 => match R[r]? with
    | none => rm_all E F R r
    | some c => (rm_mt E c.1 (fun _ => none) []).foldl (rm_nt F r) (rm_all E F R r)
theorem rm_all_s {E : List rm_El} {F : List rm_FE} {R : List rm_Ru} {r : Nat} {c : rm_Ru} (h : R[r]? = some c) : rm_all E F R (r + 1) = (rm_mt E c.1 (fun _ => none) []).foldl (rm_nt F r) (rm_all E F R r) := by
  rw [rm_all, h]
def rz_X (cell : Nat → Option rm_El) (N : Nat) (R : List rm_Ru) (D : List rm_Cd) (F : List rm_FE) (L : Nat) (u : SX) : Prop := match u with
  | (f_used, f_count, f_lastTag, f_ruleCount, f_draftSize, f_firedCount, f_bestRule, f_rowSize, f_bestSize, f_total, f_openTotal, a_tags, a_types, a_fields, a_ofType, a_ofValue, a_sizes, a_patterns, a_negative, a_actions, a_firedRule, a_firedTags, a_bound, a_candidates, a_chosen, a_row, a_bestRow, a_bestBound, a_falling, a_bestFalling) => rx_XE cell f_used a_tags a_types a_fields a_ofType a_ofValue ∧ f_count = nI N ∧ f_lastTag = nI L ∧ f_ruleCount = nI R.length ∧ f_draftSize = nI D.length ∧ f_firedCount = nI F.length ∧ rm_F F.length a_firedRule a_firedTags = F ∧ rx_RL R a_sizes a_patterns a_negative a_actions ∧ rx_CO D 15 a_patterns a_negative ∧ ∃ a, rx_AX a f_bestRule f_bestSize f_total f_openTotal a_bestRow a_bestBound a_bestFalling
def rz_br (u : SX) : Int32 := match u with
  | (f_used, f_count, f_lastTag, f_ruleCount, f_draftSize, f_firedCount, f_bestRule, f_rowSize, f_bestSize, f_total, f_openTotal, a_tags, a_types, a_fields, a_ofType, a_ofValue, a_sizes, a_patterns, a_negative, a_actions, a_firedRule, a_firedTags, a_bound, a_candidates, a_chosen, a_row, a_bestRow, a_bestBound, a_falling, a_bestFalling) => f_bestRule
theorem zz_X {P : SX → Prop} (h : ∀ (f_used f_count f_lastTag f_ruleCount f_draftSize f_firedCount f_bestRule f_rowSize f_bestSize f_total f_openTotal : Int32) (a_tags a_types a_fields a_ofType a_ofValue a_sizes a_patterns a_negative a_actions a_firedRule a_firedTags a_bound a_candidates a_chosen a_row a_bestRow a_bestBound a_falling a_bestFalling : Nat → Int32), P (f_used, f_count, f_lastTag, f_ruleCount, f_draftSize, f_firedCount, f_bestRule, f_rowSize, f_bestSize, f_total, f_openTotal, a_tags, a_types, a_fields, a_ofType, a_ofValue, a_sizes, a_patterns, a_negative, a_actions, a_firedRule, a_firedTags, a_bound, a_candidates, a_chosen, a_row, a_bestRow, a_bestBound, a_falling, a_bestFalling)) (u : SX) : P u := match u with
  | (f_used, f_count, f_lastTag, f_ruleCount, f_draftSize, f_firedCount, f_bestRule, f_rowSize, f_bestSize, f_total, f_openTotal, a_tags, a_types, a_fields, a_ofType, a_ofValue, a_sizes, a_patterns, a_negative, a_actions, a_firedRule, a_firedTags, a_bound, a_candidates, a_chosen, a_row, a_bestRow, a_bestBound, a_falling, a_bestFalling) => h f_used f_count f_lastTag f_ruleCount f_draftSize f_firedCount f_bestRule f_rowSize f_bestSize f_total f_openTotal a_tags a_types a_fields a_ofType a_ofValue a_sizes a_patterns a_negative a_actions a_firedRule a_firedTags a_bound a_candidates a_chosen a_row a_bestRow a_bestBound a_falling a_bestFalling
theorem zz_Y {P : SY → Prop} (h : ∀ (f_count f_lastTag f_drafted f_rules f_fired f_length f_bestRule f_bestLength : Int32) (a_tag a_type a_fields a_draftPattern a_draftNot a_size a_pattern a_not a_action a_firedRule a_firedTag a_row a_bound a_saved a_mine a_best a_bestTag a_bestBound : Nat → Int32), P (f_count, f_lastTag, f_drafted, f_rules, f_fired, f_length, f_bestRule, f_bestLength, a_tag, a_type, a_fields, a_draftPattern, a_draftNot, a_size, a_pattern, a_not, a_action, a_firedRule, a_firedTag, a_row, a_bound, a_saved, a_mine, a_best, a_bestTag, a_bestBound)) (u : SY) : P u := match u with
  | (f_count, f_lastTag, f_drafted, f_rules, f_fired, f_length, f_bestRule, f_bestLength, a_tag, a_type, a_fields, a_draftPattern, a_draftNot, a_size, a_pattern, a_not, a_action, a_firedRule, a_firedTag, a_row, a_bound, a_saved, a_mine, a_best, a_bestTag, a_bestBound) => h f_count f_lastTag f_drafted f_rules f_fired f_length f_bestRule f_bestLength a_tag a_type a_fields a_draftPattern a_draftNot a_size a_pattern a_not a_action a_firedRule a_firedTag a_row a_bound a_saved a_mine a_best a_bestTag a_bestBound
theorem rm_FS_z {R : List rm_Ru} {n : Nat} {fr ft : Nat → Int32} (hV : R.length ≤ 5) (h : rm_FS R (rm_F n fr ft)) {r : Nat} {c : rm_Ru} (hr : R[r]? = some c) : ∀ i, i < n → fr i = nI r → ∀ k, rm_np c.1 ≤ k → k < 3 → ft (3 * i + k) = 0 := by
  intro i hi e k hk h3
  obtain ⟨r', c', h1, h2, h4⟩ := h _ (rm_F_mem.mpr ⟨i, hi, rfl⟩)
  have l1 := (List.getElem?_eq_some_iff.mp hr).1
  have l2 := (List.getElem?_eq_some_iff.mp h1).1
  have h2 : fr i = nI r' := h2
  rw [e, nI_eq (by omega) (by omega)] at h2
  subst h2
  rw [hr] at h1
  cases h1
  have h5 := h4 k hk h3
  have hk : k = 0 ∨ k = 1 ∨ k = 2 := by omega
  rcases hk with rfl | rfl | rfl <;> exact h5
section
variable {f_used f_count f_lastTag f_ruleCount f_draftSize f_firedCount f_bestRule f_rowSize f_bestSize f_total f_openTotal : Int32} {a_tags a_types a_fields a_ofType a_ofValue a_sizes a_patterns a_negative a_actions a_firedRule a_firedTags a_bound a_candidates a_chosen a_row a_bestRow a_bestBound a_falling a_bestFalling : Nat → Int32}
theorem rx_searchAll {cell : Nat → Option rm_El} {R : List rm_Ru} {n : Nat} (hE : rx_XE cell f_used a_tags a_types a_fields a_ofType a_ofValue) (hV : rm_RV R) (hL : rx_RL R a_sizes a_patterns a_negative a_actions) (hrc : f_ruleCount = nI R.length) (hn : n ≤ 40) (hfc : f_firedCount = nI n) (hFS : rm_FS R (rm_F n a_firedRule a_firedTags)) {post : SX → Prop}
    (K : ∀ (f_bestRule' f_rowSize' f_bestSize' f_total' f_openTotal' : Int32) (a_bound' a_candidates' a_chosen' a_row' a_bestRow' a_bestBound' a_falling' a_bestFalling' : Nat → Int32), rx_AX (rm_all (rm_ce cell) (rm_F n a_firedRule a_firedTags) R R.length) f_bestRule' f_bestSize' f_total' f_openTotal' a_bestRow' a_bestBound' a_bestFalling' → post (f_used, f_count, f_lastTag, f_ruleCount, f_draftSize, f_firedCount, f_bestRule', f_rowSize', f_bestSize', f_total', f_openTotal', a_tags, a_types, a_fields, a_ofType, a_ofValue, a_sizes, a_patterns, a_negative, a_actions, a_firedRule, a_firedTags, a_bound', a_candidates', a_chosen', a_row', a_bestRow', a_bestBound', a_falling', a_bestFalling')) : wpX_searchAll post (f_used, f_count, f_lastTag, f_ruleCount, f_draftSize, f_firedCount, f_bestRule, f_rowSize, f_bestSize, f_total, f_openTotal, a_tags, a_types, a_fields, a_ofType, a_ofValue, a_sizes, a_patterns, a_negative, a_actions, a_firedRule, a_firedTags, a_bound, a_candidates, a_chosen, a_row, a_bestRow, a_bestBound, a_falling, a_bestFalling) := by
  have h5 := hV.1
  have loop : ∀ d r (f_bestRule' f_rowSize' f_bestSize' f_total' f_openTotal' : Int32) (a_bound' a_candidates' a_chosen' a_row' a_bestRow' a_bestBound' a_falling' a_bestFalling' : Nat → Int32), r + d = R.length → rx_AX (rm_all (rm_ce cell) (rm_F n a_firedRule a_firedTags) R r) f_bestRule' f_bestSize' f_total' f_openTotal' a_bestRow' a_bestBound' a_bestFalling' → wX_searchAll_17 post (d + 1) (nI r) f_used f_count f_lastTag f_ruleCount f_draftSize f_firedCount f_bestRule' f_rowSize' f_bestSize' f_total' f_openTotal' a_tags a_types a_fields a_ofType a_ofValue a_sizes a_patterns a_negative a_actions a_firedRule a_firedTags a_bound' a_candidates' a_chosen' a_row' a_bestRow' a_bestBound' a_falling' a_bestFalling' := by
    intro d
    induction d with
    | zero =>
      intro r f_bestRule' f_rowSize' f_bestSize' f_total' f_openTotal' a_bound' a_candidates' a_chosen' a_row' a_bestRow' a_bestBound' a_falling' a_bestFalling' hr hA
      have e : r = R.length := by omega
      subst e
      exact pk_le R.length R.length (fun _ => K f_bestRule' f_rowSize' f_bestSize' f_total' f_openTotal' a_bound' a_candidates' a_chosen' a_row' a_bestRow' a_bestBound' a_falling' a_bestFalling' hA) (fun h => absurd h (by omega)) (hx := hrc)
    | succ d ih =>
      intro r f_bestRule' f_rowSize' f_bestSize' f_total' f_openTotal' a_bound' a_candidates' a_chosen' a_row' a_bestRow' a_bestBound' a_falling' a_bestFalling' hr hA
      have hlt : r < R.length := by omega
      have hg : R[r]? = some R[r] := List.getElem?_eq_getElem hlt
      have hv := hV.2 R[r] (List.getElem_mem hlt)
      refine pk_le R.length r (fun h => absurd h (by omega)) (fun _ => ?_) (hx := hrc)
      refine rx_search hE (hL r _ hg).1 hv.1 hn hfc (rm_FS_z h5 hFS hg) hA (fun f_bestRule'' f_rowSize'' f_bestSize'' f_total'' f_openTotal'' a_bound'' a_candidates'' a_chosen'' a_row'' a_bestRow'' a_bestBound'' a_falling'' a_bestFalling'' hA2 => nm_r (nI_1 r) ?_)
      refine ih (r + 1) f_bestRule'' f_rowSize'' f_bestSize'' f_total'' f_openTotal'' a_bound'' a_candidates'' a_chosen'' a_row'' a_bestRow'' a_bestBound'' a_falling'' a_bestFalling'' (by omega) ?_
      rw [rm_all_s hg]
      exact hA2
  exact Exists.intro (R.length + 1) (loop R.length 0 (-1) f_rowSize f_bestSize 0 0 a_bound a_candidates a_chosen a_row a_bestRow a_bestBound a_falling a_bestFalling (by omega) ⟨rfl, rfl, rfl⟩)
/-! simple methods -/
theorem rz_make {cell : Nat → Option rm_El} {N L : Nat} {R : List rm_Ru} {D : List rm_Cd} {F : List rm_FE} (hX : rz_X cell N R D F L (f_used, f_count, f_lastTag, f_ruleCount, f_draftSize, f_firedCount, f_bestRule, f_rowSize, f_bestSize, f_total, f_openTotal, a_tags, a_types, a_fields, a_ofType, a_ofValue, a_sizes, a_patterns, a_negative, a_actions, a_firedRule, a_firedTags, a_bound, a_candidates, a_chosen, a_row, a_bestRow, a_bestBound, a_falling, a_bestFalling)) (hL : L < 2147483000) (hN : N ≤ 12) (hfree : N < 12 → ∃ c, c < 12 ∧ cell c = none) {ty code : Int32} {post : Int32 → SX → Prop}
    (K1 : ¬ (0 ≤ ty ∧ ty ≤ 3) → post (-1) (f_used, f_count, f_lastTag, f_ruleCount, f_draftSize, f_firedCount, f_bestRule, f_rowSize, f_bestSize, f_total, f_openTotal, a_tags, a_types, a_fields, a_ofType, a_ofValue, a_sizes, a_patterns, a_negative, a_actions, a_firedRule, a_firedTags, a_bound, a_candidates, a_chosen, a_row, a_bestRow, a_bestBound, a_falling, a_bestFalling)) (K2 : 0 ≤ ty → ty ≤ 3 → ¬ (0 ≤ code ∧ code ≤ 4095) → post (-2) (f_used, f_count, f_lastTag, f_ruleCount, f_draftSize, f_firedCount, f_bestRule, f_rowSize, f_bestSize, f_total, f_openTotal, a_tags, a_types, a_fields, a_ofType, a_ofValue, a_sizes, a_patterns, a_negative, a_actions, a_firedRule, a_firedTags, a_bound, a_candidates, a_chosen, a_row, a_bestRow, a_bestBound, a_falling, a_bestFalling)) (K3 : 0 ≤ ty → ty ≤ 3 → 0 ≤ code → code ≤ 4095 → N = 12 → post (-3) (f_used, f_count, f_lastTag, f_ruleCount, f_draftSize, f_firedCount, f_bestRule, f_rowSize, f_bestSize, f_total, f_openTotal, a_tags, a_types, a_fields, a_ofType, a_ofValue, a_sizes, a_patterns, a_negative, a_actions, a_firedRule, a_firedTags, a_bound, a_candidates, a_chosen, a_row, a_bestRow, a_bestBound, a_falling, a_bestFalling))
    (K : ∀ y x c u', ty = nI y → y < 4 → code = nI x → x < 4096 → N < 12 → c < 12 → cell c = none → rz_X (rm_cu cell c (some (nI (L + 1), y, x))) (N + 1) R D F (L + 1) u' → post (nI (L + 1)) u') : wpX_make post (f_used, f_count, f_lastTag, f_ruleCount, f_draftSize, f_firedCount, f_bestRule, f_rowSize, f_bestSize, f_total, f_openTotal, a_tags, a_types, a_fields, a_ofType, a_ofValue, a_sizes, a_patterns, a_negative, a_actions, a_firedRule, a_firedTags, a_bound, a_candidates, a_chosen, a_row, a_bestRow, a_bestBound, a_falling, a_bestFalling) ty code := by
  obtain ⟨hE, hc, hl, h4, h5, h6, h7, h8, h9, a, hA⟩ := hX
  by_cases t0 : ty < 0
  · exact br_t t0 (K1 (fun z => absurd t0 (Int32.not_lt.mpr z.1)))
  · refine br_f t0 ?_
    by_cases t1 : ty ≤ 3
    · refine br_t t1 ?_
      by_cases c0 : code < 0
      · exact br_t c0 (K2 (Int32.not_lt.mp t0) t1 (fun z => absurd c0 (Int32.not_lt.mpr z.1)))
      · refine br_f c0 ?_
        by_cases c1 : code ≤ 4095
        · refine br_t c1 ?_
          obtain ⟨y, hy, rfl⟩ := nI_of2 (n := 3) (by decide) t0 t1
          obtain ⟨x, hx, rfl⟩ := nI_of2 (n := 4095) (by decide) c0 c1
          refine pk_eq N 12 (fun e => K3 (Int32.not_lt.mp t0) t1 (Int32.not_lt.mp c0) c1 e) (fun e => ?_) (hx := hc)
          refine rx_enter hL hl hE (by omega) (by omega) (hfree (by omega)) (fun c f_used' a_tags' a_types' a_fields' a_ofType' a_ofValue' hc1 hc2 hE' => ?_)
          exact K y x c _ rfl (by omega) rfl (by omega) (by omega) hc1 hc2 ⟨hE', by rw [hc, nI_1], rfl, h4, h5, h6, h7, h8, h9, a, hA⟩
        · exact br_f c1 (K2 (Int32.not_lt.mp t0) t1 (fun z => c1 z.2))
    · exact br_f t1 (K1 (fun z => t1 z.2))
theorem rz_leave {cell : Nat → Option rm_El} {N L : Nat} {R : List rm_Ru} {D : List rm_Cd} {F : List rm_FE} (hX : rz_X cell N R D F L (f_used, f_count, f_lastTag, f_ruleCount, f_draftSize, f_firedCount, f_bestRule, f_rowSize, f_bestSize, f_total, f_openTotal, a_tags, a_types, a_fields, a_ofType, a_ofValue, a_sizes, a_patterns, a_negative, a_actions, a_firedRule, a_firedTags, a_bound, a_candidates, a_chosen, a_row, a_bestRow, a_bestBound, a_falling, a_bestFalling)) (hF : F.length ≤ 40) (hN : 1 ≤ N) {c : Nat} {x : rm_El} (hx : cell c = some x) {post : SX → Prop}
    (K : ∀ u', rz_br u' = f_bestRule → rz_X (rm_cu cell c none) (N - 1) R D (F.filter (rm_nh x.1)) L u' → post u') : wpX_leave post (f_used, f_count, f_lastTag, f_ruleCount, f_draftSize, f_firedCount, f_bestRule, f_rowSize, f_bestSize, f_total, f_openTotal, a_tags, a_types, a_fields, a_ofType, a_ofValue, a_sizes, a_patterns, a_negative, a_actions, a_firedRule, a_firedTags, a_bound, a_candidates, a_chosen, a_row, a_bestRow, a_bestBound, a_falling, a_bestFalling) (nI c) := by
  obtain ⟨hE, hc, hl, h4, h5, h6, h7, h8, h9, a, hA⟩ := hX
  refine rx_leave hE hx hF h6 (fun f_used' a_tags' a_types' a_fields' a_ofType' a_ofValue' m fr' ft' hE' hm hF' => K _ rfl ?_)
  rw [h7] at hF'
  have hm2 : (F.filter (rm_nh x.1)).length = m := by rw [← hF', rm_F_len]
  exact ⟨hE', by rw [hc]; exact pk_sub (b := 1) hN, hl, h4, h5, by rw [hm2], by rw [hm2]; exact hF', h8, h9, a, hA⟩
theorem rz_remove {cell : Nat → Option rm_El} {N L : Nat} {R : List rm_Ru} {D : List rm_Cd} {F : List rm_FE} (hX : rz_X cell N R D F L (f_used, f_count, f_lastTag, f_ruleCount, f_draftSize, f_firedCount, f_bestRule, f_rowSize, f_bestSize, f_total, f_openTotal, a_tags, a_types, a_fields, a_ofType, a_ofValue, a_sizes, a_patterns, a_negative, a_actions, a_firedRule, a_firedTags, a_bound, a_candidates, a_chosen, a_row, a_bestRow, a_bestBound, a_falling, a_bestFalling)) (hF : F.length ≤ 40) (hN : ∀ c x, cell c = some x → 1 ≤ N) {t : Int32} {post : Int32 → SX → Prop}
    (K0 : (∀ c x, cell c = some x → x.1 ≠ t) → post (-1) (f_used, f_count, f_lastTag, f_ruleCount, f_draftSize, f_firedCount, f_bestRule, f_rowSize, f_bestSize, f_total, f_openTotal, a_tags, a_types, a_fields, a_ofType, a_ofValue, a_sizes, a_patterns, a_negative, a_actions, a_firedRule, a_firedTags, a_bound, a_candidates, a_chosen, a_row, a_bestRow, a_bestBound, a_falling, a_bestFalling))
    (K1 : ∀ c x u', cell c = some x → x.1 = t → rz_X (rm_cu cell c none) (N - 1) R D (F.filter (rm_nh t)) L u' → post (nI (N - 1)) u') : wpX_remove post (f_used, f_count, f_lastTag, f_ruleCount, f_draftSize, f_firedCount, f_bestRule, f_rowSize, f_bestSize, f_total, f_openTotal, a_tags, a_types, a_fields, a_ofType, a_ofValue, a_sizes, a_patterns, a_negative, a_actions, a_firedRule, a_firedTags, a_bound, a_candidates, a_chosen, a_row, a_bestRow, a_bestBound, a_falling, a_bestFalling) t := by
  have hE := hX.1
  refine rx_cellOf hE (fun c x hx ht => ?_) (fun h => ?_)
  · refine br_t (nI_pos' (by have := (hE.1 c x hx).1; omega)) (rz_leave hX hF (hN c x hx) hx ?_)
    rw [ht]
    refine zz_X ?_
    intro f_used' f_count' f_lastTag' f_ruleCount' f_draftSize' f_firedCount' f_bestRule' f_rowSize' f_bestSize' f_total' f_openTotal' a_tags' a_types' a_fields' a_ofType' a_ofValue' a_sizes' a_patterns' a_negative' a_actions' a_firedRule' a_firedTags' a_bound' a_candidates' a_chosen' a_row' a_bestRow' a_bestBound' a_falling' a_bestFalling' _ hX'
    have e := hX'.2.1
    have k := K1 c x _ hx ht hX'
    rw [← e] at k
    exact k
  · exact br_f (by decide) (K0 h)
theorem rz_exists {cell : Nat → Option rm_El} {N L : Nat} {R : List rm_Ru} {D : List rm_Cd} {F : List rm_FE} (hX : rz_X cell N R D F L (f_used, f_count, f_lastTag, f_ruleCount, f_draftSize, f_firedCount, f_bestRule, f_rowSize, f_bestSize, f_total, f_openTotal, a_tags, a_types, a_fields, a_ofType, a_ofValue, a_sizes, a_patterns, a_negative, a_actions, a_firedRule, a_firedTags, a_bound, a_candidates, a_chosen, a_row, a_bestRow, a_bestBound, a_falling, a_bestFalling)) {t : Int32} {post : Int32 → Prop}
    (K0 : (∀ c x, cell c = some x → x.1 ≠ t) → post 0) (K1 : ∀ c x, cell c = some x → x.1 = t → post 1) : wpX_exists post (f_used, f_count, f_lastTag, f_ruleCount, f_draftSize, f_firedCount, f_bestRule, f_rowSize, f_bestSize, f_total, f_openTotal, a_tags, a_types, a_fields, a_ofType, a_ofValue, a_sizes, a_patterns, a_negative, a_actions, a_firedRule, a_firedTags, a_bound, a_candidates, a_chosen, a_row, a_bestRow, a_bestBound, a_falling, a_bestFalling) t := by
  have hE := hX.1
  exact rx_cellOf hE (fun c x hx ht => br_t (nI_pos' (by have := (hE.1 c x hx).1; omega)) (K1 c x hx ht)) (fun h => br_f (by decide) (K0 h))
theorem rz_contents {cell : Nat → Option rm_El} {N L : Nat} {R : List rm_Ru} {D : List rm_Cd} {F : List rm_FE} (hX : rz_X cell N R D F L (f_used, f_count, f_lastTag, f_ruleCount, f_draftSize, f_firedCount, f_bestRule, f_rowSize, f_bestSize, f_total, f_openTotal, a_tags, a_types, a_fields, a_ofType, a_ofValue, a_sizes, a_patterns, a_negative, a_actions, a_firedRule, a_firedTags, a_bound, a_candidates, a_chosen, a_row, a_bestRow, a_bestBound, a_falling, a_bestFalling)) {t : Int32} {post : Int32 → Prop}
    (K0 : (∀ c x, cell c = some x → x.1 ≠ t) → post (-1)) (K1 : ∀ c x, cell c = some x → x.1 = t → post (nI (4096 * x.2.1 + x.2.2))) : wpX_contents post (f_used, f_count, f_lastTag, f_ruleCount, f_draftSize, f_firedCount, f_bestRule, f_rowSize, f_bestSize, f_total, f_openTotal, a_tags, a_types, a_fields, a_ofType, a_ofValue, a_sizes, a_patterns, a_negative, a_actions, a_firedRule, a_firedTags, a_bound, a_candidates, a_chosen, a_row, a_bestRow, a_bestBound, a_falling, a_bestFalling) t := by
  have hE := hX.1
  refine rx_cellOf hE (fun c x hx ht => br_t (nI_pos' (by have := (hE.1 c x hx).1; omega)) ?_) (fun h => br_f (by decide) (K0 h))
  obtain ⟨hc, g1, g2, g3, g4, g5, g6⟩ := hE.1 c x hx
  refine And.intro (vp_in_nI hc (by omega)) ?_
  rw [rm_n31, rm_n32, rm_n3]
  refine And.intro (vp_in_nI (by omega) (by omega)) (And.intro (vp_in_nI (by omega) (by omega)) (And.intro (vp_in_nI (by omega) (by omega)) ?_))
  rw [nI_clamp (n := c) (by omega), nI_clamp (n := 3 * c) (by omega), nI_clamp (n := 3 * c + 1) (by omega), nI_clamp (n := 3 * c + 2) (by omega), g3, show a_fields (3 * c) = nI (rm_fd x.2.2 0) from g6 0 (by omega), g6 1 (by omega), g6 2 (by omega)]
  have e1 : (4096 : Int32) * nI x.2.1 = nI (4096 * x.2.1) := pk_mul 4096 _
  have e2 : (256 : Int32) * nI (rm_fd x.2.2 0) = nI (256 * rm_fd x.2.2 0) := pk_mul 256 _
  have e3 : (16 : Int32) * nI (rm_fd x.2.2 1) = nI (16 * rm_fd x.2.2 1) := pk_mul 16 _
  rw [e1, e2, e3, nI_add, nI_add, nI_add]
  have e4 : 4096 * x.2.1 + 256 * rm_fd x.2.2 0 + 16 * rm_fd x.2.2 1 + rm_fd x.2.2 2 = 4096 * x.2.1 + x.2.2 := by
    have := rm_fd_all g5
    omega
  rw [e4]
  exact K1 c x hx ht
theorem rz_clearRules {cell : Nat → Option rm_El} {N L : Nat} {R : List rm_Ru} {D : List rm_Cd} {F : List rm_FE} (hX : rz_X cell N R D F L (f_used, f_count, f_lastTag, f_ruleCount, f_draftSize, f_firedCount, f_bestRule, f_rowSize, f_bestSize, f_total, f_openTotal, a_tags, a_types, a_fields, a_ofType, a_ofValue, a_sizes, a_patterns, a_negative, a_actions, a_firedRule, a_firedTags, a_bound, a_candidates, a_chosen, a_row, a_bestRow, a_bestBound, a_falling, a_bestFalling)) {post : Int32 → SX → Prop} (K : ∀ u', rz_X cell N [] [] [] L u' → post (nI R.length) u') : wpX_clearRules post (f_used, f_count, f_lastTag, f_ruleCount, f_draftSize, f_firedCount, f_bestRule, f_rowSize, f_bestSize, f_total, f_openTotal, a_tags, a_types, a_fields, a_ofType, a_ofValue, a_sizes, a_patterns, a_negative, a_actions, a_firedRule, a_firedTags, a_bound, a_candidates, a_chosen, a_row, a_bestRow, a_bestBound, a_falling, a_bestFalling) := by
  obtain ⟨hE, hc, hl, h4, h5, h6, h7, h8, h9, a, hA⟩ := hX
  show post f_ruleCount _
  rw [h4]
  exact K _ ⟨hE, hc, hl, rfl, rfl, rfl, rfl, fun r c h => absurd h (by simp), fun k q n h => absurd h (by simp), a, hA⟩
theorem rz_fitting {cell : Nat → Option rm_El} {N L : Nat} {R : List rm_Ru} {D : List rm_Cd} {F : List rm_FE} (hX : rz_X cell N R D F L (f_used, f_count, f_lastTag, f_ruleCount, f_draftSize, f_firedCount, f_bestRule, f_rowSize, f_bestSize, f_total, f_openTotal, a_tags, a_types, a_fields, a_ofType, a_ofValue, a_sizes, a_patterns, a_negative, a_actions, a_firedRule, a_firedTags, a_bound, a_candidates, a_chosen, a_row, a_bestRow, a_bestBound, a_falling, a_bestFalling)) {p : Int32} {post : Int32 → SX → Prop}
    (K0 : ¬ (0 ≤ p ∧ p ≤ 31999) → post (-1) (f_used, f_count, f_lastTag, f_ruleCount, f_draftSize, f_firedCount, f_bestRule, f_rowSize, f_bestSize, f_total, f_openTotal, a_tags, a_types, a_fields, a_ofType, a_ofValue, a_sizes, a_patterns, a_negative, a_actions, a_firedRule, a_firedTags, a_bound, a_candidates, a_chosen, a_row, a_bestRow, a_bestBound, a_falling, a_bestFalling)) (K1 : ∀ q u', p = nI q → q < 32000 → rz_X cell N R D F L u' → post (nI ((rm_ce cell).countP (rm_ft q (fun _ => none)))) u') : wpX_fitting post (f_used, f_count, f_lastTag, f_ruleCount, f_draftSize, f_firedCount, f_bestRule, f_rowSize, f_bestSize, f_total, f_openTotal, a_tags, a_types, a_fields, a_ofType, a_ofValue, a_sizes, a_patterns, a_negative, a_actions, a_firedRule, a_firedTags, a_bound, a_candidates, a_chosen, a_row, a_bestRow, a_bestBound, a_falling, a_bestFalling) p := by
  obtain ⟨hE, hc, hl, h4, h5, h6, h7, h8, h9, a, hA⟩ := hX
  by_cases t0 : p < 0
  · exact br_t t0 (K0 (fun z => absurd t0 (Int32.not_lt.mpr z.1)))
  · refine br_f t0 ?_
    by_cases t1 : p ≤ 31999
    · refine br_t t1 ?_
      obtain ⟨q, hq, rfl⟩ := nI_of2 (n := 31999) (by decide) t0 t1
      have loop : ∀ d k bd, k + d = 4 → (∀ v, v < k → bd v = -1) → wX_fitting_15 post (nI q) f_used f_count f_lastTag f_ruleCount f_draftSize f_firedCount f_bestRule f_rowSize f_bestSize f_total f_openTotal (d + 1) (nI k) a_tags a_types a_fields a_ofType a_ofValue a_sizes a_patterns a_negative a_actions a_firedRule a_firedTags bd a_candidates a_chosen a_row a_bestRow a_bestBound a_falling a_bestFalling := by
        intro d
        induction d with
        | zero =>
          intro k bd hk h
          have e : k = 4 := by omega
          subst e
          refine pk_le 4 4 (fun _ => ?_) (fun h => absurd h (by omega))
          have hB : rx_BD (fun _ => none) 0 bd := fun v hv => by
            rw [show 0 + v = v by omega]
            exact h v (by omega)
          refine rx_candidatesFor (base := 0) hE (by omega) (by omega) rm_okb0 hB (fun w hw => Exists.intro 13 ?_)
          have inner : ∀ e j, j + e = 12 → wX_fitting_45 post w f_used f_count f_lastTag f_ruleCount f_draftSize f_firedCount f_bestRule f_rowSize f_bestSize f_total f_openTotal a_tags a_types a_fields a_ofType a_ofValue a_sizes a_patterns a_negative a_actions a_firedRule a_firedTags bd a_candidates a_chosen a_row a_bestRow a_bestBound a_falling a_bestFalling (e + 1) (nI (((List.range j).filterMap cell).countP (rm_ft q (fun _ => none)))) (nI j) := by
            intro e
            induction e with
            | zero =>
              intro j hj
              have e : j = 12 := by omega
              subst e
              exact pk_le 12 12 (fun _ => K1 q _ rfl (by omega) ⟨hE, hc, hl, h4, h5, h6, h7, h8, h9, a, hA⟩) (fun h => absurd h (by omega))
            | succ e ih =>
              intro j hj
              refine pk_le 12 j (fun h => absurd h (by omega)) (fun _ => nm_r (e' := nI (((List.range (j + 1)).filterMap cell).countP (rm_ft q (fun _ => none)))) ?_ (nm_r (nI_1 j) (ih (j + 1) (by omega))))
              rw [rm_bit w (by omega), hw j (by omega), List.range_succ, List.filterMap_append, List.countP_append]
              cases hcj : cell j with
              | none =>
                rw [List.filterMap_cons_none hcj]
                exact nI_add _ 0
              | some x =>
                rw [List.filterMap_cons_some hcj]
                show _ + (if rm_ft q (fun _ => none) x = true then (1 : Int32) else 0) = _
                cases hft : rm_ft q (fun _ => none) x with
                | false =>
                  rw [List.filterMap_nil, List.countP_cons_of_neg (by rw [hft]; simp)]
                  exact nI_add _ 0
                | true =>
                  rw [List.filterMap_nil, List.countP_cons_of_pos hft]
                  exact nI_add _ 1
          exact inner 12 0 rfl
        | succ d ih =>
          intro k bd hk h
          refine pk_le 4 k (fun h => absurd h (by omega)) (fun _ => And.intro (vp_in_nI (by omega) (by omega)) (nm_e (nm_r (nI_1 k) ?_)))
          rw [nI_clamp (n := k) (by omega)]
          refine ih (k + 1) _ (by omega) (fun v hv => ?_)
          by_cases e : v = k
          · subst e; exact pk_us
          · rw [pk_un e]; exact h v (by omega)
      exact Exists.intro 5 (loop 4 0 a_bound rfl (fun v hv => absurd hv (by omega)))
    · exact br_f t1 (K0 (fun z => t1 z.2))
theorem rz_matches {cell : Nat → Option rm_El} {N L : Nat} {R : List rm_Ru} {D : List rm_Cd} {F : List rm_FE} (hX : rz_X cell N R D F L (f_used, f_count, f_lastTag, f_ruleCount, f_draftSize, f_firedCount, f_bestRule, f_rowSize, f_bestSize, f_total, f_openTotal, a_tags, a_types, a_fields, a_ofType, a_ofValue, a_sizes, a_patterns, a_negative, a_actions, a_firedRule, a_firedTags, a_bound, a_candidates, a_chosen, a_row, a_bestRow, a_bestBound, a_falling, a_bestFalling)) (hV : rm_RV R) (hF : F.length ≤ 40) (hFS : rm_FS R F) {p : Int32} {post : Int32 → SX → Prop}
    (K0 : ¬ (0 ≤ p ∧ p < nI R.length) → post (-1) (f_used, f_count, f_lastTag, f_ruleCount, f_draftSize, f_firedCount, f_bestRule, f_rowSize, f_bestSize, f_total, f_openTotal, a_tags, a_types, a_fields, a_ofType, a_ofValue, a_sizes, a_patterns, a_negative, a_actions, a_firedRule, a_firedTags, a_bound, a_candidates, a_chosen, a_row, a_bestRow, a_bestBound, a_falling, a_bestFalling)) (K1 : ∀ r c a u', p = nI r → R[r]? = some c → a.1 = 0 → rz_X cell N R D F L u' → post ((rm_mt (rm_ce cell) c.1 (fun _ => none) []).foldl (rm_nt F r) a).1 u') : wpX_matches post (f_used, f_count, f_lastTag, f_ruleCount, f_draftSize, f_firedCount, f_bestRule, f_rowSize, f_bestSize, f_total, f_openTotal, a_tags, a_types, a_fields, a_ofType, a_ofValue, a_sizes, a_patterns, a_negative, a_actions, a_firedRule, a_firedTags, a_bound, a_candidates, a_chosen, a_row, a_bestRow, a_bestBound, a_falling, a_bestFalling) p := by
  obtain ⟨hE, hc, hl, h4, h5, h6, h7, h8, h9, a, hA⟩ := hX
  have hR5 := hV.1
  by_cases t0 : p < 0
  · exact br_t t0 (K0 (fun z => absurd t0 (Int32.not_lt.mpr z.1)))
  · refine br_f t0 ?_
    obtain ⟨r, hr, rfl⟩ := nI_of t0
    refine pk_lt r R.length (fun hlt => ?_) (fun hge => K0 (fun z => nI_nlt hge hr z.2)) (hy := h4)
    have hg : R[r]? = some R[r] := List.getElem?_eq_getElem hlt
    have hv := hV.2 R[r] (List.getElem_mem hlt)
    rw [← h7] at hFS
    have hA0 : rx_AX (0, a.2) f_bestRule f_bestSize 0 f_openTotal a_bestRow a_bestBound a_bestFalling := ⟨rfl, hA.2.1, hA.2.2⟩
    refine rx_search hE (h8 r _ hg).1 hv.1 hF h6 (rm_FS_z hR5 hFS hg) hA0 (fun f_bestRule' f_rowSize' f_bestSize' f_total' f_openTotal' a_bound' a_candidates' a_chosen' a_row' a_bestRow' a_bestBound' a_falling' a_bestFalling' hA' => ?_)
    have e := hA'.1
    rw [h7] at e
    have k := K1 r _ (0, a.2) (f_used, f_count, f_lastTag, f_ruleCount, f_draftSize, f_firedCount, f_bestRule', f_rowSize', f_bestSize', f_total', f_openTotal', a_tags, a_types, a_fields, a_ofType, a_ofValue, a_sizes, a_patterns, a_negative, a_actions, a_firedRule, a_firedTags, a_bound', a_candidates', a_chosen', a_row', a_bestRow', a_bestBound', a_falling', a_bestFalling') rfl hg rfl ⟨hE, hc, hl, h4, h5, h6, h7, h8, h9, _, hA'⟩
    rw [← e] at k
    exact k
/-- searchAll over the abstract state -/
theorem rz_searchAll {cell : Nat → Option rm_El} {N L : Nat} {R : List rm_Ru} {D : List rm_Cd} {F : List rm_FE} (hX : rz_X cell N R D F L (f_used, f_count, f_lastTag, f_ruleCount, f_draftSize, f_firedCount, f_bestRule, f_rowSize, f_bestSize, f_total, f_openTotal, a_tags, a_types, a_fields, a_ofType, a_ofValue, a_sizes, a_patterns, a_negative, a_actions, a_firedRule, a_firedTags, a_bound, a_candidates, a_chosen, a_row, a_bestRow, a_bestBound, a_falling, a_bestFalling)) (hV : rm_RV R) (hF : F.length ≤ 40) (hFS : rm_FS R F) {post : SX → Prop}
    (K : ∀ (f_bestRule' f_rowSize' f_bestSize' f_total' f_openTotal' : Int32) (a_bound' a_candidates' a_chosen' a_row' a_bestRow' a_bestBound' a_falling' a_bestFalling' : Nat → Int32), rz_X cell N R D F L (f_used, f_count, f_lastTag, f_ruleCount, f_draftSize, f_firedCount, f_bestRule', f_rowSize', f_bestSize', f_total', f_openTotal', a_tags, a_types, a_fields, a_ofType, a_ofValue, a_sizes, a_patterns, a_negative, a_actions, a_firedRule, a_firedTags, a_bound', a_candidates', a_chosen', a_row', a_bestRow', a_bestBound', a_falling', a_bestFalling') → rx_AX (rm_all (rm_ce cell) F R R.length) f_bestRule' f_bestSize' f_total' f_openTotal' a_bestRow' a_bestBound' a_bestFalling' → post (f_used, f_count, f_lastTag, f_ruleCount, f_draftSize, f_firedCount, f_bestRule', f_rowSize', f_bestSize', f_total', f_openTotal', a_tags, a_types, a_fields, a_ofType, a_ofValue, a_sizes, a_patterns, a_negative, a_actions, a_firedRule, a_firedTags, a_bound', a_candidates', a_chosen', a_row', a_bestRow', a_bestBound', a_falling', a_bestFalling')) : wpX_searchAll post (f_used, f_count, f_lastTag, f_ruleCount, f_draftSize, f_firedCount, f_bestRule, f_rowSize, f_bestSize, f_total, f_openTotal, a_tags, a_types, a_fields, a_ofType, a_ofValue, a_sizes, a_patterns, a_negative, a_actions, a_firedRule, a_firedTags, a_bound, a_candidates, a_chosen, a_row, a_bestRow, a_bestBound, a_falling, a_bestFalling) := by
  obtain ⟨hE, hc, hl, h4, h5, h6, h7, h8, h9, a, hA⟩ := hX
  refine rx_searchAll hE hV h8 h4 hF h6 (by rw [h7]; exact hFS) (fun f_bestRule' f_rowSize' f_bestSize' f_total' f_openTotal' a_bound' a_candidates' a_chosen' a_row' a_bestRow' a_bestBound' a_falling' a_bestFalling' hA' => ?_)
  rw [h7] at hA'
  exact K f_bestRule' f_rowSize' f_bestSize' f_total' f_openTotal' a_bound' a_candidates' a_chosen' a_row' a_bestRow' a_bestBound' a_falling' a_bestFalling' ⟨hE, hc, hl, h4, h5, h6, h7, h8, h9, _, hA'⟩ hA'
end
end
section
theorem rm_np_snoc : ∀ (l : List rm_Cd) (q : Nat) (n : Bool), rm_np (l ++ [(q, n)]) = rm_np l + (if n then 0 else 1)
  | [], q, n => by cases n <;> rfl
  | (_, true) :: l, q, n => rm_np_snoc l q n
  | (_, false) :: l, q, n => by
    show rm_np (l ++ [(q, n)]) + 1 = rm_np l + 1 + _
    rw [rm_np_snoc l q n]
    omega
theorem rx_CO_snoc {D : List rm_Cd} {base q : Nat} {n : Bool} {pat neg pat' neg' : Nat → Int32} (h : rx_CO D base pat neg) (hq : q < 32000) (h1 : ∀ k, k < D.length → pat' (base + k) = pat (base + k)) (h2 : ∀ k, k < D.length → neg' (base + k) = neg (base + k)) (h3 : pat' (base + D.length) = nI q) (h4 : neg' (base + D.length) = rm_b n) : rx_CO (D ++ [(q, n)]) base pat' neg' := by
  intro k q' n' hk
  by_cases e : k < D.length
  · rw [List.getElem?_append_left e] at hk
    rw [h1 k e, h2 k e]
    exact h k q' n' hk
  · rw [List.getElem?_append_right (by omega)] at hk
    have hl := (List.getElem?_eq_some_iff.mp hk).1
    have hl : k - D.length < 1 := hl
    have e2 : k = D.length := by omega
    subst e2
    rw [Nat.sub_self] at hk
    have hk : some (q, n) = some (q', n') := hk
    cases hk
    exact ⟨h3, hq, h4⟩
theorem rx_RU_c {cs : List rm_Cd} {r : Nat} {sz pat neg sz' pat' neg' : Nat → Int32} (h : rx_RU cs r sz pat neg) (h1 : sz' r = sz r) (h2 : ∀ k, k < 3 → pat' (3 * r + k) = pat (3 * r + k)) (h3 : ∀ k, k < 3 → neg' (3 * r + k) = neg (3 * r + k)) : rx_RU cs r sz' pat' neg' := by
  refine ⟨h.1, by rw [h1]; exact h.2.1, h.2.2.1, fun k q n hk => ?_⟩
  have hl := (List.getElem?_eq_some_iff.mp hk).1
  have h3' := h.2.2.1
  rw [h2 k (by omega), h3 k (by omega)]
  exact h.2.2.2 k q n hk
section
variable {f_used f_count f_lastTag f_ruleCount f_draftSize f_firedCount f_bestRule f_rowSize f_bestSize f_total f_openTotal : Int32} {a_tags a_types a_fields a_ofType a_ofValue a_sizes a_patterns a_negative a_actions a_firedRule a_firedTags a_bound a_candidates a_chosen a_row a_bestRow a_bestBound a_falling a_bestFalling : Nat → Int32}
theorem rz_condition {cell : Nat → Option rm_El} {N L : Nat} {R : List rm_Ru} {D : List rm_Cd} {F : List rm_FE} (hX : rz_X cell N R D F L (f_used, f_count, f_lastTag, f_ruleCount, f_draftSize, f_firedCount, f_bestRule, f_rowSize, f_bestSize, f_total, f_openTotal, a_tags, a_types, a_fields, a_ofType, a_ofValue, a_sizes, a_patterns, a_negative, a_actions, a_firedRule, a_firedTags, a_bound, a_candidates, a_chosen, a_row, a_bestRow, a_bestBound, a_falling, a_bestFalling)) (hD : D.length ≤ 3) {p ne : Int32} {post : Int32 → SX → Prop}
    (K1 : ¬ (0 ≤ p ∧ p ≤ 31999) → post (-1) (f_used, f_count, f_lastTag, f_ruleCount, f_draftSize, f_firedCount, f_bestRule, f_rowSize, f_bestSize, f_total, f_openTotal, a_tags, a_types, a_fields, a_ofType, a_ofValue, a_sizes, a_patterns, a_negative, a_actions, a_firedRule, a_firedTags, a_bound, a_candidates, a_chosen, a_row, a_bestRow, a_bestBound, a_falling, a_bestFalling)) (K2 : 0 ≤ p → p ≤ 31999 → D.length = 3 → post (-2) (f_used, f_count, f_lastTag, f_ruleCount, f_draftSize, f_firedCount, f_bestRule, f_rowSize, f_bestSize, f_total, f_openTotal, a_tags, a_types, a_fields, a_ofType, a_ofValue, a_sizes, a_patterns, a_negative, a_actions, a_firedRule, a_firedTags, a_bound, a_candidates, a_chosen, a_row, a_bestRow, a_bestBound, a_falling, a_bestFalling)) (K3 : 0 ≤ p → p ≤ 31999 → D.length ≠ 3 → ne ≠ 0 → D.length = 0 → post (-3) (f_used, f_count, f_lastTag, f_ruleCount, f_draftSize, f_firedCount, f_bestRule, f_rowSize, f_bestSize, f_total, f_openTotal, a_tags, a_types, a_fields, a_ofType, a_ofValue, a_sizes, a_patterns, a_negative, a_actions, a_firedRule, a_firedTags, a_bound, a_candidates, a_chosen, a_row, a_bestRow, a_bestBound, a_falling, a_bestFalling))
    (K : ∀ q n u', p = nI q → q < 32000 → D.length < 3 → (n = true ↔ ne ≠ 0) → (D.length = 0 → n = false) → rz_X cell N R (D ++ [(q, n)]) F L u' → post (nI (D.length + 1)) u') : wpX_condition post (f_used, f_count, f_lastTag, f_ruleCount, f_draftSize, f_firedCount, f_bestRule, f_rowSize, f_bestSize, f_total, f_openTotal, a_tags, a_types, a_fields, a_ofType, a_ofValue, a_sizes, a_patterns, a_negative, a_actions, a_firedRule, a_firedTags, a_bound, a_candidates, a_chosen, a_row, a_bestRow, a_bestBound, a_falling, a_bestFalling) p ne := by
  obtain ⟨hE, hc, hl, h4, h5, h6, h7, h8, h9, a, hA⟩ := hX
  by_cases t0 : p < 0
  · exact br_t t0 (K1 (fun z => absurd t0 (Int32.not_lt.mpr z.1)))
  · refine br_f t0 ?_
    by_cases t1 : p ≤ 31999
    · refine br_t t1 ?_
      obtain ⟨q, hq, rfl⟩ := nI_of2 (n := 31999) (by decide) t0 t1
      refine pk_eq D.length 3 (fun e => K2 (Int32.not_lt.mp t0) t1 e) (fun e => ?_) (hx := h5)
      have fin : ∀ n : Bool, (n = true ↔ ne ≠ 0) → (D.length = 0 → n = false) → wX_condition_71 post (rm_b n) (15 + f_draftSize) f_used f_count f_lastTag f_ruleCount f_draftSize f_firedCount f_bestRule f_rowSize f_bestSize f_total f_openTotal a_tags a_types a_fields a_ofType a_ofValue a_sizes (upd a_patterns (15 + f_draftSize).toNatClampNeg (nI q)) a_negative a_actions a_firedRule a_firedTags a_bound a_candidates a_chosen a_row a_bestRow a_bestBound a_falling a_bestFalling := by
        intro n hn1 hn2
        have e15 : 15 + f_draftSize = nI (15 + D.length) := by rw [h5]; exact nI_add 15 _
        rw [e15]
        refine And.intro (vp_in_nI (by omega) (by omega)) (nm_e (nm_r (e' := nI (D.length + 1)) (by rw [h5, nI_1]) ?_))
        rw [nI_clamp (n := 15 + D.length) (by omega), rm_b_nar]
        refine K q n _ rfl (by omega) (by omega) hn1 hn2 ⟨hE, hc, hl, h4, ?_, h6, h7, ?_, ?_, a, hA⟩
        · rw [List.length_append]; rfl
        · intro r c hr
          obtain ⟨g1, g2⟩ := h8 r c hr
          have hr5 := g1.1
          exact ⟨rx_RU_c g1 rfl (fun k hk => pk_un (by omega)) (fun k hk => pk_un (by omega)), g2⟩
        · exact rx_CO_snoc h9 (by omega) (fun k hk => pk_un (by omega)) (fun k hk => pk_un (by omega)) pk_us pk_us
      have mid : (D.length = 0 → ne = 0) → wX_condition_38 post (nI q) ne f_used f_count f_lastTag f_ruleCount f_draftSize f_firedCount f_bestRule f_rowSize f_bestSize f_total f_openTotal a_tags a_types a_fields a_ofType a_ofValue a_sizes a_patterns a_negative a_actions a_firedRule a_firedTags a_bound a_candidates a_chosen a_row a_bestRow a_bestBound a_falling a_bestFalling := by
        intro h0
        have e15 : 15 + f_draftSize = nI (15 + D.length) := by rw [h5]; exact nI_add 15 _
        refine And.intro (by rw [e15]; exact vp_in_nI (by omega) (by omega)) (nm_e ?_)
        by_cases z : ne = 0
        · exact br_t z (fin false ⟨fun y => absurd y (by simp), fun y => absurd z y⟩ (fun _ => rfl))
        · exact br_f z (fin true ⟨fun _ => z, fun _ => rfl⟩ (fun y => absurd (h0 y) z))
      by_cases z : ne = 0
      · exact br_t z (mid (fun _ => z))
      · refine br_f z (pk_eq D.length 0 (fun y => K3 (Int32.not_lt.mp t0) t1 e z y) (fun y => mid (fun w => absurd w y)) (hx := h5))
    · exact br_f t1 (K1 (fun z => t1 z.2))
theorem rz_rule {cell : Nat → Option rm_El} {N L : Nat} {R : List rm_Ru} {D : List rm_Cd} {F : List rm_FE} (hX : rz_X cell N R D F L (f_used, f_count, f_lastTag, f_ruleCount, f_draftSize, f_firedCount, f_bestRule, f_rowSize, f_bestSize, f_total, f_openTotal, a_tags, a_types, a_fields, a_ofType, a_ofValue, a_sizes, a_patterns, a_negative, a_actions, a_firedRule, a_firedTags, a_bound, a_candidates, a_chosen, a_row, a_bestRow, a_bestBound, a_falling, a_bestFalling)) (hD : D.length ≤ 3) (hR : R.length ≤ 5) {p : Int32} {post : Int32 → SX → Prop}
    (K1 : D.length = 0 → post (-1) (f_used, f_count, f_lastTag, f_ruleCount, f_draftSize, f_firedCount, f_bestRule, f_rowSize, f_bestSize, f_total, f_openTotal, a_tags, a_types, a_fields, a_ofType, a_ofValue, a_sizes, a_patterns, a_negative, a_actions, a_firedRule, a_firedTags, a_bound, a_candidates, a_chosen, a_row, a_bestRow, a_bestBound, a_falling, a_bestFalling)) (K2 : D.length ≠ 0 → ¬ (0 ≤ p ∧ p ≤ 32003) → post (-2) (f_used, f_count, f_lastTag, f_ruleCount, f_draftSize, f_firedCount, f_bestRule, f_rowSize, f_bestSize, f_total, f_openTotal, a_tags, a_types, a_fields, a_ofType, a_ofValue, a_sizes, a_patterns, a_negative, a_actions, a_firedRule, a_firedTags, a_bound, a_candidates, a_chosen, a_row, a_bestRow, a_bestBound, a_falling, a_bestFalling)) (K3 : ∀ ac, D.length ≠ 0 → p = nI ac → ac < 32004 → 1 ≤ ac → ac ≤ 3 → rm_np D < ac → post (-3) (f_used, f_count, f_lastTag, f_ruleCount, f_draftSize, f_firedCount, f_bestRule, f_rowSize, f_bestSize, f_total, f_openTotal, a_tags, a_types, a_fields, a_ofType, a_ofValue, a_sizes, a_patterns, a_negative, a_actions, a_firedRule, a_firedTags, a_bound, a_candidates, a_chosen, a_row, a_bestRow, a_bestBound, a_falling, a_bestFalling))
    (K4 : ∀ ac, D.length ≠ 0 → p = nI ac → ac < 32004 → (1 ≤ ac → ac ≤ 3 → ac ≤ rm_np D) → R.length = 5 → post (-4) (f_used, f_count, f_lastTag, f_ruleCount, f_draftSize, f_firedCount, f_bestRule, f_rowSize, f_bestSize, f_total, f_openTotal, a_tags, a_types, a_fields, a_ofType, a_ofValue, a_sizes, a_patterns, a_negative, a_actions, a_firedRule, a_firedTags, a_bound, a_candidates, a_chosen, a_row, a_bestRow, a_bestBound, a_falling, a_bestFalling))
    (K : ∀ ac u', D.length ≠ 0 → p = nI ac → ac < 32004 → (1 ≤ ac → ac ≤ 3 → ac ≤ rm_np D) → R.length < 5 → rz_X cell N (R ++ [(D, ac)]) [] F L u' → post (nI R.length) u') : wpX_rule post (f_used, f_count, f_lastTag, f_ruleCount, f_draftSize, f_firedCount, f_bestRule, f_rowSize, f_bestSize, f_total, f_openTotal, a_tags, a_types, a_fields, a_ofType, a_ofValue, a_sizes, a_patterns, a_negative, a_actions, a_firedRule, a_firedTags, a_bound, a_candidates, a_chosen, a_row, a_bestRow, a_bestBound, a_falling, a_bestFalling) p := by
  obtain ⟨hE, hc, hl, h4, h5, h6, h7, h8, h9, a, hA⟩ := hX
  refine pk_eq D.length 0 K1 (fun hD0 => ?_) (hx := h5)
  by_cases t0 : p < 0
  · exact br_t t0 (K2 hD0 (fun z => absurd t0 (Int32.not_lt.mpr z.1)))
  · refine br_f t0 ?_
    by_cases t1 : p ≤ 32003
    · refine br_t t1 ?_
      obtain ⟨ac, hac, rfl⟩ := nI_of2 (n := 32003) (by decide) t0 t1
      have copy : (1 ≤ ac → ac ≤ 3 → ac ≤ rm_np D) → R.length < 5 → ∀ d k pat neg, k + d = D.length → (∀ j, j < k → pat (3 * R.length + j) = a_patterns (15 + j) ∧ neg (3 * R.length + j) = a_negative (15 + j)) → (∀ m, ¬ (3 * R.length ≤ m ∧ m < 3 * R.length + 3) → pat m = a_patterns m ∧ neg m = a_negative m) →
          wX_rule_92 post (nI ac) f_used f_count f_lastTag f_ruleCount f_draftSize f_firedCount f_bestRule f_rowSize f_bestSize f_total f_openTotal (d + 1) (nI k) a_tags a_types a_fields a_ofType a_ofValue a_sizes pat neg a_actions a_firedRule a_firedTags a_bound a_candidates a_chosen a_row a_bestRow a_bestBound a_falling a_bestFalling := by
        intro hok hR5 d
        induction d with
        | zero =>
          intro k pat neg hk g1 g2
          have e : k = D.length := by omega
          subst e
          refine pk_le D.length D.length (fun _ => ?_) (fun h => absurd h (by omega)) (hx := h5)
          rw [h4]
          refine And.intro (vp_in_nI (by omega) (by omega)) (nm_e (And.intro (vp_in_nI (by omega) (by omega)) (nm_e (nm_r (nI_1 R.length) ?_))))
          rw [nI_clamp (n := R.length) (by omega), nI_pred, h5]
          have hco : rx_CO D (3 * R.length) pat neg := by
            intro j q n hj
            have hl := (List.getElem?_eq_some_iff.mp hj).1
            rw [(g1 j hl).1, (g1 j hl).2]
            exact h9 j q n hj
          refine K ac _ hD0 rfl (by omega) hok hR5 ⟨hE, hc, hl, ?_, rfl, h6, h7, ?_, fun k q n h => absurd h (by simp), a, hA⟩
          · rw [List.length_append]; rfl
          · intro r c hr
            by_cases er : r < R.length
            · rw [List.getElem?_append_left er] at hr
              obtain ⟨q1, q2⟩ := h8 r c hr
              exact ⟨rx_RU_c q1 (pk_un (by omega)) (fun k hk => (g2 _ (by omega)).1) (fun k hk => (g2 _ (by omega)).2), by rw [pk_un (by omega)]; exact q2⟩
            · rw [List.getElem?_append_right (by omega)] at hr
              have hl := (List.getElem?_eq_some_iff.mp hr).1
              have hl : r - R.length < 1 := hl
              have e2 : r = R.length := by omega
              subst e2
              rw [Nat.sub_self] at hr
              have hr : some (D, ac) = some c := hr
              cases hr
              exact ⟨⟨hR5, pk_us, hD, hco⟩, pk_us⟩
        | succ d ih =>
          intro k pat neg hk g1 g2
          refine pk_le D.length k (fun h => absurd h (by omega)) (fun _ => ?_) (hx := h5)
          have e15 : 15 + nI k = nI (15 + k) := nI_add 15 _
          rw [e15, h4, rm_n3k]
          refine And.intro (vp_in_nI (by omega) (by omega)) (And.intro (vp_in_nI (by omega) (by omega)) (nm_e (And.intro (vp_in_nI (by omega) (by omega)) (And.intro (vp_in_nI (by omega) (by omega)) (nm_e (nm_r (nI_1 k) ?_))))))
          rw [nI_clamp (n := 15 + k) (by omega), nI_clamp (n := 3 * R.length + k) (by omega)]
          have hlt : k < D.length := by omega
          rcases hdk : D[k] with ⟨q, n⟩
          have hg : D[k]? = some (q, n) := by rw [List.getElem?_eq_getElem hlt, hdk]
          have hneg := (h9 k q n hg).2.2
          have o1 := (g2 (15 + k) (by omega)).1
          have o2 := (g2 (15 + k) (by omega)).2
          have o3 : vp_nar .boolean (neg (15 + k)) = a_negative (15 + k) := by rw [o2, hneg, rm_b_nar]
          rw [o1, o3, ← h4]
          refine ih (k + 1) _ _ (by omega) (fun j hj => ?_) (fun m hm => ?_)
          · by_cases ej : j = k
            · subst ej; exact ⟨pk_us, pk_us⟩
            · rw [pk_un (by omega), pk_un (by omega)]; exact g1 j (by omega)
          · rw [pk_un (by omega), pk_un (by omega)]; exact g2 m hm
      have at79 : (1 ≤ ac → ac ≤ 3 → ac ≤ rm_np D) → wX_rule_79 post (nI ac) f_used f_count f_lastTag f_ruleCount f_draftSize f_firedCount f_bestRule f_rowSize f_bestSize f_total f_openTotal a_tags a_types a_fields a_ofType a_ofValue a_sizes a_patterns a_negative a_actions a_firedRule a_firedTags a_bound a_candidates a_chosen a_row a_bestRow a_bestBound a_falling a_bestFalling := by
        intro hok
        refine pk_eq R.length 5 (fun e => K4 ac hD0 rfl (by omega) hok e) (fun e => ?_) (hx := h4)
        exact Exists.intro (D.length + 1) (copy hok (by omega) D.length 0 a_patterns a_negative (by omega) (fun j hj => absurd hj (by omega)) (fun _ _ => ⟨rfl, rfl⟩))
      have hnl := rm_np_le D
      have loop : ∀ d k, k + d = D.length → wX_rule_27 post (nI ac) f_used f_count f_lastTag f_ruleCount f_draftSize f_firedCount f_bestRule f_rowSize f_bestSize f_total f_openTotal a_tags a_types a_fields a_ofType a_ofValue a_sizes a_patterns a_negative a_actions a_firedRule a_firedTags a_bound a_candidates a_chosen a_row a_bestRow a_bestBound a_falling a_bestFalling (d + 1) (nI (rm_np (D.take k))) (nI k) := by
        intro d
        induction d with
        | zero =>
          intro k hk
          have e : k = D.length := by omega
          subst e
          rw [List.take_length]
          refine pk_le D.length D.length (fun _ => pk_lt ac 1 (fun z => at79 (fun y => absurd y (by omega))) (fun z => pk_lt 3 ac (fun y => at79 (fun _ w => absurd w (by omega))) (fun y => pk_le ac (rm_np D) (fun w => at79 (fun _ _ => w)) (fun w => K3 ac hD0 rfl (by omega) z y w)))) (fun h => absurd h (by omega)) (hx := h5)
        | succ d ih =>
          intro k hk
          have hlt : k < D.length := by omega
          rcases hdk : D[k] with ⟨q, n⟩
          have hg : D[k]? = some (q, n) := by rw [List.getElem?_eq_getElem hlt, hdk]
          have e15 : 15 + nI k = nI (15 + k) := nI_add 15 _
          have hs : rm_np (D.take (k + 1)) = rm_np (D.take k) + (if n then 0 else 1) := by
            rw [List.take_succ_eq_append_getElem hlt, hdk, rm_np_snoc]
          have ihk := ih (k + 1) (by omega)
          rw [hs] at ihk
          refine pk_le D.length k (fun h => absurd h (by omega)) (fun _ => ?_) (hx := h5)
          rw [e15]
          refine And.intro (vp_in_nI (by omega) (by omega)) ?_
          rw [nI_clamp (n := 15 + k) (by omega), (h9 k q n hg).2.2]
          refine rm_b_0 (fun e => ?_) (fun e => ?_)
          · subst e
            exact nm_r (nI_1 _) (nm_r (nI_1 k) ihk)
          · subst e
            exact nm_r (nI_add _ 0) (nm_r (nI_1 k) ihk)
      exact Exists.intro (D.length + 1) (loop D.length 0 (by omega))
    · exact br_f t1 (K2 hD0 (fun z => t1 z.2))
end
end
section
/-! ===== the component: fire ===== -/
def rm_vf (b : rm_As) (e : Nat) : Nat := if e < 16 then e else if e = 16 then 0 else match b (e - 17) with
  | none => 0
  | some y => y
theorem rm_vf_lt {b : rm_As} (hok : rm_okb b) (e : Nat) : rm_vf b e < 16 := by
  unfold rm_vf
  split
  · assumption
  · split
    · omega
    · split
      · omega
      · rename_i y hy; exact hok _ _ hy
theorem rm_vf_lo {b : rm_As} {e : Nat} (h : e < 16) : rm_vf b e = e := by unfold rm_vf; rw [if_pos h]
theorem rm_vf_16 {b : rm_As} {e : Nat} (h : e = 16) : rm_vf b e = 0 := by unfold rm_vf; rw [if_neg (by omega), if_pos h]
theorem rm_vf_n {b : rm_As} {e : Nat} (h : 16 < e) (hb : b (e - 17) = none) : rm_vf b e = 0 := by unfold rm_vf; rw [if_neg (by omega), if_neg (by omega), hb]
theorem rm_vf_s {b : rm_As} {e y : Nat} (h : 16 < e) (hb : b (e - 17) = some y) : rm_vf b e = y := by unfold rm_vf; rw [if_neg (by omega), if_neg (by omega), hb]
def rm_cd (b : rm_As) (q : Nat) : Nat → Nat
  | 0 => 0
  | k + 1 => 16 * rm_cd b q k + rm_vf b (rm_en q k)
theorem rm_cd3 {b : rm_As} (hok : rm_okb b) (q : Nat) : rm_cd b q 1 < 16 ∧ rm_cd b q 2 < 256 ∧ rm_cd b q 3 < 4096 ∧ rm_cd b q 3 = 256 * rm_vf b (rm_en q 0) + 16 * rm_vf b (rm_en q 1) + rm_vf b (rm_en q 2) := by
  have h0 := rm_vf_lt hok (rm_en q 0)
  have h1 := rm_vf_lt hok (rm_en q 1)
  have h2 := rm_vf_lt hok (rm_en q 2)
  have e1 : rm_cd b q 1 = 16 * 0 + rm_vf b (rm_en q 0) := rfl
  have e2 : rm_cd b q 2 = 16 * rm_cd b q 1 + rm_vf b (rm_en q 1) := rfl
  have e3 : rm_cd b q 3 = 16 * rm_cd b q 2 + rm_vf b (rm_en q 2) := rfl
  omega
section
variable {f_used f_count f_lastTag f_ruleCount f_draftSize f_firedCount f_bestRule f_rowSize f_bestSize f_total f_openTotal : Int32} {a_tags a_types a_fields a_ofType a_ofValue a_sizes a_patterns a_negative a_actions a_firedRule a_firedTags a_bound a_candidates a_chosen a_row a_bestRow a_bestBound a_falling a_bestFalling : Nat → Int32}
theorem rx_valueFor {b : rm_As} (hok : rm_okb b) (hbb : ∀ v, v < 3 → a_bestBound v = rm_enc (b v)) {e : Nat} (he : e < 20) {post : Int32 → Prop} (h : post (nI (rm_vf b e))) : wpX_valueFor post (f_used, f_count, f_lastTag, f_ruleCount, f_draftSize, f_firedCount, f_bestRule, f_rowSize, f_bestSize, f_total, f_openTotal, a_tags, a_types, a_fields, a_ofType, a_ofValue, a_sizes, a_patterns, a_negative, a_actions, a_firedRule, a_firedTags, a_bound, a_candidates, a_chosen, a_row, a_bestRow, a_bestBound, a_falling, a_bestFalling) (nI e) := by
  refine pk_le 16 e (fun h16 => pk_eq e 16 (fun e16 => ?_) (fun ne => ?_)) (fun h16 => ?_)
  · rw [rm_vf_16 e16] at h
    exact h
  · have e1 : nI e - 17 = nI (e - 17) := pk_sub (b := 17) (by omega)
    rw [e1]
    refine And.intro (vp_in_nI (by omega) (by omega)) ?_
    rw [nI_clamp (n := e - 17) (by omega), hbb _ (by omega)]
    cases hb : b (e - 17) with
    | none =>
      rw [rm_vf_n (by omega) hb] at h
      exact br_t rfl h
    | some y =>
      rw [rm_vf_s (by omega) hb] at h
      have hy := hok _ _ hb
      refine br_f ?_ (And.intro (vp_in_nI (by omega) (by omega)) h)
      intro z
      have := (rm_encm1 (o := some y) (fun y' h' => by cases h'; exact hy)).mp z
      exact absurd this (by simp)
  · rw [rm_vf_lo h16] at h
    exact h
theorem rz_act {cell : Nat → Option rm_El} {N L : Nat} {R : List rm_Ru} {D : List rm_Cd} {F : List rm_FE} (hX : rz_X cell N R D F L (f_used, f_count, f_lastTag, f_ruleCount, f_draftSize, f_firedCount, f_bestRule, f_rowSize, f_bestSize, f_total, f_openTotal, a_tags, a_types, a_fields, a_ofType, a_ofValue, a_sizes, a_patterns, a_negative, a_actions, a_firedRule, a_firedTags, a_bound, a_candidates, a_chosen, a_row, a_bestRow, a_bestBound, a_falling, a_bestFalling)) (hL : L < 2147483000) (hF : F.length ≤ 40) (hN : N ≤ 12) (hN1 : ∀ c x, cell c = some x → 1 ≤ N) (hfree : N < 12 → ∃ c, c < 12 ∧ cell c = none) {t : List Int32} {b : rm_As} (hok : rm_okb b) (ht : t.length ≤ 3)
    (hbr : ∀ k, k < t.length → a_bestRow k = rm_g t k) (hbb : ∀ v, v < 3 → a_bestBound v = rm_enc (b v)) {ac : Nat} (hac : ac < 32004) (hact : 1 ≤ ac → ac ≤ 3 → ac ≤ t.length) {post : SX → Prop}
    (K0 : (ac = 0 ∨ (4 ≤ ac ∧ N = 12) ∨ (1 ≤ ac ∧ ac ≤ 3 ∧ ∀ c x, cell c = some x → x.1 ≠ rm_g t (ac - 1))) → post (f_used, f_count, f_lastTag, f_ruleCount, f_draftSize, f_firedCount, f_bestRule, f_rowSize, f_bestSize, f_total, f_openTotal, a_tags, a_types, a_fields, a_ofType, a_ofValue, a_sizes, a_patterns, a_negative, a_actions, a_firedRule, a_firedTags, a_bound, a_candidates, a_chosen, a_row, a_bestRow, a_bestBound, a_falling, a_bestFalling))
    (K1 : ∀ c x u', 1 ≤ ac → ac ≤ 3 → cell c = some x → x.1 = rm_g t (ac - 1) → rz_br u' = f_bestRule → rz_X (rm_cu cell c none) (N - 1) R D (F.filter (rm_nh (rm_g t (ac - 1)))) L u' → post u')
    (K2 : ∀ c u', 4 ≤ ac → N < 12 → c < 12 → cell c = none → rz_br u' = f_bestRule → rz_X (rm_cu cell c (some (nI (L + 1), (ac - 4) / 8000, rm_cd b (ac - 4) 3))) (N + 1) R D F (L + 1) u' → post u') : wpX_act post (f_used, f_count, f_lastTag, f_ruleCount, f_draftSize, f_firedCount, f_bestRule, f_rowSize, f_bestSize, f_total, f_openTotal, a_tags, a_types, a_fields, a_ofType, a_ofValue, a_sizes, a_patterns, a_negative, a_actions, a_firedRule, a_firedTags, a_bound, a_candidates, a_chosen, a_row, a_bestRow, a_bestBound, a_falling, a_bestFalling) (nI ac) := by
  have hE := hX.1
  refine pk_eq ac 0 (fun e => K0 (Or.inl e)) (fun h0 => pk_lt 3 ac (fun h3 => ?_) (fun h3 => ?_))
  · refine pk_le 12 N (fun h => K0 (Or.inr (Or.inl ⟨by omega, by omega⟩))) (fun h => ?_) (hy := hX.2.1)
    refine nm_r (e' := nI (ac - 4)) (pk_sub (b := 4) (by omega)) (Exists.intro 4 ?_)
    have loop : ∀ d k, k + d = 3 → wX_act_51 post (nI (ac - 4)) f_used f_count f_lastTag f_ruleCount f_draftSize f_firedCount f_bestRule f_rowSize f_bestSize f_total f_openTotal a_tags a_types a_fields a_ofType a_ofValue a_sizes a_patterns a_negative a_actions a_firedRule a_firedTags a_bound a_candidates a_chosen a_row a_bestRow a_bestBound a_falling a_bestFalling (d + 1) (nI (rm_cd b (ac - 4) k)) (nI k) := by
      intro d
      induction d with
      | zero =>
        intro k hk
        have e : k = 3 := by omega
        subst e
        refine pk_le 3 3 (fun _ => And.intro (by decide) ?_) (fun h => absurd h (by omega))
        rw [rm_d8 (by omega)]
        obtain ⟨hE, hc, hl, h4, h5, h6, h7, h8, h9, a, hA⟩ := hX
        refine rx_enter hL hl hE (by omega) (rm_cd3 hok _).2.2.1 (hfree (by omega)) (fun c f_used' a_tags' a_types' a_fields' a_ofType' a_ofValue' hc1 hc2 hE' => ?_)
        exact K2 c (f_used', f_count + 1, nI (L + 1), f_ruleCount, f_draftSize, f_firedCount, f_bestRule, f_rowSize, f_bestSize, f_total, f_openTotal, a_tags', a_types', a_fields', a_ofType', a_ofValue', a_sizes, a_patterns, a_negative, a_actions, a_firedRule, a_firedTags, a_bound, a_candidates, a_chosen, a_row, a_bestRow, a_bestBound, a_falling, a_bestFalling) (by omega) (by omega) hc1 hc2 rfl ⟨hE', by rw [hc, nI_1], rfl, h4, h5, h6, h7, h8, h9, a, hA⟩
      | succ d ih =>
        intro k hk
        refine pk_le 3 k (fun h => absurd h (by omega)) (fun _ => rm_wpe (q := ac - 4) (k := k) (by omega) (by omega) ?_)
        refine rx_valueFor hok hbb (rm_en_lt _ _) ?_
        refine nm_r (e' := nI (rm_cd b (ac - 4) (k + 1))) ?_ (nm_r (nI_1 k) (ih (k + 1) (by omega)))
        have e : (16 : Int32) * nI (rm_cd b (ac - 4) k) = nI (16 * rm_cd b (ac - 4) k) := pk_mul 16 _
        rw [e, nI_add]
        rfl
    exact loop 3 0 rfl
  · have hlt := hact (by omega) (by omega)
    have e1 : nI ac - 1 = nI (ac - 1) := pk_sub (b := 1) (by omega)
    rw [e1]
    refine And.intro (vp_in_nI (by omega) (by omega)) ?_
    rw [nI_clamp (n := ac - 1) (by omega), hbr _ (by omega)]
    refine rx_cellOf hE (fun c x hx hxt => ?_) (fun h => ?_)
    · have hc := (hE.1 c x hx).1
      refine br_f (nI_pos (by omega)) (rz_leave hX hF (hN1 c x hx) hx ?_)
      rw [hxt]
      refine zz_X ?_
      intro f_used' f_count' f_lastTag' f_ruleCount' f_draftSize' f_firedCount' f_bestRule' f_rowSize' f_bestSize' f_total' f_openTotal' a_tags' a_types' a_fields' a_ofType' a_ofValue' a_sizes' a_patterns' a_negative' a_actions' a_firedRule' a_firedTags' a_bound' a_candidates' a_chosen' a_row' a_bestRow' a_bestBound' a_falling' a_bestFalling' h1 h2
      exact K1 c x _ (by omega) (by omega) hx hxt h1 h2
    · exact br_t (by decide) (K0 (Or.inr (Or.inr ⟨by omega, by omega, h⟩)))
theorem rz_fire {cell : Nat → Option rm_El} {N L : Nat} {R : List rm_Ru} {D : List rm_Cd} {F : List rm_FE} (hX : rz_X cell N R D F L (f_used, f_count, f_lastTag, f_ruleCount, f_draftSize, f_firedCount, f_bestRule, f_rowSize, f_bestSize, f_total, f_openTotal, a_tags, a_types, a_fields, a_ofType, a_ofValue, a_sizes, a_patterns, a_negative, a_actions, a_firedRule, a_firedTags, a_bound, a_candidates, a_chosen, a_row, a_bestRow, a_bestBound, a_falling, a_bestFalling)) (hL : L < 2147483000) (hV : rm_RV R) (hF : F.length ≤ 40) (hFS : rm_FS R F) (hN : N ≤ 12) (hN1 : ∀ c x, cell c = some x → 1 ≤ N) (hfree : N < 12 → ∃ c, c < 12 ∧ cell c = none)
    (hwf : ∀ w, (rm_all (rm_ce cell) F R R.length).2.2 = some w → ∃ c, R[w.1]? = some c ∧ w.2.1.length = rm_np c.1) {post : Int32 → SX → Prop}
    (Kn : ∀ u', (rm_all (rm_ce cell) F R R.length).2.2 = none → rz_X cell N R D F L u' → post (-1) u')
    (Kf : ∀ w u', (rm_all (rm_ce cell) F R R.length).2.2 = some w → F.length = 40 → rz_X cell N R D F L u' → post (-2) u')
    (K0 : ∀ w c u', (rm_all (rm_ce cell) F R R.length).2.2 = some w → R[w.1]? = some c → F.length < 40 → (c.2 = 0 ∨ (4 ≤ c.2 ∧ N = 12) ∨ (1 ≤ c.2 ∧ c.2 ≤ 3 ∧ ∀ i x, cell i = some x → x.1 ≠ rm_g w.2.1 (c.2 - 1))) → rz_X cell N R D (F ++ [(nI w.1, rm_g w.2.1 0, rm_g w.2.1 1, rm_g w.2.1 2)]) L u' → post (nI w.1) u')
    (K1 : ∀ w c i x u', (rm_all (rm_ce cell) F R R.length).2.2 = some w → R[w.1]? = some c → F.length < 40 → 1 ≤ c.2 → c.2 ≤ 3 → cell i = some x → x.1 = rm_g w.2.1 (c.2 - 1) → rz_X (rm_cu cell i none) (N - 1) R D ((F ++ [(nI w.1, rm_g w.2.1 0, rm_g w.2.1 1, rm_g w.2.1 2)]).filter (rm_nh (rm_g w.2.1 (c.2 - 1)))) L u' → post (nI w.1) u')
    (K2 : ∀ w c i u', (rm_all (rm_ce cell) F R R.length).2.2 = some w → R[w.1]? = some c → F.length < 40 → 4 ≤ c.2 → N < 12 → i < 12 → cell i = none → rm_okb w.2.2 → rz_X (rm_cu cell i (some (nI (L + 1), (c.2 - 4) / 8000, rm_cd w.2.2 (c.2 - 4) 3))) (N + 1) R D (F ++ [(nI w.1, rm_g w.2.1 0, rm_g w.2.1 1, rm_g w.2.1 2)]) (L + 1) u' → post (nI w.1) u') :
    wpX_fire post (f_used, f_count, f_lastTag, f_ruleCount, f_draftSize, f_firedCount, f_bestRule, f_rowSize, f_bestSize, f_total, f_openTotal, a_tags, a_types, a_fields, a_ofType, a_ofValue, a_sizes, a_patterns, a_negative, a_actions, a_firedRule, a_firedTags, a_bound, a_candidates, a_chosen, a_row, a_bestRow, a_bestBound, a_falling, a_bestFalling) := by
  unfold wpX_fire
  refine rz_searchAll hX hV hF hFS (fun f_bestRule' f_rowSize' f_bestSize' f_total' f_openTotal' a_bound' a_candidates' a_chosen' a_row' a_bestRow' a_bestBound' a_falling' a_bestFalling' hX' hA' => ?_)
  have hbs := hA'.2.2
  cases hw : (rm_all (rm_ce cell) F R R.length).2.2 with
  | none =>
    rw [hw] at hbs
    have hbs : f_bestRule' = -1 := hbs
    exact br_f (by rw [hbs]; decide) (Kn _ hw hX')
  | some w =>
    rw [hw] at hbs
    obtain ⟨w1, w2, w3, w4, w5, w6, w7, w8, w9, w10⟩ := hbs
    obtain ⟨c, hc, hlen⟩ := hwf w hw
    have hv := hV.2 c (List.mem_of_getElem? hc)
    refine br_t (by rw [w1]; exact nI_pos' (by omega)) ?_
    have h6 := hX'.2.2.2.2.2.1
    refine pk_eq F.length 40 (fun e => Kf w _ hw e hX') (fun hne => ?_) (hx := h6)
    rw [h6]
    refine And.intro (vp_in_nI (by omega) (by omega)) (nm_e (Exists.intro 4 ?_))
    rw [nI_clamp (n := F.length) (by omega)]
    have loop : ∀ d k ft', k + d = 3 → (∀ j, j < k → ft' (3 * F.length + j) = rm_g w.2.1 j) → (∀ m, m < 3 * F.length → ft' m = a_firedTags m) →
        wX_fire_40 post f_used f_count f_lastTag f_ruleCount f_draftSize (nI F.length) f_bestRule' f_rowSize' f_bestSize' f_total' f_openTotal' (d + 1) (nI k) a_tags a_types a_fields a_ofType a_ofValue a_sizes a_patterns a_negative a_actions (upd a_firedRule F.length f_bestRule') ft' a_bound' a_candidates' a_chosen' a_row' a_bestRow' a_bestBound' a_falling' a_bestFalling' := by
      intro d
      induction d with
      | zero =>
        intro k ft' hk g1 g2
        have e : k = 3 := by omega
        subst e
        refine pk_le 3 3 (fun _ => nm_r (nI_1 F.length) ?_) (fun h => absurd h (by omega))
        obtain ⟨hE, hcn, hl, h4, h5, _, h7, h8, h9, a, hA⟩ := hX'
        rw [w1]
        refine And.intro (vp_in_nI (by omega) (by omega)) ?_
        rw [nI_clamp (n := w.1) (by omega), (h8 w.1 c hc).2]
        have eF : rm_F (F.length + 1) (upd a_firedRule F.length (nI w.1)) ft' = F ++ [(nI w.1, rm_g w.2.1 0, rm_g w.2.1 1, rm_g w.2.1 2)] := by
          rw [rm_F_s, rm_F_c (fr := a_firedRule) (ft := a_firedTags) (fun i hi => pk_un (by omega)) (fun m hm => g2 m hm), h7, pk_us, ← g1 0 (by omega), ← g1 1 (by omega), ← g1 2 (by omega)]
          rfl
        have hlen1 : (F ++ [(nI w.1, rm_g w.2.1 0, rm_g w.2.1 1, rm_g w.2.1 2)]).length = F.length + 1 := by rw [List.length_append]; rfl
        have hX2 : rz_X cell N R D (F ++ [(nI w.1, rm_g w.2.1 0, rm_g w.2.1 1, rm_g w.2.1 2)]) L (f_used, f_count, f_lastTag, f_ruleCount, f_draftSize, nI (F.length + 1), nI w.1, f_rowSize', f_bestSize', f_total', f_openTotal', a_tags, a_types, a_fields, a_ofType, a_ofValue, a_sizes, a_patterns, a_negative, a_actions, upd a_firedRule F.length (nI w.1), ft', a_bound', a_candidates', a_chosen', a_row', a_bestRow', a_bestBound', a_falling', a_bestFalling') := by
          refine ⟨hE, hcn, hl, h4, h5, by rw [hlen1], by rw [hlen1]; exact eF, h8, h9, (rm_all (rm_ce cell) F R R.length), ?_⟩
          rw [w1] at hA'
          exact hA'
        refine rz_act hX2 hL (by rw [hlen1]; omega) hN hN1 hfree w10 w5 w7 w9 hv.2.2.1 (fun z1 z2 => by rw [hlen]; exact hv.2.2.2 z1 z2) (fun z => ?_) (fun i x => zz_X ?_) (fun i => zz_X ?_)
        · exact K0 w c _ hw hc (by omega) z hX2
        · intro f_used'' f_count'' f_lastTag'' f_ruleCount'' f_draftSize'' f_firedCount'' f_bestRule'' f_rowSize'' f_bestSize'' f_total'' f_openTotal'' a_tags'' a_types'' a_fields'' a_ofType'' a_ofValue'' a_sizes'' a_patterns'' a_negative'' a_actions'' a_firedRule'' a_firedTags'' a_bound'' a_candidates'' a_chosen'' a_row'' a_bestRow'' a_bestBound'' a_falling'' a_bestFalling'' z1 z2 z3 z4 z5 z6
          have k := K1 w c i x _ hw hc (by omega) z1 z2 z3 z4 z6
          have z5 : f_bestRule'' = nI w.1 := z5
          rw [← z5] at k
          exact k
        · intro f_used'' f_count'' f_lastTag'' f_ruleCount'' f_draftSize'' f_firedCount'' f_bestRule'' f_rowSize'' f_bestSize'' f_total'' f_openTotal'' a_tags'' a_types'' a_fields'' a_ofType'' a_ofValue'' a_sizes'' a_patterns'' a_negative'' a_actions'' a_firedRule'' a_firedTags'' a_bound'' a_candidates'' a_chosen'' a_row'' a_bestRow'' a_bestBound'' a_falling'' a_bestFalling'' z1 z2 z3 z4 z5 z6
          have k := K2 w c i _ hw hc (by omega) z1 z2 z3 z4 w10 z6
          have z5 : f_bestRule'' = nI w.1 := z5
          rw [← z5] at k
          exact k
      | succ d ih =>
        intro k ft' hk g1 g2
        refine pk_le 3 k (fun h => absurd h (by omega)) (fun _ => ?_)
        rw [rm_n3k]
        refine pk_le w.2.1.length k (fun h => And.intro (vp_in_nI (by omega) (by omega)) (nm_e (nm_r (nI_1 k) ?_))) (fun h => And.intro (vp_in_nI (by omega) (by omega)) (And.intro (vp_in_nI (by omega) (by omega)) (nm_e (nm_r (nI_1 k) ?_)))) (hx := w3)
        · rw [nI_clamp (n := 3 * F.length + k) (by omega)]
          refine ih (k + 1) _ (by omega) (fun j hj => ?_) (fun m hm => ?_)
          · by_cases e : j = k
            · subst e; rw [pk_us, rm_g_ge h]
            · rw [pk_un (by omega)]; exact g1 j (by omega)
          · rw [pk_un (by omega)]; exact g2 m hm
        · rw [nI_clamp (n := 3 * F.length + k) (by omega), nI_clamp (n := k) (by omega)]
          refine ih (k + 1) _ (by omega) (fun j hj => ?_) (fun m hm => ?_)
          · by_cases e : j = k
            · subst e; rw [pk_us]; exact w7 j h
            · rw [pk_un (by omega)]; exact g1 j (by omega)
          · rw [pk_un (by omega)]; exact g2 m hm
    exact loop 3 0 a_firedTags rfl (fun j hj => absurd hj (by omega)) (fun _ _ => rfl)
theorem rz_open {cell : Nat → Option rm_El} {N L : Nat} {R : List rm_Ru} {D : List rm_Cd} {F : List rm_FE} (hX : rz_X cell N R D F L (f_used, f_count, f_lastTag, f_ruleCount, f_draftSize, f_firedCount, f_bestRule, f_rowSize, f_bestSize, f_total, f_openTotal, a_tags, a_types, a_fields, a_ofType, a_ofValue, a_sizes, a_patterns, a_negative, a_actions, a_firedRule, a_firedTags, a_bound, a_candidates, a_chosen, a_row, a_bestRow, a_bestBound, a_falling, a_bestFalling)) (hV : rm_RV R) (hF : F.length ≤ 40) (hFS : rm_FS R F) {post : Int32 → SX → Prop}
    (K : ∀ u', rz_X cell N R D F L u' → post (rm_all (rm_ce cell) F R R.length).2.1 u') : wpX_open post (f_used, f_count, f_lastTag, f_ruleCount, f_draftSize, f_firedCount, f_bestRule, f_rowSize, f_bestSize, f_total, f_openTotal, a_tags, a_types, a_fields, a_ofType, a_ofValue, a_sizes, a_patterns, a_negative, a_actions, a_firedRule, a_firedTags, a_bound, a_candidates, a_chosen, a_row, a_bestRow, a_bestBound, a_falling, a_bestFalling) := by
  unfold wpX_open
  refine rz_searchAll hX hV hF hFS (fun f_bestRule' f_rowSize' f_bestSize' f_total' f_openTotal' a_bound' a_candidates' a_chosen' a_row' a_bestRow' a_bestBound' a_falling' a_bestFalling' hX' hA' => ?_)
  have k := K _ hX'
  have e := hA'.2.1
  rw [← e] at k
  exact k
def rm_br (o : rm_Bs) : Int32 := match o with
  | none => -1
  | some w => nI w.1
theorem rz_firstRule {cell : Nat → Option rm_El} {N L : Nat} {R : List rm_Ru} {D : List rm_Cd} {F : List rm_FE} (hX : rz_X cell N R D F L (f_used, f_count, f_lastTag, f_ruleCount, f_draftSize, f_firedCount, f_bestRule, f_rowSize, f_bestSize, f_total, f_openTotal, a_tags, a_types, a_fields, a_ofType, a_ofValue, a_sizes, a_patterns, a_negative, a_actions, a_firedRule, a_firedTags, a_bound, a_candidates, a_chosen, a_row, a_bestRow, a_bestBound, a_falling, a_bestFalling)) (hV : rm_RV R) (hF : F.length ≤ 40) (hFS : rm_FS R F) {post : Int32 → SX → Prop}
    (K : ∀ u', rz_X cell N R D F L u' → post (rm_br (rm_all (rm_ce cell) F R R.length).2.2) u') : wpX_firstRule post (f_used, f_count, f_lastTag, f_ruleCount, f_draftSize, f_firedCount, f_bestRule, f_rowSize, f_bestSize, f_total, f_openTotal, a_tags, a_types, a_fields, a_ofType, a_ofValue, a_sizes, a_patterns, a_negative, a_actions, a_firedRule, a_firedTags, a_bound, a_candidates, a_chosen, a_row, a_bestRow, a_bestBound, a_falling, a_bestFalling) := by
  unfold wpX_firstRule
  refine rz_searchAll hX hV hF hFS (fun f_bestRule' f_rowSize' f_bestSize' f_total' f_openTotal' a_bound' a_candidates' a_chosen' a_row' a_bestRow' a_bestBound' a_falling' a_bestFalling' hX' hA' => ?_)
  have k := K _ hX'
  have e : f_bestRule' = rm_br (rm_all (rm_ce cell) F R R.length).2.2 := by
    have hbs := hA'.2.2
    cases hw : (rm_all (rm_ce cell) F R R.length).2.2 with
    | none => rw [hw] at hbs; exact hbs
    | some w => rw [hw] at hbs; exact hbs.1
  rw [← e] at k
  exact k
def rm_bk (o : rm_Bs) (p : Int32) : Int32 := match o with
  | none => -1
  | some w => if 0 ≤ p ∧ p < nI w.2.1.length then rm_g w.2.1 p.toNatClampNeg else -2
theorem rz_firstTag {cell : Nat → Option rm_El} {N L : Nat} {R : List rm_Ru} {D : List rm_Cd} {F : List rm_FE} (hX : rz_X cell N R D F L (f_used, f_count, f_lastTag, f_ruleCount, f_draftSize, f_firedCount, f_bestRule, f_rowSize, f_bestSize, f_total, f_openTotal, a_tags, a_types, a_fields, a_ofType, a_ofValue, a_sizes, a_patterns, a_negative, a_actions, a_firedRule, a_firedTags, a_bound, a_candidates, a_chosen, a_row, a_bestRow, a_bestBound, a_falling, a_bestFalling)) (hV : rm_RV R) (hF : F.length ≤ 40) (hFS : rm_FS R F) {p : Int32} {post : Int32 → SX → Prop}
    (K : ∀ u', rz_X cell N R D F L u' → post (rm_bk (rm_all (rm_ce cell) F R R.length).2.2 p) u') : wpX_firstTag post (f_used, f_count, f_lastTag, f_ruleCount, f_draftSize, f_firedCount, f_bestRule, f_rowSize, f_bestSize, f_total, f_openTotal, a_tags, a_types, a_fields, a_ofType, a_ofValue, a_sizes, a_patterns, a_negative, a_actions, a_firedRule, a_firedTags, a_bound, a_candidates, a_chosen, a_row, a_bestRow, a_bestBound, a_falling, a_bestFalling) p := by
  unfold wpX_firstTag
  refine rz_searchAll hX hV hF hFS (fun f_bestRule' f_rowSize' f_bestSize' f_total' f_openTotal' a_bound' a_candidates' a_chosen' a_row' a_bestRow' a_bestBound' a_falling' a_bestFalling' hX' hA' => ?_)
  have hbs := hA'.2.2
  have k := K _ hX'
  cases hw : (rm_all (rm_ce cell) F R R.length).2.2 with
  | none =>
    rw [hw] at hbs k
    have hbs : f_bestRule' = -1 := hbs
    exact br_f (by rw [hbs]; decide) k
  | some w =>
    rw [hw] at hbs k
    obtain ⟨w1, w2, w3, w4, w5, w6, w7, w8, w9, w10⟩ := hbs
    refine br_t (by rw [w1]; exact nI_pos' (by omega)) ?_
    unfold rm_bk at k
    dsimp only at k
    by_cases t0 : p < 0
    · rw [if_neg (fun z => absurd t0 (Int32.not_lt.mpr z.1))] at k
      exact br_t t0 k
    · refine br_f t0 ?_
      by_cases t1 : f_bestSize' ≤ p
      · rw [if_neg (fun z => absurd z.2 (by rw [← w3]; exact Int32.not_lt.mpr t1))] at k
        exact br_t t1 k
      · obtain ⟨j, hj, rfl⟩ := nI_of t0
        have t2 : nI j < nI w.2.1.length := by rw [← w3]; exact Int32.not_le.mp t1
        have hjl : j < w.2.1.length := (nI_ltI hj (by omega)).mp t2
        rw [if_pos ⟨nI_pos' hj, t2⟩, nI_clamp hj] at k
        refine br_f t1 (And.intro (vp_in_nI (by omega) (by omega)) ?_)
        rw [nI_clamp hj, w7 j hjl]
        exact k
end
end
section
/-! ===== the reference: elements ===== -/
def ry_YE (E : List rm_El) (f_count : Int32) (a_tag a_type a_fields : Nat → Int32) : Prop :=
  f_count = nI E.length ∧ E.length ≤ 12 ∧ ∀ i x, E[i]? = some x → a_tag i = x.1 ∧ a_type i = nI x.2.1 ∧ a_fields i = nI x.2.2 ∧ x.2.1 < 4 ∧ x.2.2 < 4096
def rz_Y (E : List rm_El) (R : List rm_Ru) (D : List rm_Cd) (F : List rm_FE) (L : Nat) (v : SY) : Prop := match v with
  | (f_count, f_lastTag, f_drafted, f_rules, f_fired, f_length, f_bestRule, f_bestLength, a_tag, a_type, a_fields, a_draftPattern, a_draftNot, a_size, a_pattern, a_not, a_action, a_firedRule, a_firedTag, a_row, a_bound, a_saved, a_mine, a_best, a_bestTag, a_bestBound) => ry_YE E f_count a_tag a_type a_fields ∧ f_lastTag = nI L ∧ f_rules = nI R.length ∧ f_drafted = nI D.length ∧ f_fired = nI F.length ∧ rm_F F.length a_firedRule a_firedTag = F ∧ rx_RL R a_size a_pattern a_not a_action ∧ rx_CO D 0 a_draftPattern a_draftNot
def ry_br (v : SY) : Int32 := match v with
  | (f_count, f_lastTag, f_drafted, f_rules, f_fired, f_length, f_bestRule, f_bestLength, a_tag, a_type, a_fields, a_draftPattern, a_draftNot, a_size, a_pattern, a_not, a_action, a_firedRule, a_firedTag, a_row, a_bound, a_saved, a_mine, a_best, a_bestTag, a_bestBound) => f_bestRule
section
variable {f_count f_lastTag f_drafted f_rules f_fired f_length f_bestRule f_bestLength : Int32} {a_tag a_type a_fields a_draftPattern a_draftNot a_size a_pattern a_not a_action a_firedRule a_firedTag a_row a_bound a_saved a_mine a_best a_bestTag a_bestBound : Nat → Int32}
theorem ry_find2 {E : List rm_El} (hE : ry_YE E f_count a_tag a_type a_fields) {t : Int32} {post : Int32 → Prop} (h1 : ∀ i x, E[i]? = some x → x.1 = t → post (nI i)) (h0 : (∀ x, x ∈ E → x.1 ≠ t) → post (-1)) :
    ∀ d j, j + d = E.length → (∀ i x, i < j → E[i]? = some x → x.1 ≠ t) → wY_find_2 post t f_count f_lastTag f_drafted f_rules f_fired f_length f_bestRule f_bestLength a_tag a_type a_fields a_draftPattern a_draftNot a_size a_pattern a_not a_action a_firedRule a_firedTag a_row a_bound a_saved a_mine a_best a_bestTag a_bestBound (d + 1) (nI j) := by
  have h12 := hE.2.1
  intro d
  induction d with
  | zero =>
    intro j hj hn
    refine pk_le E.length j (fun _ => h0 (fun x hx => ?_)) (fun h => absurd h (by omega)) (hx := hE.1)
    obtain ⟨i, hi⟩ := List.mem_iff_getElem?.mp hx
    have hl := (List.getElem?_eq_some_iff.mp hi).1
    exact hn i x (by omega) hi
  | succ d ih =>
    intro j hj hn
    have hlt : j < E.length := by omega
    have hg : E[j]? = some E[j] := List.getElem?_eq_getElem hlt
    have hx := hE.2.2 j _ hg
    refine pk_le E.length j (fun h => absurd h (by omega)) (fun _ => pk_le 12 j (fun h => absurd h (by omega)) (fun _ => And.intro (vp_in_nI (by omega) (by omega)) ?_)) (hx := hE.1)
    rw [nI_clamp (n := j) (by omega), hx.1]
    by_cases e : E[j].1 = t
    · exact br_t e (h1 j _ hg e)
    · refine br_f e (nm_r (nI_1 j) (ih (j + 1) (by omega) (fun i x hi hx2 => ?_)))
      by_cases ei : i = j
      · subst ei
        rw [hg] at hx2
        cases hx2
        exact e
      · exact hn i x (by omega) hx2
theorem ry_find {E : List rm_El} (hE : ry_YE E f_count a_tag a_type a_fields) {t : Int32} {post : Int32 → Prop} (h1 : ∀ i x, E[i]? = some x → x.1 = t → post (nI i)) (h0 : (∀ x, x ∈ E → x.1 ≠ t) → post (-1)) : wpY_find post (f_count, f_lastTag, f_drafted, f_rules, f_fired, f_length, f_bestRule, f_bestLength, a_tag, a_type, a_fields, a_draftPattern, a_draftNot, a_size, a_pattern, a_not, a_action, a_firedRule, a_firedTag, a_row, a_bound, a_saved, a_mine, a_best, a_bestTag, a_bestBound) t :=
  Exists.intro (E.length + 1) (ry_find2 hE h1 h0 E.length 0 (by omega) (fun i x hi => absurd hi (by omega)))
theorem ry_add {E : List rm_El} {R : List rm_Ru} {D : List rm_Cd} {F : List rm_FE} {L : Nat} (hY : rz_Y E R D F L (f_count, f_lastTag, f_drafted, f_rules, f_fired, f_length, f_bestRule, f_bestLength, a_tag, a_type, a_fields, a_draftPattern, a_draftNot, a_size, a_pattern, a_not, a_action, a_firedRule, a_firedTag, a_row, a_bound, a_saved, a_mine, a_best, a_bestTag, a_bestBound)) {y x : Nat} (hy : y < 4) (hx : x < 4096) {post : Int32 → SY → Prop} (K0 : E.length = 12 → post (-3) (f_count, f_lastTag, f_drafted, f_rules, f_fired, f_length, f_bestRule, f_bestLength, a_tag, a_type, a_fields, a_draftPattern, a_draftNot, a_size, a_pattern, a_not, a_action, a_firedRule, a_firedTag, a_row, a_bound, a_saved, a_mine, a_best, a_bestTag, a_bestBound))
    (K1 : ∀ v', E.length < 12 → ry_br v' = f_bestRule → rz_Y (E ++ [(nI (L + 1), y, x)]) R D F (L + 1) v' → post (nI (L + 1)) v') : wpY_add post (f_count, f_lastTag, f_drafted, f_rules, f_fired, f_length, f_bestRule, f_bestLength, a_tag, a_type, a_fields, a_draftPattern, a_draftNot, a_size, a_pattern, a_not, a_action, a_firedRule, a_firedTag, a_row, a_bound, a_saved, a_mine, a_best, a_bestTag, a_bestBound) (nI y) (nI x) := by
  obtain ⟨hE, hl, h2, h3, h4, h5, h6, h7⟩ := hY
  have h12 := hE.2.1
  refine pk_le E.length 11 (fun h => ?_) (fun h => K0 (by omega)) (hx := hE.1)
  rw [hE.1]
  refine nm_r (e' := nI (L + 1)) (by rw [hl, nI_1]) (And.intro (vp_in_nI (by omega) (by omega)) (nm_e (And.intro (vp_in_nI (by omega) (by omega)) (nm_e (And.intro (vp_in_nI (by omega) (by omega)) (nm_e (nm_r (nI_1 E.length) ?_)))))))
  rw [nI_clamp (n := E.length) (by omega)]
  refine K1 (nI (E.length + 1), nI (L + 1), f_drafted, f_rules, f_fired, f_length, f_bestRule, f_bestLength, upd a_tag E.length (nI (L + 1)), upd a_type E.length (nI y), upd a_fields E.length (nI x), a_draftPattern, a_draftNot, a_size, a_pattern, a_not, a_action, a_firedRule, a_firedTag, a_row, a_bound, a_saved, a_mine, a_best, a_bestTag, a_bestBound) (by omega) rfl ⟨⟨?_, ?_, ?_⟩, rfl, h2, h3, h4, h5, h6, h7⟩
  · rw [List.length_append]; rfl
  · rw [List.length_append]; show E.length + 1 ≤ 12; omega
  · intro i z hz
    by_cases e : i < E.length
    · rw [List.getElem?_append_left e] at hz
      rw [pk_un (by omega), pk_un (by omega), pk_un (by omega)]
      exact hE.2.2 i z hz
    · rw [List.getElem?_append_right (by omega)] at hz
      have hl := (List.getElem?_eq_some_iff.mp hz).1
      have hl : i - E.length < 1 := hl
      have e2 : i = E.length := by omega
      subst e2
      rw [Nat.sub_self] at hz
      have hz : some (nI (L + 1), y, x) = some z := hz
      cases hz
      exact ⟨pk_us, pk_us, pk_us, hy, hx⟩
theorem ry_drop {E : List rm_El} {R : List rm_Ru} {D : List rm_Cd} {F : List rm_FE} {L : Nat} (hY : rz_Y E R D F L (f_count, f_lastTag, f_drafted, f_rules, f_fired, f_length, f_bestRule, f_bestLength, a_tag, a_type, a_fields, a_draftPattern, a_draftNot, a_size, a_pattern, a_not, a_action, a_firedRule, a_firedTag, a_row, a_bound, a_saved, a_mine, a_best, a_bestTag, a_bestBound)) {p : Nat} (hp : p < E.length) {post : SY → Prop}
    (K : ∀ v', ry_br v' = f_bestRule → rz_Y (E.eraseIdx p) R D F L v' → post v') : wpY_drop post (f_count, f_lastTag, f_drafted, f_rules, f_fired, f_length, f_bestRule, f_bestLength, a_tag, a_type, a_fields, a_draftPattern, a_draftNot, a_size, a_pattern, a_not, a_action, a_firedRule, a_firedTag, a_row, a_bound, a_saved, a_mine, a_best, a_bestTag, a_bestBound) (nI p) := by
  obtain ⟨hE, hl, h2, h3, h4, h5, h6, h7⟩ := hY
  have h12 := hE.2.1
  have e1 : f_count - 1 = nI (E.length - 1) := by rw [hE.1]; exact pk_sub (b := 1) (by omega)
  have loop : ∀ d j tg ty fl, j + d = E.length - 1 → p ≤ j → (∀ i, i < p ∨ j ≤ i → tg i = a_tag i ∧ ty i = a_type i ∧ fl i = a_fields i) → (∀ i, p ≤ i → i < j → tg i = a_tag (i + 1) ∧ ty i = a_type (i + 1) ∧ fl i = a_fields (i + 1)) →
      wY_drop_2 post f_count f_lastTag f_drafted f_rules f_fired f_length f_bestRule f_bestLength (d + 1) (nI j) tg ty fl a_draftPattern a_draftNot a_size a_pattern a_not a_action a_firedRule a_firedTag a_row a_bound a_saved a_mine a_best a_bestTag a_bestBound := by
    intro d
    induction d with
    | zero =>
      intro j tg ty fl hj hpj g1 g2
      have e : j = E.length - 1 := by omega
      refine pk_le (E.length - 1) j (fun _ => ?_) (fun h => absurd h (by omega)) (hx := e1)
      refine nm_r e1 (K (nI (E.length - 1), f_lastTag, f_drafted, f_rules, f_fired, f_length, f_bestRule, f_bestLength, tg, ty, fl, a_draftPattern, a_draftNot, a_size, a_pattern, a_not, a_action, a_firedRule, a_firedTag, a_row, a_bound, a_saved, a_mine, a_best, a_bestTag, a_bestBound) rfl ⟨⟨?_, ?_, ?_⟩, hl, h2, h3, h4, h5, h6, h7⟩)
      · rw [List.length_eraseIdx_of_lt hp]
      · rw [List.length_eraseIdx_of_lt hp]; omega
      · intro i z hz
        have hil := (List.getElem?_eq_some_iff.mp hz).1
        rw [List.length_eraseIdx_of_lt hp] at hil
        rw [List.getElem?_eraseIdx] at hz
        by_cases hip : i < p
        · rw [if_pos hip] at hz
          obtain ⟨q1, q2, q3⟩ := g1 i (Or.inl hip)
          rw [q1, q2, q3]
          exact hE.2.2 i z hz
        · rw [if_neg hip] at hz
          obtain ⟨q1, q2, q3⟩ := g2 i (by omega) (by omega)
          rw [q1, q2, q3]
          exact hE.2.2 (i + 1) z hz
    | succ d ih =>
      intro j tg ty fl hj hpj g1 g2
      refine pk_le (E.length - 1) j (fun h => absurd h (by omega)) (fun _ => pk_le 11 j (fun h => absurd h (by omega)) (fun _ => ?_)) (hx := e1)
      rw [nI_1]
      refine And.intro (vp_in_nI (by omega) (by omega)) (And.intro (vp_in_nI (by omega) (by omega)) (nm_e (And.intro (vp_in_nI (by omega) (by omega)) (And.intro (vp_in_nI (by omega) (by omega)) (nm_e (And.intro (vp_in_nI (by omega) (by omega)) (And.intro (vp_in_nI (by omega) (by omega)) (nm_e (nm_e ?_)))))))))
      rw [nI_clamp (n := j) (by omega), nI_clamp (n := j + 1) (by omega)]
      obtain ⟨q1, q2, q3⟩ := g1 (j + 1) (Or.inr (by omega))
      refine ih (j + 1) _ _ _ (by omega) (by omega) (fun i hi => ?_) (fun i hi1 hi2 => ?_)
      · rw [pk_un (by omega), pk_un (by omega), pk_un (by omega)]
        exact g1 i (by omega)
      · by_cases e : i = j
        · subst e
          rw [pk_us, pk_us, pk_us]
          exact ⟨q1, q2, q3⟩
        · rw [pk_un e, pk_un e, pk_un e]
          exact g2 i hi1 (by omega)
  exact Exists.intro (E.length - 1 - p + 1) (loop (E.length - 1 - p) p a_tag a_type a_fields (by omega) (Nat.le_refl _) (fun _ _ => ⟨rfl, rfl, rfl⟩) (fun i h1 h2 => absurd h1 (by omega)))
end
end
section
/-! ===== the reference: fits, none, isMatch ===== -/
def ry_BD (b : rm_As) (a_bound : Nat → Int32) : Prop := ∀ v, v < 3 → a_bound v = rm_enc (b v)
def rm_yk (q x : Nat) (b : rm_As) : Nat → rm_As
  | 0 => b
  | k + 1 => rm_y1 q x (rm_yk q x b k) k
def rm_gk (q x : Nat) (b : rm_As) : Nat → Bool
  | 0 => true
  | k + 1 => rm_gk q x b k && rm_f1 q x (rm_yk q x b k) k
theorem rm_gk3 (q x : Nat) (b : rm_As) : rm_gk q x b 3 = rm_yg q x b := by
  unfold rm_yg
  show (((true && rm_f1 q x b 0) && rm_f1 q x (rm_y1 q x b 0) 1) && rm_f1 q x (rm_y1 q x (rm_y1 q x b 0) 1) 2) = _
  rw [Bool.true_and]
theorem rm_yk3 (q x : Nat) (b : rm_As) : rm_yk q x b 3 = rm_yb q x b := rfl
theorem rm_okb_yk {b : rm_As} (h : rm_okb b) (q x : Nat) : ∀ k, rm_okb (rm_yk q x b k)
  | 0 => h
  | k + 1 => rm_okb_y1 (rm_okb_yk h q x k) q x k
section
variable {f_count f_lastTag f_drafted f_rules f_fired f_length f_bestRule f_bestLength : Int32} {a_tag a_type a_fields a_draftPattern a_draftNot a_size a_pattern a_not a_action a_firedRule a_firedTag a_row a_bound a_saved a_mine a_best a_bestTag a_bestBound : Nat → Int32}
theorem ry_entry {q k : Nat} {post : Int32 → Prop} (hq : q < 32004) (hk : k < 3) (h : post (nI (rm_en q k))) : wpY_entry post (f_count, f_lastTag, f_drafted, f_rules, f_fired, f_length, f_bestRule, f_bestLength, a_tag, a_type, a_fields, a_draftPattern, a_draftNot, a_size, a_pattern, a_not, a_action, a_firedRule, a_firedTag, a_row, a_bound, a_saved, a_mine, a_best, a_bestTag, a_bestBound) (nI q) (nI k) := by
  have hk : k = 0 ∨ k = 1 ∨ k = 2 := by omega
  rcases hk with rfl | rfl | rfl
  · exact br_t (c := nI 0 = 0) rfl ⟨by decide, by decide, by rw [rm_enY0 hq]; exact h⟩
  · exact br_f (c := nI 1 = 0) (by decide) (br_t (c := nI 1 = 1) rfl ⟨by decide, by decide, by rw [rm_enY1 hq]; exact h⟩)
  · exact br_f (c := nI 2 = 0) (by decide) (br_f (c := nI 2 = 1) (by decide) ⟨by decide, by rw [rm_enX2 hq]; exact h⟩)
theorem ry_field {E : List rm_El} (hE : ry_YE E f_count a_tag a_type a_fields) {e k : Nat} {x : rm_El} (hx : E[e]? = some x) (hk : k < 3) {post : Int32 → Prop} (h : post (nI (rm_fd x.2.2 k))) : wpY_field post (f_count, f_lastTag, f_drafted, f_rules, f_fired, f_length, f_bestRule, f_bestLength, a_tag, a_type, a_fields, a_draftPattern, a_draftNot, a_size, a_pattern, a_not, a_action, a_firedRule, a_firedTag, a_row, a_bound, a_saved, a_mine, a_best, a_bestTag, a_bestBound) (nI e) (nI k) := by
  have hl := (List.getElem?_eq_some_iff.mp hx).1
  have h12 := hE.2.1
  obtain ⟨g1, g2, g3, g4, g5⟩ := hE.2.2 e x hx
  refine And.intro (vp_in_nI (by omega) (by omega)) ?_
  rw [nI_clamp (n := e) (by omega), g3, rm_fdI g5 hk]
  exact h
theorem ry_f131 {q k : Nat} {x : rm_El} {b : rm_As} {g : Bool} {p1 p2 p3 : Int32} (hk : k < 3) (hok : rm_okb b) (hB : ry_BD b a_bound) (hen : 16 < rm_en q k) {post : Int32 → SY → Prop} {J : Int32 → Int32 → (Nat → Int32) → (Nat → Int32) → (Nat → Int32) → (Nat → Int32) → (Nat → Int32) → (Nat → Int32) → (Nat → Int32) → (Nat → Int32) → (Nat → Int32) → (Nat → Int32) → (Nat → Int32) → (Nat → Int32) → (Nat → Int32) → (Nat → Int32) → (Nat → Int32) → (Nat → Int32) → (Nat → Int32) → (Nat → Int32) → Prop}
    (K : ∀ bd, ry_BD (rm_y1 q x.2.2 b k) bd → J (rm_b g) (nI (k + 1)) a_tag a_type a_fields a_draftPattern a_draftNot a_size a_pattern a_not a_action a_firedRule a_firedTag a_row bd a_saved a_mine a_best a_bestTag a_bestBound) : wY_fits_131 post J p1 p2 p3 (rm_b g) (nI k) (nI (rm_fd x.2.2 k)) (nI (rm_en q k - 17)) f_count f_lastTag f_drafted f_rules f_fired f_length f_bestRule f_bestLength a_tag a_type a_fields a_draftPattern a_draftNot a_size a_pattern a_not a_action a_firedRule a_firedTag a_row a_bound a_saved a_mine a_best a_bestTag a_bestBound := by
  have hl := rm_en_lt q k
  refine And.intro (vp_in_nI (by omega) (by omega)) ?_
  rw [nI_clamp (n := rm_en q k - 17) (by omega), hB _ (by omega)]
  cases hb : b (rm_en q k - 17) with
  | none =>
    refine br_f (by decide) (And.intro (vp_in_nI (by omega) (by omega)) (nm_e (nm_r (nI_1 k) (K _ ?_))))
    rw [rm_y1_n hen hb]
    intro v hv
    unfold rm_set
    by_cases e : v = rm_en q k - 17
    · rw [if_pos e, e, pk_us]; rfl
    · rw [if_neg e, pk_un e]; exact hB v hv
  | some y =>
    have hy := hok _ _ hb
    refine br_t (nI_pos' (by omega)) (nm_r (nI_1 k) (K a_bound ?_))
    rw [rm_y1_s hen hb]
    exact hB
theorem ry_f92 {q k : Nat} {x : rm_El} {b : rm_As} {g g' : Bool} {p1 p2 p3 : Int32} (hk : k < 3) (hok : rm_okb b) (hB : ry_BD b a_bound) (hg : 16 < rm_en q k → g' = (g && rm_f1 q x.2.2 b k)) (hg2 : rm_en q k ≤ 16 → g' = g) {post : Int32 → SY → Prop} {J : Int32 → Int32 → (Nat → Int32) → (Nat → Int32) → (Nat → Int32) → (Nat → Int32) → (Nat → Int32) → (Nat → Int32) → (Nat → Int32) → (Nat → Int32) → (Nat → Int32) → (Nat → Int32) → (Nat → Int32) → (Nat → Int32) → (Nat → Int32) → (Nat → Int32) → (Nat → Int32) → (Nat → Int32) → (Nat → Int32) → (Nat → Int32) → Prop}
    (K : ∀ bd, ry_BD (rm_y1 q x.2.2 b k) bd → J (rm_b g') (nI (k + 1)) a_tag a_type a_fields a_draftPattern a_draftNot a_size a_pattern a_not a_action a_firedRule a_firedTag a_row bd a_saved a_mine a_best a_bestTag a_bestBound) : wY_fits_92 post J p1 p2 p3 (rm_b g) (nI k) (nI (rm_en q k)) (nI (rm_fd x.2.2 k)) f_count f_lastTag f_drafted f_rules f_fired f_length f_bestRule f_bestLength a_tag a_type a_fields a_draftPattern a_draftNot a_size a_pattern a_not a_action a_firedRule a_firedTag a_row a_bound a_saved a_mine a_best a_bestTag a_bestBound := by
  have hl := rm_en_lt q k
  have hfd := rm_fd_lt x.2.2 k
  refine pk_le (rm_en q k) 16 (fun h => nm_r (nI_1 k) ?_) (fun h => nm_r (e' := nI (rm_en q k - 17)) (pk_sub (b := 17) (by omega)) ?_)
  · rw [hg2 h] at K
    refine K a_bound ?_
    rw [rm_y1_lo (by omega)]
    exact hB
  · have hg := hg h
    refine And.intro (vp_in_nI (by omega) (by omega)) ?_
    rw [nI_clamp (n := rm_en q k - 17) (by omega)]
    have hBv := hB (rm_en q k - 17) (by omega)
    cases hb : b (rm_en q k - 17) with
    | none =>
      rw [rm_f1_n h hb, Bool.and_true] at hg
      subst hg
      refine br_t ?_ (ry_f131 hk hok hB h K)
      rw [hBv, hb]; decide
    | some y =>
      have hy := hok _ _ hb
      rw [rm_f1_s h hb] at hg
      refine br_f ?_ (And.intro (vp_in_nI (by omega) (by omega)) ?_)
      · rw [hBv, hb]; exact nI_pos (by omega)
      · rw [hBv, hb]
        refine pk_eq y (rm_fd x.2.2 k) (fun e => ?_) (fun e => ?_)
        · rw [decide_eq_true e.symm, Bool.and_true] at hg
          subst hg
          exact ry_f131 hk hok hB h K
        · rw [decide_eq_false (fun z => e z.symm), Bool.and_false] at hg
          subst hg
          exact ry_f131 (g := false) hk hok hB h K
theorem ry_f168 {b : rm_As} {g : Bool} (hS : ∀ v, v < 3 → a_saved v = rm_enc (b v)) {post : Int32 → SY → Prop} (K : ∀ bd, ry_BD b bd → post (rm_b g) (f_count, f_lastTag, f_drafted, f_rules, f_fired, f_length, f_bestRule, f_bestLength, a_tag, a_type, a_fields, a_draftPattern, a_draftNot, a_size, a_pattern, a_not, a_action, a_firedRule, a_firedTag, a_row, bd, a_saved, a_mine, a_best, a_bestTag, a_bestBound)) :
    ∀ d k bd, k + d = 3 → (∀ v, v < k → bd v = rm_enc (b v)) → wY_fits_168 post (rm_b g) f_count f_lastTag f_drafted f_rules f_fired f_length f_bestRule f_bestLength (d + 1) (nI k) a_tag a_type a_fields a_draftPattern a_draftNot a_size a_pattern a_not a_action a_firedRule a_firedTag a_row bd a_saved a_mine a_best a_bestTag a_bestBound := by
  intro d
  induction d with
  | zero =>
    intro k bd hk h
    have e : k = 3 := by omega
    subst e
    exact pk_le 3 3 (fun _ => And.intro (rm_b_n g) (K bd h)) (fun h => absurd h (by omega))
  | succ d ih =>
    intro k bd hk h
    refine pk_le 3 k (fun h => absurd h (by omega)) (fun _ => And.intro (vp_in_nI (by omega) (by omega)) (And.intro (vp_in_nI (by omega) (by omega)) (nm_e (nm_r (nI_1 k) ?_))))
    rw [nI_clamp (n := k) (by omega)]
    refine ih (k + 1) _ (by omega) (fun v hv => ?_)
    by_cases e : v = k
    · subst e; rw [pk_us]; exact hS v (by omega)
    · rw [pk_un e]; exact h v (by omega)
theorem ry_f51 {E : List rm_El} (hE : ry_YE E f_count a_tag a_type a_fields) {q e : Nat} {x : rm_El} (hq : q < 32000) (hx : E[e]? = some x) {b : rm_As} (hok : rm_okb b) (hS : ∀ v, v < 3 → a_saved v = rm_enc (b v)) {keep : Bool} {post : Int32 → SY → Prop}
    (K : ∀ bd, ry_BD (if keep && rm_yg q x.2.2 b then rm_yb q x.2.2 b else b) bd → post (rm_b (rm_yg q x.2.2 b)) (f_count, f_lastTag, f_drafted, f_rules, f_fired, f_length, f_bestRule, f_bestLength, a_tag, a_type, a_fields, a_draftPattern, a_draftNot, a_size, a_pattern, a_not, a_action, a_firedRule, a_firedTag, a_row, bd, a_saved, a_mine, a_best, a_bestTag, a_bestBound)) :
    ∀ d k bd, k + d = 3 → ry_BD (rm_yk q x.2.2 b k) bd → wY_fits_51 post (nI q) (nI e) (rm_b keep) f_count f_lastTag f_drafted f_rules f_fired f_length f_bestRule f_bestLength (d + 1) (rm_b (rm_gk q x.2.2 b k)) (nI k) a_tag a_type a_fields a_draftPattern a_draftNot a_size a_pattern a_not a_action a_firedRule a_firedTag a_row bd a_saved a_mine a_best a_bestTag a_bestBound := by
  intro d
  induction d with
  | zero =>
    intro k bd hk h
    have e : k = 3 := by omega
    subst e
    rw [rm_gk3]
    have res : (keep && rm_yg q x.2.2 b) = false → ∃ n, wY_fits_168 post (rm_b (rm_yg q x.2.2 b)) f_count f_lastTag f_drafted f_rules f_fired f_length f_bestRule f_bestLength n 0 a_tag a_type a_fields a_draftPattern a_draftNot a_size a_pattern a_not a_action a_firedRule a_firedTag a_row bd a_saved a_mine a_best a_bestTag a_bestBound := by
      intro hz
      rw [hz] at K
      exact Exists.intro 4 (ry_f168 hS K 3 0 bd rfl (fun v hv => absurd hv (by omega)))
    refine pk_le 3 3 (fun _ => rm_b_0 (fun z => ?_) (fun z => rm_b_0 (fun y => ?_) (fun y => ?_))) (fun h => absurd h (by omega))
    · exact res (by rw [z, Bool.and_false])
    · exact res (by rw [y, Bool.false_and])
    · refine And.intro (rm_b_n _) (K bd ?_)
      rw [y, z]
      exact h
  | succ d ih =>
    intro k bd hk h
    have hl := rm_en_lt q k
    have hfd := rm_fd_lt x.2.2 k
    have hok' := rm_okb_yk hok q x.2.2 k
    refine pk_le 3 k (fun h => absurd h (by omega)) (fun _ => ?_)
    refine ry_entry (q := q) (k := k) (by omega) (by omega) ?_
    refine ry_field hE hx (by omega) ?_
    refine pk_le 16 (rm_en q k) (fun h16 => ?_) (fun h16 => pk_eq (rm_en q k) (rm_fd x.2.2 k) (fun e => ?_) (fun e => ?_))
    · refine ry_f92 (g' := rm_gk q x.2.2 b (k + 1)) (by omega) hok' h (fun _ => rfl) (fun z => ?_) (fun bd' hb' => ih (k + 1) bd' (by omega) hb')
      show (rm_gk q x.2.2 b k && rm_f1 q x.2.2 (rm_yk q x.2.2 b k) k) = _
      rw [rm_f1_16 (by omega), Bool.and_true]
    · refine ry_f92 (g' := rm_gk q x.2.2 b (k + 1)) (by omega) hok' h (fun z => absurd z (by omega)) (fun z => ?_) (fun bd' hb' => ih (k + 1) bd' (by omega) hb')
      show (rm_gk q x.2.2 b k && rm_f1 q x.2.2 (rm_yk q x.2.2 b k) k) = _
      rw [rm_f1_lo h16, decide_eq_true e.symm, Bool.and_true]
    · refine ry_f92 (g := false) (g' := rm_gk q x.2.2 b (k + 1)) (by omega) hok' h (fun z => absurd z (by omega)) (fun z => ?_) (fun bd' hb' => ih (k + 1) bd' (by omega) hb')
      show (rm_gk q x.2.2 b k && rm_f1 q x.2.2 (rm_yk q x.2.2 b k) k) = _
      rw [rm_f1_lo h16, decide_eq_false (fun z => e z.symm), Bool.and_false]
theorem ry_f19 {E : List rm_El} (hE : ry_YE E f_count a_tag a_type a_fields) {q e : Nat} {x : rm_El} (hq : q < 32000) (hx : E[e]? = some x) {b : rm_As} (hok : rm_okb b) (hB : ry_BD b a_bound) {keep : Bool} {post : Int32 → SY → Prop}
    (K : ∀ bd sv, ry_BD (if keep && rm_yg q x.2.2 b then rm_yb q x.2.2 b else b) bd → post (rm_b (rm_yg q x.2.2 b)) (f_count, f_lastTag, f_drafted, f_rules, f_fired, f_length, f_bestRule, f_bestLength, a_tag, a_type, a_fields, a_draftPattern, a_draftNot, a_size, a_pattern, a_not, a_action, a_firedRule, a_firedTag, a_row, bd, sv, a_mine, a_best, a_bestTag, a_bestBound)) :
    ∀ d k sv, k + d = 3 → (∀ v, v < k → sv v = rm_enc (b v)) → wY_fits_19 post (nI q) (nI e) (rm_b keep) f_count f_lastTag f_drafted f_rules f_fired f_length f_bestRule f_bestLength (d + 1) (nI k) a_tag a_type a_fields a_draftPattern a_draftNot a_size a_pattern a_not a_action a_firedRule a_firedTag a_row a_bound sv a_mine a_best a_bestTag a_bestBound := by
  intro d
  induction d with
  | zero =>
    intro k sv hk h
    have e : k = 3 := by omega
    subst e
    exact pk_le 3 3 (fun _ => Exists.intro 4 (ry_f51 hE hq hx hok h (fun bd hbd => K bd sv hbd) 3 0 a_bound rfl hB)) (fun h => absurd h (by omega))
  | succ d ih =>
    intro k sv hk h
    refine pk_le 3 k (fun h => absurd h (by omega)) (fun _ => And.intro (vp_in_nI (by omega) (by omega)) (And.intro (vp_in_nI (by omega) (by omega)) (nm_e (nm_r (nI_1 k) ?_))))
    rw [nI_clamp (n := k) (by omega)]
    refine ih (k + 1) _ (by omega) (fun v hv => ?_)
    by_cases e : v = k
    · subst e; rw [pk_us]; exact hB v (by omega)
    · rw [pk_un e]; exact h v (by omega)
theorem ry_fits {E : List rm_El} (hE : ry_YE E f_count a_tag a_type a_fields) {q e : Nat} {x : rm_El} (hq : q < 32000) (hx : E[e]? = some x) {b : rm_As} (hok : rm_okb b) (hB : ry_BD b a_bound) {keep : Bool} {post : Int32 → SY → Prop}
    (K : ∀ bd sv, ry_BD (if keep && rm_ft q b x then rm_ex q x.2.2 b else b) bd → post (rm_b (rm_ft q b x)) (f_count, f_lastTag, f_drafted, f_rules, f_fired, f_length, f_bestRule, f_bestLength, a_tag, a_type, a_fields, a_draftPattern, a_draftNot, a_size, a_pattern, a_not, a_action, a_firedRule, a_firedTag, a_row, bd, sv, a_mine, a_best, a_bestTag, a_bestBound)) : wpY_fits post (f_count, f_lastTag, f_drafted, f_rules, f_fired, f_length, f_bestRule, f_bestLength, a_tag, a_type, a_fields, a_draftPattern, a_draftNot, a_size, a_pattern, a_not, a_action, a_firedRule, a_firedTag, a_row, a_bound, a_saved, a_mine, a_best, a_bestTag, a_bestBound) (nI q) (nI e) (rm_b keep) := by
  have hl := (List.getElem?_eq_some_iff.mp hx).1
  have h12 := hE.2.1
  obtain ⟨g1, g2, g3, g4, g5⟩ := hE.2.2 e x hx
  refine And.intro (vp_in_nI (by omega) (by omega)) (And.intro (by decide) ?_)
  rw [nI_clamp (n := e) (by omega), g2, rm_d8 (by omega)]
  rw [rm_ft_y] at K
  refine pk_eq x.2.1 (q / 8000) (fun he => ?_) (fun he => ?_)
  · rw [decide_eq_true he, Bool.true_and] at K
    refine Exists.intro 4 (ry_f19 hE hq hx hok hB (fun bd sv hbd => K bd sv ?_) 3 0 a_saved rfl (fun v hv => absurd hv (by omega)))
    cases hg : rm_yg q x.2.2 b with
    | false =>
      rw [hg, Bool.and_false] at hbd
      rw [Bool.and_false]
      exact hbd
    | true =>
      rw [hg, rm_yb_eq _ _ _ hg] at hbd
      exact hbd
  · rw [decide_eq_false he, Bool.false_and, Bool.and_false] at K
    exact K a_bound a_saved hB
theorem ry_none {E : List rm_El} (hE : ry_YE E f_count a_tag a_type a_fields) {q : Nat} (hq : q < 32000) {b : rm_As} (hok : rm_okb b) (hB : ry_BD b a_bound) {post : Int32 → SY → Prop}
    (K : ∀ bd sv, ry_BD b bd → post (rm_b (!(E.any (rm_ft q b)))) (f_count, f_lastTag, f_drafted, f_rules, f_fired, f_length, f_bestRule, f_bestLength, a_tag, a_type, a_fields, a_draftPattern, a_draftNot, a_size, a_pattern, a_not, a_action, a_firedRule, a_firedTag, a_row, bd, sv, a_mine, a_best, a_bestTag, a_bestBound)) : wpY_none post (f_count, f_lastTag, f_drafted, f_rules, f_fired, f_length, f_bestRule, f_bestLength, a_tag, a_type, a_fields, a_draftPattern, a_draftNot, a_size, a_pattern, a_not, a_action, a_firedRule, a_firedTag, a_row, a_bound, a_saved, a_mine, a_best, a_bestTag, a_bestBound) (nI q) := by
  have h12 := hE.2.1
  have loop : ∀ d j bd sv, j + d = E.length → (∀ i x, i < j → E[i]? = some x → rm_ft q b x = false) → ry_BD b bd → wY_none_2 post (nI q) (d + 1) (nI j) f_count f_lastTag f_drafted f_rules f_fired f_length f_bestRule f_bestLength a_tag a_type a_fields a_draftPattern a_draftNot a_size a_pattern a_not a_action a_firedRule a_firedTag a_row bd sv a_mine a_best a_bestTag a_bestBound := by
    intro d
    induction d with
    | zero =>
      intro j bd sv hj hn hb
      refine pk_le E.length j (fun _ => ?_) (fun h => absurd h (by omega)) (hx := hE.1)
      have e : E.any (rm_ft q b) = false := by
        rw [List.any_eq_false]
        intro x hx
        obtain ⟨i, hi⟩ := List.mem_iff_getElem?.mp hx
        have hl := (List.getElem?_eq_some_iff.mp hi).1
        rw [hn i x (by omega) hi]; simp
      have k := K bd sv hb
      rw [e] at k
      exact k
    | succ d ih =>
      intro j bd sv hj hn hb
      have hlt : j < E.length := by omega
      have hg : E[j]? = some E[j] := List.getElem?_eq_getElem hlt
      refine pk_le E.length j (fun h => absurd h (by omega)) (fun _ => pk_le 12 j (fun h => absurd h (by omega)) (fun _ => ?_)) (hx := hE.1)
      refine ry_fits (keep := false) hE hq hg hok hb (fun bd' sv' hb' => rm_b_0 (fun z => nm_r (nI_1 j) (ih (j + 1) bd' sv' (by omega) (fun i x hi hx => ?_) hb')) (fun z => ?_))
      · by_cases e : i = j
        · subst e
          rw [hg] at hx
          cases hx
          exact z
        · exact hn i x (by omega) hx
      · have e : E.any (rm_ft q b) = true := by
          rw [List.any_eq_true]
          exact ⟨_, List.getElem_mem hlt, z⟩
        have k := K bd' sv' hb'
        rw [e] at k
        exact k
  exact Exists.intro (E.length + 1) (loop E.length 0 a_bound a_saved (by omega) (fun i x hi => absurd hi (by omega)) hB)
end
/-- the row at hand: its places hold the tags t -/
def ry_RW (E : List rm_El) (t : List Int32) (a_row : Nat → Int32) : Prop := ∀ k, k < t.length → ∃ i x, a_row k = nI i ∧ E[i]? = some x ∧ x.1 = rm_g t k
def ry_im (E : List rm_El) (o : Option rm_It) (post : Int32 → SY → Prop) (mk : Int32 → (Nat → Int32) → (Nat → Int32) → (Nat → Int32) → SY) : Prop := match o with
  | none => ∀ (f_length : Int32) (a_row a_bound a_saved : Nat → Int32), post 0 (mk f_length a_row a_bound a_saved)
  | some m => ∀ (f_length : Int32) (a_row a_bound a_saved : Nat → Int32), f_length = nI m.1.length → ry_RW E m.1 a_row → ry_BD m.2 a_bound → rm_okb m.2 → post 1 (mk f_length a_row a_bound a_saved)
section
variable {f_count f_lastTag f_drafted f_rules f_fired f_bestRule f_bestLength : Int32} {a_tag a_type a_fields a_draftPattern a_draftNot a_size a_pattern a_not a_action a_firedRule a_firedTag a_mine a_best a_bestTag a_bestBound : Nat → Int32}
theorem ry_im31 {E : List rm_El} (hE : ry_YE E f_count a_tag a_type a_fields) {cs : List rm_Cd} {r : Nat} (hR : rx_RU cs r a_size a_pattern a_not) {post : Int32 → SY → Prop} :
    ∀ (rest : List rm_Cd) (c : Nat), cs.drop c = rest → c ≤ cs.length → ∀ (code : Nat) (b : rm_As) (t : List Int32) (f_length : Int32) (a_row a_bound a_saved : Nat → Int32), code < 1728 → rm_okb b → ry_BD b a_bound → ry_RW E t a_row → t.length ≤ c →
      ry_im E (rm_im E rest b t code) post (fun f_length a_row a_bound a_saved => (f_count, f_lastTag, f_drafted, f_rules, f_fired, f_length, f_bestRule, f_bestLength, a_tag, a_type, a_fields, a_draftPattern, a_draftNot, a_size, a_pattern, a_not, a_action, a_firedRule, a_firedTag, a_row, a_bound, a_saved, a_mine, a_best, a_bestTag, a_bestBound)) → wY_isMatch_31 post (nI r) (rest.length + 1) (nI code) (nI t.length) (nI c) f_count f_lastTag f_drafted f_rules f_fired f_length f_bestRule f_bestLength a_tag a_type a_fields a_draftPattern a_draftNot a_size a_pattern a_not a_action a_firedRule a_firedTag a_row a_bound a_saved a_mine a_best a_bestTag a_bestBound := by
  have hr := hR.1
  have hl := hR.2.2.1
  have h12 := hE.2.1
  intro rest
  induction rest with
  | nil =>
    intro c hdrop hc code b t f_length a_row a_bound a_saved hcode hok hB hW ht K
    have hc : c = cs.length := by
      have := List.drop_eq_nil_iff.mp hdrop
      omega
    subst hc
    refine And.intro (vp_in_nI (by omega) (by omega)) ?_
    rw [nI_clamp (n := r) (by omega), hR.2.1]
    exact pk_le cs.length cs.length (fun _ => K _ _ _ _ rfl hW hB hok) (fun h => absurd h (by omega))
  | cons cd rest ih =>
    intro c hdrop hc code b t f_length a_row a_bound a_saved hcode hok hB hW ht K
    obtain ⟨q, ng⟩ := cd
    have hlt : c < cs.length := by
      by_cases z : c < cs.length
      · exact z
      · rw [List.drop_eq_nil_iff.mpr (by omega)] at hdrop
        exact absurd hdrop (by simp)
    have hdr := List.drop_eq_getElem_cons hlt
    rw [hdrop] at hdr
    obtain ⟨hd1, hd2⟩ := List.cons.inj hdr
    have hg : cs[c]? = some (q, ng) := by rw [List.getElem?_eq_getElem hlt, hd1]
    obtain ⟨g1, g2, g3⟩ := hR.2.2.2 c q ng hg
    refine And.intro (vp_in_nI (by omega) (by omega)) ?_
    rw [nI_clamp (n := r) (by omega), hR.2.1, rm_n3k]
    refine pk_le cs.length c (fun h => absurd h (by omega)) (fun _ => pk_le 3 c (fun h => absurd h (by omega)) (fun _ => And.intro (vp_in_nI (by omega) (by omega)) ?_))
    rw [nI_clamp (n := 3 * r + c) (by omega), g1, g3]
    refine nm_e (And.intro (vp_in_nI (by omega) (by omega)) (rm_b_0 (fun e => ?_) (fun e => ?_)))
    · subst e
      refine And.intro (by decide) (nm_r (e' := nI (code % 12)) (pk_rem (d := 12) (by omega) (by omega) (by omega)) (And.intro (by decide) (nm_r (e' := nI (code / 12)) (pk_div (d := 12) (by omega) (by omega) (by omega)) ?_)))
      rw [rm_im] at K
      refine pk_le E.length (code % 12) (fun h => ?_) (fun h => ?_) (hx := hE.1)
      · rw [List.getElem?_eq_none h] at K
        exact K _ _ _ _
      · have hge : E[code % 12]? = some E[code % 12] := List.getElem?_eq_getElem h
        rw [hge] at K
        dsimp only at K
        refine ry_fits (keep := true) hE g2 hge hok hB (fun bd sv hbd => rm_b_0 (fun z => ?_) (fun z => ?_))
        · rw [z, if_neg (by simp)] at K
          exact K _ _ _ _
        · rw [z, if_pos rfl] at K
          rw [z] at hbd
          refine And.intro (vp_in_nI (by omega) (by omega)) (nm_e (nm_r (nI_1 _) (nm_r (nI_1 c) ?_)))
          rw [nI_clamp (n := t.length) (by omega)]
          have ht1 : (t ++ [E[code % 12].1]).length = t.length + 1 := by rw [List.length_append]; rfl
          have := ih (c + 1) hd2.symm (by omega) (code / 12) (rm_ex q E[code % 12].2.2 b) (t ++ [E[code % 12].1]) f_length (upd a_row t.length (nI (code % 12))) bd sv (by omega) (rm_okb_ex hok _ _) hbd ?_ (by omega) K
          · rw [ht1] at this
            exact this
          · intro k hk
            by_cases e : k = t.length
            · subst e
              refine ⟨code % 12, _, pk_us, hge, ?_⟩
              unfold rm_g
              rw [List.getD_eq_getElem?_getD, List.getElem?_append_right (Nat.le_refl _), Nat.sub_self]
              rfl
            · obtain ⟨i, x, i1, i2, i3⟩ := hW k (by omega)
              refine ⟨i, x, by rw [pk_un e]; exact i1, i2, ?_⟩
              rw [i3]
              unfold rm_g
              rw [List.getD_eq_getElem?_getD, List.getD_eq_getElem?_getD, List.getElem?_append_left (by omega)]
    · subst e
      rw [rm_im] at K
      refine ry_none hE g2 hok hB (fun bd sv hbd => rm_b_0 (fun z => ?_) (fun z => ?_))
      · have z : E.any (rm_ft q b) = true := by
          cases h : E.any (rm_ft q b) with
          | true => rfl
          | false => rw [h] at z; exact absurd z (by simp)
        rw [if_pos z] at K
        exact K _ _ _ _
      · have z : ¬ E.any (rm_ft q b) = true := by
          intro h
          rw [h] at z; exact absurd z (by simp)
        rw [if_neg z] at K
        exact nm_r (nI_1 c) (ih (c + 1) hd2.symm (by omega) code b t f_length a_row bd sv hcode hok hbd hW (by omega) K)
theorem ry_isMatch {E : List rm_El} (hE : ry_YE E f_count a_tag a_type a_fields) {cs : List rm_Cd} {r : Nat} (hR : rx_RU cs r a_size a_pattern a_not) {code : Nat} (hcode : code < 1728) {f_length : Int32} {a_row a_bound a_saved : Nat → Int32} {post : Int32 → SY → Prop}
    (K : ry_im E (rm_im E cs (fun _ => none) [] code) post (fun f_length a_row a_bound a_saved => (f_count, f_lastTag, f_drafted, f_rules, f_fired, f_length, f_bestRule, f_bestLength, a_tag, a_type, a_fields, a_draftPattern, a_draftNot, a_size, a_pattern, a_not, a_action, a_firedRule, a_firedTag, a_row, a_bound, a_saved, a_mine, a_best, a_bestTag, a_bestBound))) : wpY_isMatch post (f_count, f_lastTag, f_drafted, f_rules, f_fired, f_length, f_bestRule, f_bestLength, a_tag, a_type, a_fields, a_draftPattern, a_draftNot, a_size, a_pattern, a_not, a_action, a_firedRule, a_firedTag, a_row, a_bound, a_saved, a_mine, a_best, a_bestTag, a_bestBound) (nI r) (nI code) := by
  have loop : ∀ d k bd, k + d = 3 → (∀ v, v < k → bd v = -1) → wY_isMatch_5 post (nI r) (nI code) f_count f_lastTag f_drafted f_rules f_fired f_length f_bestRule f_bestLength (d + 1) (nI k) a_tag a_type a_fields a_draftPattern a_draftNot a_size a_pattern a_not a_action a_firedRule a_firedTag a_row bd a_saved a_mine a_best a_bestTag a_bestBound := by
    intro d
    induction d with
    | zero =>
      intro k bd hk h
      have e : k = 3 := by omega
      subst e
      exact pk_le 3 3 (fun _ => Exists.intro (cs.length + 1) (ry_im31 hE hR cs 0 rfl (Nat.zero_le _) code (fun _ => none) [] f_length a_row bd a_saved hcode rm_okb0 h (fun k hk => absurd hk (by show ¬ k < 0; omega)) (Nat.le_refl _) K)) (fun h => absurd h (by omega))
    | succ d ih =>
      intro k bd hk h
      refine pk_le 3 k (fun h => absurd h (by omega)) (fun _ => And.intro (vp_in_nI (by omega) (by omega)) (nm_e (nm_r (nI_1 k) ?_)))
      rw [nI_clamp (n := k) (by omega)]
      refine ih (k + 1) _ (by omega) (fun v hv => ?_)
      by_cases e : v = k
      · subst e; exact pk_us
      · rw [pk_un e]; exact h v (by omega)
  exact Exists.intro 4 (loop 3 0 a_bound rfl (fun v hv => absurd hv (by omega)))
end
end
section
/-! ===== the reference: look ===== -/
def ry_AY (o : rm_Bs) (bR bL : Int32) (best bTag bBd : Nat → Int32) : Prop := match o with
  | none => bR = -1
  | some w => bR = nI w.1 ∧ w.1 < 5 ∧ bL = nI w.2.1.length ∧ w.2.1.length ≤ 3 ∧ (∀ k, k < 3 → best k = rm_fl w.2.1 k) ∧ (∀ k, k < 3 → bTag k = rm_g w.2.1 k) ∧ (∀ v, v < 3 → bBd v = rm_enc (w.2.2 v)) ∧ rm_okb w.2.2
section
variable {f_count f_lastTag f_drafted f_rules f_fired f_length f_bestRule f_bestLength : Int32} {a_tag a_type a_fields a_draftPattern a_draftNot a_size a_pattern a_not a_action a_firedRule a_firedTag a_row a_bound a_saved a_mine a_best a_bestTag a_bestBound : Nat → Int32}
theorem ry_tagAt {E : List rm_El} (hE : ry_YE E f_count a_tag a_type a_fields) {t : List Int32} (hlen : f_length = nI t.length) (ht : t.length ≤ 3) (hW : ry_RW E t a_row) {k : Nat} (hk : k < 3) {post : Int32 → Prop} (h : post (rm_g t k)) : wpY_tagAt post (f_count, f_lastTag, f_drafted, f_rules, f_fired, f_length, f_bestRule, f_bestLength, a_tag, a_type, a_fields, a_draftPattern, a_draftNot, a_size, a_pattern, a_not, a_action, a_firedRule, a_firedTag, a_row, a_bound, a_saved, a_mine, a_best, a_bestTag, a_bestBound) (nI k) := by
  refine pk_le t.length k (fun z => ?_) (fun z => And.intro (vp_in_nI (by omega) (by omega)) ?_) (hx := hlen)
  · rw [rm_g_ge z] at h
    exact h
  · obtain ⟨i, x, h1, h2, h3⟩ := hW k z
    have hl := (List.getElem?_eq_some_iff.mp h2).1
    have h12 := hE.2.1
    rw [nI_clamp (n := k) (by omega), h1]
    refine And.intro (vp_in_nI (by omega) (by omega)) ?_
    rw [nI_clamp (n := i) (by omega), (hE.2.2 i x h2).1, h3]
    exact h
theorem ry_hf35 {E : List rm_El} (hE : ry_YE E f_count a_tag a_type a_fields) {t : List Int32} (hlen : f_length = nI t.length) (ht : t.length ≤ 3) (hW : ry_RW E t a_row) {r i : Nat} (hi : i < 64) {post : Int32 → Prop} {J : Int32 → Prop} (Q0 : Prop)
    (K1 : Q0 → (∀ k, k < 3 → a_firedTag (3 * i + k) = rm_g t k) → post 1) (K0 : ¬ (Q0 ∧ ∀ k, k < 3 → a_firedTag (3 * i + k) = rm_g t k) → J (nI (i + 1))) :
    ∀ d k (p : Bool), k + d = 3 → (p = true ↔ (Q0 ∧ ∀ j, j < k → a_firedTag (3 * i + j) = rm_g t j)) → wY_hasFired_35 post J (nI r) (nI i) f_count f_lastTag f_drafted f_rules f_fired f_length f_bestRule f_bestLength a_tag a_type a_fields a_draftPattern a_draftNot a_size a_pattern a_not a_action a_firedRule a_firedTag a_row a_bound a_saved a_mine a_best a_bestTag a_bestBound (d + 1) (rm_b p) (nI k) := by
  intro d
  induction d with
  | zero =>
    intro k p hk hp
    have e : k = 3 := by omega
    subst e
    refine pk_le 3 3 (fun _ => rm_b_0 (fun e => nm_r (nI_1 i) (K0 (fun z => ?_))) (fun e => K1 (hp.mp e).1 (hp.mp e).2)) (fun h => absurd h (by omega))
    rw [hp.mpr z] at e; exact absurd e (by simp)
  | succ d ih =>
    intro k p hk hp
    refine pk_le 3 k (fun h => absurd h (by omega)) (fun _ => ?_)
    rw [rm_n3k]
    refine And.intro (vp_in_nI (by omega) (by omega)) ?_
    refine ry_tagAt hE hlen ht hW (by omega) ?_
    rw [nI_clamp (n := 3 * i + k) (by omega)]
    by_cases g : a_firedTag (3 * i + k) = rm_g t k
    · refine br_t g (nm_r (nI_1 k) (ih (k + 1) p (by omega) ⟨fun z => ⟨(hp.mp z).1, fun j hj => ?_⟩, fun z => hp.mpr ⟨z.1, fun j hj => z.2 j (by omega)⟩⟩))
      by_cases ej : j = k
      · subst ej; exact g
      · exact (hp.mp z).2 j (by omega)
    · exact br_f g (nm_r (nI_1 k) (ih (k + 1) false (by omega) ⟨fun z => absurd z (by simp), fun z => absurd (z.2 k (by omega)) g⟩))
theorem ry_hasFired {E : List rm_El} (hE : ry_YE E f_count a_tag a_type a_fields) {t : List Int32} (hlen : f_length = nI t.length) (ht : t.length ≤ 3) (hW : ry_RW E t a_row) {r n : Nat} (hn : n ≤ 40) (hfc : f_fired = nI n) {post : Int32 → Prop} (h : post (rm_b (rm_hf (rm_F n a_firedRule a_firedTag) r t))) : wpY_hasFired post (f_count, f_lastTag, f_drafted, f_rules, f_fired, f_length, f_bestRule, f_bestLength, a_tag, a_type, a_fields, a_draftPattern, a_draftNot, a_size, a_pattern, a_not, a_action, a_firedRule, a_firedTag, a_row, a_bound, a_saved, a_mine, a_best, a_bestTag, a_bestBound) (nI r) := by
  have loop : ∀ d i, i + d = n → (∀ j, j < i → (a_firedRule j, a_firedTag (3 * j), a_firedTag (3 * j + 1), a_firedTag (3 * j + 2)) ≠ (nI r, rm_g t 0, rm_g t 1, rm_g t 2)) → wY_hasFired_2 post (nI r) f_count f_lastTag f_drafted f_rules f_fired f_length f_bestRule f_bestLength a_tag a_type a_fields a_draftPattern a_draftNot a_size a_pattern a_not a_action a_firedRule a_firedTag a_row a_bound a_saved a_mine a_best a_bestTag a_bestBound (d + 1) (nI i) := by
    intro d
    induction d with
    | zero =>
      intro i hi hne
      have e : i = n := by omega
      subst e
      refine pk_le i i (fun _ => ?_) (fun h => absurd h (by omega)) (hx := hfc)
      have e2 : rm_hf (rm_F i a_firedRule a_firedTag) r t = false := by
        unfold rm_hf
        apply decide_eq_false
        rw [rm_F_mem]
        rintro ⟨j, hj, e⟩
        exact hne j hj e.symm
      rw [e2] at h
      exact h
    | succ d ih =>
      intro i hi hne
      have key : (a_firedRule i = nI r ∧ ∀ k, k < 3 → a_firedTag (3 * i + k) = rm_g t k) ↔ (a_firedRule i, a_firedTag (3 * i), a_firedTag (3 * i + 1), a_firedTag (3 * i + 2)) = (nI r, rm_g t 0, rm_g t 1, rm_g t 2) := by
        constructor
        · rintro ⟨h1, hall⟩
          rw [h1, ← hall 0 (by omega), ← hall 1 (by omega), ← hall 2 (by omega)]
          rfl
        · intro e
          obtain ⟨e0, e⟩ := Prod.mk.inj e
          obtain ⟨e1, e⟩ := Prod.mk.inj e
          obtain ⟨e2, e3⟩ := Prod.mk.inj e
          refine ⟨e0, fun k hk => ?_⟩
          have hk : k = 0 ∨ k = 1 ∨ k = 2 := by omega
          rcases hk with rfl | rfl | rfl
          · exact e1
          · exact e2
          · exact e3
      have K1 : a_firedRule i = nI r → (∀ k, k < 3 → a_firedTag (3 * i + k) = rm_g t k) → post 1 := by
        intro h1 h2
        have e2 : rm_hf (rm_F n a_firedRule a_firedTag) r t = true := by
          unfold rm_hf
          apply decide_eq_true
          rw [rm_F_mem]
          exact ⟨i, by omega, (key.mp ⟨h1, h2⟩).symm⟩
        rw [e2] at h
        exact h
      have K0 : ¬ (a_firedRule i = nI r ∧ ∀ k, k < 3 → a_firedTag (3 * i + k) = rm_g t k) → wY_hasFired_2 post (nI r) f_count f_lastTag f_drafted f_rules f_fired f_length f_bestRule f_bestLength a_tag a_type a_fields a_draftPattern a_draftNot a_size a_pattern a_not a_action a_firedRule a_firedTag a_row a_bound a_saved a_mine a_best a_bestTag a_bestBound (d + 1) (nI (i + 1)) := by
        intro hz
        refine ih (i + 1) (by omega) (fun j hj => ?_)
        by_cases e : j = i
        · subst e; exact fun z => hz (key.mpr z)
        · exact hne j (by omega)
      refine pk_le n i (fun h => absurd h (by omega)) (fun _ => pk_le 64 i (fun h => absurd h (by omega)) (fun _ => And.intro (vp_in_nI (by omega) (by omega)) ?_)) (hx := hfc)
      rw [nI_clamp (n := i) (by omega)]
      by_cases e : a_firedRule i = nI r
      · exact br_t e (Exists.intro 4 (ry_hf35 hE hlen ht hW (by omega) _ K1 K0 3 0 true rfl ⟨fun _ => ⟨e, fun j hj => absurd hj (by omega)⟩, fun _ => rfl⟩))
      · exact br_f e (Exists.intro 4 (ry_hf35 hE hlen ht hW (by omega) _ K1 K0 3 0 false rfl ⟨fun z => absurd z (by simp), fun z => absurd z.1 e⟩))
  exact Exists.intro (n + 1) (loop n 0 (by omega) (fun j hj => absurd hj (by omega)))
theorem ry_s33 {post : SY → Prop} {J : Int32 → (Nat → Int32) → (Nat → Int32) → (Nat → Int32) → (Nat → Int32) → (Nat → Int32) → (Nat → Int32) → (Nat → Int32) → (Nat → Int32) → (Nat → Int32) → (Nat → Int32) → (Nat → Int32) → (Nat → Int32) → (Nat → Int32) → (Nat → Int32) → (Nat → Int32) → (Nat → Int32) → (Nat → Int32) → (Nat → Int32) → Prop} {p1 : Int32} {n j : Nat} (hj : j < 2) {m : Nat → Int32}
    (K : ∀ m', m' j = rm_mx (m j) (m (j + 1)) → m' (j + 1) = rm_mn (m j) (m (j + 1)) → (∀ i, i ≠ j → i ≠ j + 1 → m' i = m i) → wY_sort_33 post J p1 f_count f_lastTag f_drafted f_rules f_fired f_length f_bestRule f_bestLength n (nI (j + 1)) a_tag a_type a_fields a_draftPattern a_draftNot a_size a_pattern a_not a_action a_firedRule a_firedTag a_row a_bound a_saved m' a_best a_bestTag a_bestBound) : wY_sort_33 post J p1 f_count f_lastTag f_drafted f_rules f_fired f_length f_bestRule f_bestLength (n + 1) (nI j) a_tag a_type a_fields a_draftPattern a_draftNot a_size a_pattern a_not a_action a_firedRule a_firedTag a_row a_bound a_saved m a_best a_bestTag a_bestBound := by
  refine pk_le 2 j (fun h => absurd h (by omega)) (fun _ => ?_)
  rw [nI_1]
  refine And.intro (vp_in_nI (by omega) (by omega)) (And.intro (vp_in_nI (by omega) (by omega)) ?_)
  rw [nI_clamp (n := j) (by omega), nI_clamp (n := j + 1) (by omega)]
  by_cases e : m (j + 1) ≤ m j
  · refine br_t e (nm_e (K m ?_ ?_ (fun _ _ _ => rfl)))
    · unfold rm_mx; rw [if_pos e]
    · unfold rm_mn; rw [if_pos e]
  · refine br_f e (And.intro (vp_in_nI (by omega) (by omega)) (nm_e (And.intro (vp_in_nI (by omega) (by omega)) (And.intro (vp_in_nI (by omega) (by omega)) (nm_e (And.intro (vp_in_nI (by omega) (by omega)) (nm_e (nm_e (K _ ?_ ?_ ?_)))))))))
    · unfold rm_mx; rw [if_neg e, pk_un (by omega), pk_us]
    · unfold rm_mn; rw [if_neg e, pk_us]
    · intro i h1 h2
      rw [pk_un h2, pk_un h1]
theorem ry_s26 {post : SY → Prop} {J : Int32 → (Nat → Int32) → (Nat → Int32) → (Nat → Int32) → (Nat → Int32) → (Nat → Int32) → (Nat → Int32) → (Nat → Int32) → (Nat → Int32) → (Nat → Int32) → (Nat → Int32) → (Nat → Int32) → (Nat → Int32) → (Nat → Int32) → (Nat → Int32) → (Nat → Int32) → (Nat → Int32) → (Nat → Int32) → (Nat → Int32) → Prop} {k : Nat} {m : Nat → Int32} {a b c : Int32} (h0 : m 0 = a) (h1 : m 1 = b) (h2 : m 2 = c)
    (K : ∀ m', m' 0 = (rm_ps a b c).1 → m' 1 = (rm_ps a b c).2.1 → m' 2 = (rm_ps a b c).2.2 → J (nI (k + 1)) a_tag a_type a_fields a_draftPattern a_draftNot a_size a_pattern a_not a_action a_firedRule a_firedTag a_row a_bound a_saved m' a_best a_bestTag a_bestBound) : wY_sort_33 post J (nI k) f_count f_lastTag f_drafted f_rules f_fired f_length f_bestRule f_bestLength 3 (nI 0) a_tag a_type a_fields a_draftPattern a_draftNot a_size a_pattern a_not a_action a_firedRule a_firedTag a_row a_bound a_saved m a_best a_bestTag a_bestBound := by
  refine ry_s33 (by omega) (fun m1 a1 a2 a3 => ry_s33 (by omega) (fun m2 b1 b2 b3 => ?_))
  refine pk_le 2 2 (fun _ => nm_r (nI_1 k) (K m2 ?_ ?_ ?_)) (fun h => absurd h (by omega))
  · rw [b3 0 (by omega) (by omega), a1, h0, h1]; rfl
  · rw [b1, a2, a3 2 (by omega) (by omega), h0, h1, h2]; rfl
  · rw [b2, a2, a3 2 (by omega) (by omega), h0, h1, h2]; rfl
theorem ry_sort {E : List rm_El} (hE : ry_YE E f_count a_tag a_type a_fields) {t : List Int32} (hlen : f_length = nI t.length) (ht : t.length ≤ 3) (hW : ry_RW E t a_row) {post : SY → Prop}
    (K : ∀ m, (∀ k, k < 3 → m k = rm_fl t k) → post (f_count, f_lastTag, f_drafted, f_rules, f_fired, f_length, f_bestRule, f_bestLength, a_tag, a_type, a_fields, a_draftPattern, a_draftNot, a_size, a_pattern, a_not, a_action, a_firedRule, a_firedTag, a_row, a_bound, a_saved, m, a_best, a_bestTag, a_bestBound)) : wpY_sort post (f_count, f_lastTag, f_drafted, f_rules, f_fired, f_length, f_bestRule, f_bestLength, a_tag, a_type, a_fields, a_draftPattern, a_draftNot, a_size, a_pattern, a_not, a_action, a_firedRule, a_firedTag, a_row, a_bound, a_saved, a_mine, a_best, a_bestTag, a_bestBound) := by
  have loop : ∀ d k m, k + d = 3 → (∀ j, j < k → m j = rm_g t j) → wY_sort_2 post f_count f_lastTag f_drafted f_rules f_fired f_length f_bestRule f_bestLength (d + 1) (nI k) a_tag a_type a_fields a_draftPattern a_draftNot a_size a_pattern a_not a_action a_firedRule a_firedTag a_row a_bound a_saved m a_best a_bestTag a_bestBound := by
    intro d
    induction d with
    | zero =>
      intro k m hk h
      have e : k = 3 := by omega
      subst e
      refine pk_le 3 3 (fun _ => Exists.intro 4 ?_) (fun h => absurd h (by omega))
      refine pk_le 3 0 (fun h => absurd h (by omega)) (fun _ => Exists.intro 3 (ry_s26 (k := 0) (h 0 (by omega)) (h 1 (by omega)) (h 2 (by omega)) (fun m1 a0 a1 a2 => ?_)))
      refine pk_le 3 1 (fun h => absurd h (by omega)) (fun _ => Exists.intro 3 (ry_s26 (k := 1) a0 a1 a2 (fun m2 b0 b1 b2 => ?_)))
      refine pk_le 3 2 (fun h => absurd h (by omega)) (fun _ => Exists.intro 3 (ry_s26 (k := 2) b0 b1 b2 (fun m3 c0 c1 c2 => ?_)))
      refine pk_le 3 3 (fun _ => K m3 (fun k hk => ?_)) (fun h => absurd h (by omega))
      have hk : k = 0 ∨ k = 1 ∨ k = 2 := by omega
      rcases hk with rfl | rfl | rfl
      · rw [c0, rm_fl_0]; unfold rm_s3; exact Eq.refl _
      · rw [c1, rm_fl_1]; unfold rm_s3; exact Eq.refl _
      · rw [c2, rm_fl_2]; unfold rm_s3; exact Eq.refl _
    | succ d ih =>
      intro k m hk h
      refine pk_le 3 k (fun h => absurd h (by omega)) (fun _ => ?_)
      refine ry_tagAt hE hlen ht hW (by omega) (And.intro (vp_in_nI (by omega) (by omega)) (nm_e (nm_r (nI_1 k) ?_)))
      rw [nI_clamp (n := k) (by omega)]
      refine ih (k + 1) _ (by omega) (fun j hj => ?_)
      by_cases e : j = k
      · subst e; exact pk_us
      · rw [pk_un e]; exact h j (by omega)
  exact Exists.intro 4 (loop 3 0 a_mine rfl (fun j hj => absurd hj (by omega)))
theorem ry_before {E : List rm_El} (hE : ry_YE E f_count a_tag a_type a_fields) {t s : List Int32} (hlen : f_length = nI t.length) (ht : t.length ≤ 3) (hW : ry_RW E t a_row) {r r' : Nat} (hr : r < 5) (hr' : r' < 5) (hbr : f_bestRule = nI r') (hm : ∀ k, k < 3 → a_mine k = rm_fl t k) (hb : ∀ k, k < 3 → a_best k = rm_fl s k) (hbt : ∀ k, k < 3 → a_bestTag k = rm_g s k)
    {post : Int32 → Prop} (h : post (rm_b (rm_bt r t r' s))) : wpY_before post (f_count, f_lastTag, f_drafted, f_rules, f_fired, f_length, f_bestRule, f_bestLength, a_tag, a_type, a_fields, a_draftPattern, a_draftNot, a_size, a_pattern, a_not, a_action, a_firedRule, a_firedTag, a_row, a_bound, a_saved, a_mine, a_best, a_bestTag, a_bestBound) (nI r) := by
  have loop2 : ∀ d k, k + d = 3 → post (rm_b (rm_ls (rm_g t) (rm_g s) false k)) → wY_before_73 post f_count f_lastTag f_drafted f_rules f_fired f_length f_bestRule f_bestLength a_tag a_type a_fields a_draftPattern a_draftNot a_size a_pattern a_not a_action a_firedRule a_firedTag a_row a_bound a_saved a_mine a_best a_bestTag a_bestBound (d + 1) (nI k) := by
    intro d
    induction d with
    | zero =>
      intro k hk h
      have e : k = 3 := by omega
      subst e
      exact pk_le 3 3 (fun _ => h) (fun h => absurd h (by omega))
    | succ d ih =>
      intro k hk h
      rw [rm_ls_s (by omega)] at h
      refine pk_le 3 k (fun h => absurd h (by omega)) (fun _ => ?_)
      refine ry_tagAt hE hlen ht hW (by omega) (And.intro (vp_in_nI (by omega) (by omega)) ?_)
      rw [nI_clamp (n := k) (by omega), hbt k (by omega)]
      by_cases e : rm_g t k = rm_g s k
      · rw [e, rm_l1_ir] at h
        exact br_t e (nm_r (nI_1 k) (ih (k + 1) (by omega) h))
      · unfold rm_l1 at h
        rw [if_neg e] at h
        refine br_f e (ry_tagAt hE hlen ht hW (by omega) (And.intro (vp_in_nI (by omega) (by omega)) ?_))
        by_cases g : rm_g t k ≤ rm_g s k
        · rw [decide_eq_false (Int32.not_lt.mpr g)] at h
          exact br_t g h
        · rw [decide_eq_true (Int32.not_le.mp g)] at h
          exact br_f g h
  have loop : ∀ d k, k + d = 3 → post (rm_b (rm_ls (rm_fl t) (rm_fl s) (rm_lr r r' (rm_lx (rm_g t) (rm_g s) false)) k)) → wY_before_2 post (nI r) f_count f_lastTag f_drafted f_rules f_fired f_length f_bestRule f_bestLength a_tag a_type a_fields a_draftPattern a_draftNot a_size a_pattern a_not a_action a_firedRule a_firedTag a_row a_bound a_saved a_mine a_best a_bestTag a_bestBound (d + 1) (nI k) := by
    intro d
    induction d with
    | zero =>
      intro k hk h
      have e : k = 3 := by omega
      subst e
      have h : post (rm_b (rm_lr r r' (rm_lx (rm_g t) (rm_g s) false))) := h
      refine pk_le 3 3 (fun _ => pk_eq r r' (fun e2 => ?_) (fun e2 => ?_) (hy := hbr)) (fun h => absurd h (by omega))
      · unfold rm_lr at h
        rw [if_pos e2] at h
        exact Exists.intro 4 (loop2 3 0 rfl h)
      · unfold rm_lr at h
        rw [if_neg e2] at h
        refine pk_le r' r (fun z => ?_) (fun z => ?_) (hx := hbr)
        · rw [decide_eq_false (by omega)] at h; exact h
        · rw [decide_eq_true (by omega)] at h; exact h
    | succ d ih =>
      intro k hk h
      rw [rm_ls_s (by omega)] at h
      refine pk_le 3 k (fun h => absurd h (by omega)) (fun _ => And.intro (vp_in_nI (by omega) (by omega)) (And.intro (vp_in_nI (by omega) (by omega)) ?_))
      rw [nI_clamp (n := k) (by omega), hm k (by omega), hb k (by omega)]
      by_cases e : rm_fl t k = rm_fl s k
      · rw [e, rm_l1_ir] at h
        exact br_t e (nm_r (nI_1 k) (ih (k + 1) (by omega) h))
      · unfold rm_l1 at h
        rw [if_neg e] at h
        refine br_f e (And.intro (vp_in_nI (by omega) (by omega)) (And.intro (vp_in_nI (by omega) (by omega)) ?_))
        by_cases g : rm_fl t k ≤ rm_fl s k
        · rw [decide_eq_false (Int32.not_lt.mpr g)] at h
          exact br_t g h
        · rw [decide_eq_true (Int32.not_le.mp g)] at h
          exact br_f g h
  exact Exists.intro 4 (loop 3 0 rfl h)
theorem ry_note {E : List rm_El} (hE : ry_YE E f_count a_tag a_type a_fields) {t : List Int32} (hlen : f_length = nI t.length) (ht : t.length ≤ 3) (hW : ry_RW E t a_row) {r : Nat} {b : rm_As} (hr : r < 5) (hB : ry_BD b a_bound) (hok : rm_okb b) (hm : ∀ k, k < 3 → a_mine k = rm_fl t k) {post : SY → Prop}
    (K : ∀ (f_bestRule' f_bestLength' : Int32) (a_best' a_bestTag' a_bestBound' : Nat → Int32), ry_AY (some (r, t, b)) f_bestRule' f_bestLength' a_best' a_bestTag' a_bestBound' → post (f_count, f_lastTag, f_drafted, f_rules, f_fired, f_length, f_bestRule', f_bestLength', a_tag, a_type, a_fields, a_draftPattern, a_draftNot, a_size, a_pattern, a_not, a_action, a_firedRule, a_firedTag, a_row, a_bound, a_saved, a_mine, a_best', a_bestTag', a_bestBound')) : wpY_note post (f_count, f_lastTag, f_drafted, f_rules, f_fired, f_length, f_bestRule, f_bestLength, a_tag, a_type, a_fields, a_draftPattern, a_draftNot, a_size, a_pattern, a_not, a_action, a_firedRule, a_firedTag, a_row, a_bound, a_saved, a_mine, a_best, a_bestTag, a_bestBound) (nI r) := by
  have loop : ∀ d k be bt' bb, k + d = 3 → (∀ j, j < k → be j = rm_fl t j) → (∀ j, j < k → bt' j = rm_g t j) → (∀ j, j < k → bb j = rm_enc (b j)) → wY_note_15 post f_count f_lastTag f_drafted f_rules f_fired f_length (nI r) f_length (d + 1) (nI k) a_tag a_type a_fields a_draftPattern a_draftNot a_size a_pattern a_not a_action a_firedRule a_firedTag a_row a_bound a_saved a_mine be bt' bb := by
    intro d
    induction d with
    | zero =>
      intro k be bt' bb hk h1 h2 h3
      have e : k = 3 := by omega
      subst e
      exact pk_le 3 3 (fun _ => K _ _ _ _ _ ⟨rfl, hr, hlen, ht, h1, h2, h3, hok⟩) (fun h => absurd h (by omega))
    | succ d ih =>
      intro k be bt' bb hk h1 h2 h3
      refine pk_le 3 k (fun h => absurd h (by omega)) (fun _ => And.intro (vp_in_nI (by omega) (by omega)) (And.intro (vp_in_nI (by omega) (by omega)) (nm_e ?_)))
      refine ry_tagAt hE hlen ht hW (by omega) (And.intro (vp_in_nI (by omega) (by omega)) (nm_e (And.intro (vp_in_nI (by omega) (by omega)) (And.intro (vp_in_nI (by omega) (by omega)) (nm_e (nm_r (nI_1 k) ?_))))))
      rw [nI_clamp (n := k) (by omega)]
      refine ih (k + 1) _ _ _ (by omega) (fun j hj => ?_) (fun j hj => ?_) (fun j hj => ?_)
      · by_cases e : j = k
        · subst e; rw [pk_us]; exact hm j (by omega)
        · rw [pk_un e]; exact h1 j (by omega)
      · by_cases e : j = k
        · subst e; exact pk_us
        · rw [pk_un e]; exact h2 j (by omega)
      · by_cases e : j = k
        · subst e; rw [pk_us]; exact hB j (by omega)
        · rw [pk_un e]; exact h3 j (by omega)
  exact Exists.intro 4 (loop 3 0 a_best a_bestTag a_bestBound rfl (fun j hj => absurd hj (by omega)) (fun j hj => absurd hj (by omega)) (fun j hj => absurd hj (by omega)))
theorem ry_rows {cs : List rm_Cd} {r : Nat} (hR : rx_RU cs r a_size a_pattern a_not) (hnp : 1 ≤ rm_np cs) {post : Int32 → Prop} (h : post (nI (12 ^ rm_np cs))) : wpY_rows post (f_count, f_lastTag, f_drafted, f_rules, f_fired, f_length, f_bestRule, f_bestLength, a_tag, a_type, a_fields, a_draftPattern, a_draftNot, a_size, a_pattern, a_not, a_action, a_firedRule, a_firedTag, a_row, a_bound, a_saved, a_mine, a_best, a_bestTag, a_bestBound) (nI r) := by
  have hr := hR.1
  have hl := hR.2.2.1
  have hnl := rm_np_le cs
  have fin : ((nI (rm_np cs) = 1 → post 12) ∧ (¬ nI (rm_np cs) = 1 → ((nI (rm_np cs) = 2 → post 144) ∧ (¬ nI (rm_np cs) = 2 → post 1728)))) := by
    refine pk_eq (rm_np cs) 1 (fun e => ?_) (fun e => pk_eq (rm_np cs) 2 (fun e2 => ?_) (fun e2 => ?_))
    · rw [e] at h; exact h
    · rw [e2] at h; exact h
    · have e3 : rm_np cs = 3 := by omega
      rw [e3] at h; exact h
  have loop : ∀ d k, k + d = cs.length → wY_positives_4 (fun r_1 => ((r_1 = 1 → post 12) ∧ (¬ r_1 = 1 → ((r_1 = 2 → post 144) ∧ (¬ r_1 = 2 → post 1728))))) (nI r) f_count f_lastTag f_drafted f_rules f_fired f_length f_bestRule f_bestLength a_tag a_type a_fields a_draftPattern a_draftNot a_size a_pattern a_not a_action a_firedRule a_firedTag a_row a_bound a_saved a_mine a_best a_bestTag a_bestBound (d + 1) (nI (rm_np (cs.take k))) (nI k) := by
    intro d
    induction d with
    | zero =>
      intro k hk
      have e : k = cs.length := by omega
      subst e
      rw [List.take_length]
      refine And.intro (vp_in_nI (by omega) (by omega)) ?_
      rw [nI_clamp (n := r) (by omega), hR.2.1]
      exact pk_le cs.length cs.length (fun _ => fin) (fun h => absurd h (by omega))
    | succ d ih =>
      intro k hk
      have hlt : k < cs.length := by omega
      rcases hdk : cs[k] with ⟨q, n⟩
      have hg : cs[k]? = some (q, n) := by rw [List.getElem?_eq_getElem hlt, hdk]
      have hs : rm_np (cs.take (k + 1)) = rm_np (cs.take k) + (if n then 0 else 1) := by
        rw [List.take_succ_eq_append_getElem hlt, hdk, rm_np_snoc]
      have ihk := ih (k + 1) (by omega)
      rw [hs] at ihk
      refine And.intro (vp_in_nI (by omega) (by omega)) ?_
      rw [nI_clamp (n := r) (by omega), hR.2.1, rm_n3k]
      refine pk_le cs.length k (fun h => absurd h (by omega)) (fun _ => pk_le 3 k (fun h => absurd h (by omega)) (fun _ => And.intro (vp_in_nI (by omega) (by omega)) ?_))
      rw [nI_clamp (n := 3 * r + k) (by omega), (hR.2.2.2 k q n hg).2.2]
      refine rm_b_0 (fun e => ?_) (fun e => ?_)
      · subst e
        exact nm_r (nI_1 _) (nm_r (nI_1 k) ihk)
      · subst e
        exact nm_r (nI_1 k) ihk
  exact Exists.intro (cs.length + 1) (loop cs.length 0 (by omega))
end
section
variable {f_count f_lastTag f_drafted f_rules f_fired : Int32} {a_tag a_type a_fields a_draftPattern a_draftNot a_size a_pattern a_not a_action a_firedRule a_firedTag : Nat → Int32}
theorem ry_look31 {E : List rm_El} (hE : ry_YE E f_count a_tag a_type a_fields) {cs : List rm_Cd} {r n : Nat} (hR : rx_RU cs r a_size a_pattern a_not) (hnp : 1 ≤ rm_np cs) (hn : n ≤ 40) (hfc : f_fired = nI n) (a : rm_Ac) {post : Int32 → SY → Prop}
    {J : Int32 → Int32 → Int32 → Int32 → Int32 → Int32 → Int32 → Int32 → Int32 → Int32 → (Nat → Int32) → (Nat → Int32) → (Nat → Int32) → (Nat → Int32) → (Nat → Int32) → (Nat → Int32) → (Nat → Int32) → (Nat → Int32) → (Nat → Int32) → (Nat → Int32) → (Nat → Int32) → (Nat → Int32) → (Nat → Int32) → (Nat → Int32) → (Nat → Int32) → (Nat → Int32) → (Nat → Int32) → (Nat → Int32) → Prop}
    (K : ∀ (f_length' f_bestRule' f_bestLength' : Int32) (a_row' a_bound' a_saved' a_mine' a_best' a_bestTag' a_bestBound' : Nat → Int32), ry_AY (rm_ay (rm_F n a_firedRule a_firedTag) r (rm_im E cs (fun _ => none) []) a (12 ^ rm_np cs)).2.2 f_bestRule' f_bestLength' a_best' a_bestTag' a_bestBound' → J (rm_ay (rm_F n a_firedRule a_firedTag) r (rm_im E cs (fun _ => none) []) a (12 ^ rm_np cs)).2.1 (nI (r + 1)) f_count f_lastTag f_drafted f_rules f_fired f_length' f_bestRule' f_bestLength' a_tag a_type a_fields a_draftPattern a_draftNot a_size a_pattern a_not a_action a_firedRule a_firedTag a_row' a_bound' a_saved' a_mine' a_best' a_bestTag' a_bestBound') :
    ∀ d c (f_length f_bestRule f_bestLength : Int32) (a_row a_bound a_saved a_mine a_best a_bestTag a_bestBound : Nat → Int32), c + d = 12 ^ rm_np cs → ry_AY (rm_ay (rm_F n a_firedRule a_firedTag) r (rm_im E cs (fun _ => none) []) a c).2.2 f_bestRule f_bestLength a_best a_bestTag a_bestBound →
      wY_look_31 post J (nI r) (nI (12 ^ rm_np cs)) (d + 1) (rm_ay (rm_F n a_firedRule a_firedTag) r (rm_im E cs (fun _ => none) []) a c).2.1 (nI c) f_count f_lastTag f_drafted f_rules f_fired f_length f_bestRule f_bestLength a_tag a_type a_fields a_draftPattern a_draftNot a_size a_pattern a_not a_action a_firedRule a_firedTag a_row a_bound a_saved a_mine a_best a_bestTag a_bestBound := by
  have hr := hR.1
  have hl := hR.2.2.1
  have hnl := rm_np_le cs
  have hpow : 12 ^ rm_np cs ≤ 1728 := by
    have hc : rm_np cs = 1 ∨ rm_np cs = 2 ∨ rm_np cs = 3 := by omega
    rcases hc with e | e | e <;> rw [e] <;> decide
  generalize hP : 12 ^ rm_np cs = P at *
  intro d
  induction d with
  | zero =>
    intro c f_length f_bestRule f_bestLength a_row a_bound a_saved a_mine a_best a_bestTag a_bestBound hc hA
    have e : c = P := by omega
    subst e
    exact pk_le c c (fun _ => nm_r (nI_1 r) (K f_length f_bestRule f_bestLength a_row a_bound a_saved a_mine a_best a_bestTag a_bestBound hA)) (fun h => absurd h (by omega))
  | succ d ih =>
    intro c f_length f_bestRule f_bestLength a_row a_bound a_saved a_mine a_best a_bestTag a_bestBound hc hA
    refine pk_le P c (fun h => absurd h (by omega)) (fun _ => ?_)
    refine ry_isMatch hE hR (by omega) ?_
    cases him : rm_im E cs (fun _ => none) [] c with
    | none =>
      intro f_length a_row a_bound a_saved
      refine br_t rfl (nm_r (nI_1 c) ?_)
      have k := ih (c + 1) f_length f_bestRule f_bestLength a_row a_bound a_saved a_mine a_best a_bestTag a_bestBound (by omega)
      rw [rm_ay_n him] at k
      exact k hA
    | some m =>
      intro f_length a_row a_bound a_saved hlen hW hB hok
      obtain ⟨t, b⟩ := m
      have ht : t.length ≤ 3 := by
        have hmem : (t, b) ∈ rm_mt E cs (fun _ => none) [] := by
          refine (rm_im_perm hE.2.1 cs _ _).mem_iff.mp ?_
          rw [List.mem_filterMap]
          exact ⟨c, List.mem_range.mpr (by omega), him⟩
        obtain ⟨s, s1, s2, _⟩ := rm_mem_mt cs _ _ _ hmem
        have s1 : t = [] ++ s := s1
        rw [s1, List.nil_append, s2]
        omega
      have ihc := fun f_length f_bestRule f_bestLength a_row a_bound a_saved a_mine a_best a_bestTag a_bestBound => ih (c + 1) f_length f_bestRule f_bestLength a_row a_bound a_saved a_mine a_best a_bestTag a_bestBound (by omega)
      rw [rm_ay_s him] at ihc
      generalize rm_ay (rm_F n a_firedRule a_firedTag) r (rm_im E cs (fun _ => none) []) a c = A at *
      refine br_f (by decide) (ry_hasFired hE hlen ht hW hn hfc (rm_b_0 (fun z => nm_e ?_) (fun z => nm_r (nI_1 c) ?_)))
      · have nt : rm_nt (rm_F n a_firedRule a_firedTag) r A (t, b) = (A.1 + 1, A.2.1 + 1, rm_up A.2.2 r (t, b)) := by
          unfold rm_nt
          rw [z]
          rfl
        rw [nt] at ihc
        refine ry_sort hE hlen ht hW (fun mi hmi => ?_)
        have write : (rm_up A.2.2 r (t, b) = some (r, t, b)) → wY_look_77 post J (wY_look_31 post J (nI r) (nI P) (d + 1)) (A.2.1 + 1) (nI r) (nI P) (nI c) f_count f_lastTag f_drafted f_rules f_fired f_length f_bestRule f_bestLength a_tag a_type a_fields a_draftPattern a_draftNot a_size a_pattern a_not a_action a_firedRule a_firedTag a_row a_bound a_saved mi a_best a_bestTag a_bestBound := by
          intro hu
          rw [hu] at ihc
          refine ry_note hE hlen ht hW hr hB hok hmi (fun f_bestRule' f_bestLength' a_best' a_bestTag' a_bestBound' hA' => nm_r (nI_1 c) (ihc f_length f_bestRule' f_bestLength' a_row a_bound a_saved mi a_best' a_bestTag' a_bestBound' hA'))
        cases hb : A.2.2 with
        | none =>
          rw [hb] at hA
          have hA : f_bestRule = -1 := hA
          exact br_t (by rw [hA]; decide) (write (by rw [hb]; rfl))
        | some w =>
          have hA0 := hA
          rw [hb] at hA
          obtain ⟨w1, w2, w3, w4, w5, w6, w7, w8⟩ := hA
          refine br_f (by rw [w1]; exact nI_pos (by omega)) (ry_before hE hlen ht hW hr w2 w1 hmi w5 w6 (rm_b_0 (fun g => nm_r (nI_1 c) ?_) (fun g => write ?_)))
          · have hu : rm_up A.2.2 r (t, b) = A.2.2 := by
              rw [hb]
              show (if rm_bt r t w.1 w.2.1 = true then some (r, t, b) else some w) = some w
              rw [g]; rfl
            rw [hu] at ihc
            exact ihc f_length f_bestRule f_bestLength a_row a_bound a_saved mi a_best a_bestTag a_bestBound hA0
          · rw [hb]
            show (if rm_bt r t w.1 w.2.1 = true then some (r, t, b) else some w) = some (r, t, b)
            rw [g]; rfl
      · have nt : rm_nt (rm_F n a_firedRule a_firedTag) r A (t, b) = (A.1 + 1, A.2) := by
          unfold rm_nt
          rw [z]
          rfl
        rw [nt] at ihc
        exact ihc f_length f_bestRule f_bestLength a_row a_bound a_saved a_mine a_best a_bestTag a_bestBound hA
end
end
section
/-! ===== the reference: look over all rules, forget, shoot ===== -/
def rm_ally (E : List rm_El) (F : List rm_FE) (R : List rm_Ru) : Nat → rm_Ac
  | 0 => (0, 0, none)
  | r + 1 => match R[r]? with
    | none => rm_ally E F R r
    | some c => rm_ay F r (rm_im E c.1 (fun _ => none) []) (rm_ally E F R r) (12 ^ rm_np c.1)
theorem rm_ally_s {E : List rm_El} {F : List rm_FE} {R : List rm_Ru} {r : Nat} {c : rm_Ru} (h : R[r]? = some c) : rm_ally E F R (r + 1) = rm_ay F r (rm_im E c.1 (fun _ => none) []) (rm_ally E F R r) (12 ^ rm_np c.1) := by
  rw [rm_ally, h]
def rm_a0 (E : List rm_El) (t : Int32) : Bool := decide (t ≤ 0) || E.any (fun x => decide (x.1 = t))
def rm_al (E : List rm_El) (f : rm_FE) : Bool := rm_a0 E f.2.1 && (rm_a0 E f.2.2.1 && rm_a0 E f.2.2.2)
def rm_ak (E : List rm_El) (ft : Nat → Int32) (i : Nat) : Nat → Bool
  | 0 => true
  | k + 1 => rm_ak E ft i k && rm_a0 E (ft (3 * i + k))
theorem rm_ak3 (E : List rm_El) (fr ft : Nat → Int32) (i : Nat) : rm_ak E ft i 3 = rm_al E (fr i, ft (3 * i), ft (3 * i + 1), ft (3 * i + 2)) := by
  unfold rm_al
  show (((true && rm_a0 E (ft (3 * i))) && rm_a0 E (ft (3 * i + 1))) && rm_a0 E (ft (3 * i + 2))) = _
  rw [Bool.true_and, Bool.and_assoc]
section
variable {f_count f_lastTag f_drafted f_rules f_fired f_length f_bestRule f_bestLength : Int32} {a_tag a_type a_fields a_draftPattern a_draftNot a_size a_pattern a_not a_action a_firedRule a_firedTag a_row a_bound a_saved a_mine a_best a_bestTag a_bestBound : Nat → Int32}
theorem ry_look {E : List rm_El} {R : List rm_Ru} {n : Nat} (hE : ry_YE E f_count a_tag a_type a_fields) (hV : rm_RV R) (hL : rx_RL R a_size a_pattern a_not a_action) (hrc : f_rules = nI R.length) (hn : n ≤ 40) (hfc : f_fired = nI n) {post : Int32 → SY → Prop}
    (K : ∀ (f_length' f_bestRule' f_bestLength' : Int32) (a_row' a_bound' a_saved' a_mine' a_best' a_bestTag' a_bestBound' : Nat → Int32), ry_AY (rm_ally E (rm_F n a_firedRule a_firedTag) R R.length).2.2 f_bestRule' f_bestLength' a_best' a_bestTag' a_bestBound' → post (rm_ally E (rm_F n a_firedRule a_firedTag) R R.length).2.1 (f_count, f_lastTag, f_drafted, f_rules, f_fired, f_length', f_bestRule', f_bestLength', a_tag, a_type, a_fields, a_draftPattern, a_draftNot, a_size, a_pattern, a_not, a_action, a_firedRule, a_firedTag, a_row', a_bound', a_saved', a_mine', a_best', a_bestTag', a_bestBound')) : wpY_look post (f_count, f_lastTag, f_drafted, f_rules, f_fired, f_length, f_bestRule, f_bestLength, a_tag, a_type, a_fields, a_draftPattern, a_draftNot, a_size, a_pattern, a_not, a_action, a_firedRule, a_firedTag, a_row, a_bound, a_saved, a_mine, a_best, a_bestTag, a_bestBound) := by
  have h5 := hV.1
  have loop : ∀ d r (f_length' f_bestRule' f_bestLength' : Int32) (a_row' a_bound' a_saved' a_mine' a_best' a_bestTag' a_bestBound' : Nat → Int32), r + d = R.length → ry_AY (rm_ally E (rm_F n a_firedRule a_firedTag) R r).2.2 f_bestRule' f_bestLength' a_best' a_bestTag' a_bestBound' → wY_look_9 post (d + 1) (rm_ally E (rm_F n a_firedRule a_firedTag) R r).2.1 (nI r) f_count f_lastTag f_drafted f_rules f_fired f_length' f_bestRule' f_bestLength' a_tag a_type a_fields a_draftPattern a_draftNot a_size a_pattern a_not a_action a_firedRule a_firedTag a_row' a_bound' a_saved' a_mine' a_best' a_bestTag' a_bestBound' := by
    intro d
    induction d with
    | zero =>
      intro r f_length' f_bestRule' f_bestLength' a_row' a_bound' a_saved' a_mine' a_best' a_bestTag' a_bestBound' hr hA
      have e : r = R.length := by omega
      subst e
      exact pk_le R.length R.length (fun _ => K f_length' f_bestRule' f_bestLength' a_row' a_bound' a_saved' a_mine' a_best' a_bestTag' a_bestBound' hA) (fun h => absurd h (by omega)) (hx := hrc)
    | succ d ih =>
      intro r f_length' f_bestRule' f_bestLength' a_row' a_bound' a_saved' a_mine' a_best' a_bestTag' a_bestBound' hr hA
      have hlt : r < R.length := by omega
      have hg : R[r]? = some R[r] := List.getElem?_eq_getElem hlt
      have hv := hV.2 R[r] (List.getElem_mem hlt)
      refine pk_le R.length r (fun h => absurd h (by omega)) (fun _ => pk_le 5 r (fun h => absurd h (by omega)) (fun _ => ?_)) (hx := hrc)
      refine ry_rows (hL r _ hg).1 hv.1 (Exists.intro (12 ^ rm_np R[r].1 + 1) ?_)
      refine ry_look31 hE (hL r _ hg).1 hv.1 hn hfc _ (fun f_length'' f_bestRule'' f_bestLength'' a_row'' a_bound'' a_saved'' a_mine'' a_best'' a_bestTag'' a_bestBound'' hA2 => ?_) (12 ^ rm_np R[r].1) 0 f_length' f_bestRule' f_bestLength' a_row' a_bound' a_saved' a_mine' a_best' a_bestTag' a_bestBound' (by omega) hA
      have k := ih (r + 1) f_length'' f_bestRule'' f_bestLength'' a_row'' a_bound'' a_saved'' a_mine'' a_best'' a_bestTag'' a_bestBound'' (by omega)
      rw [rm_ally_s hg] at k
      exact k hA2
  exact Exists.intro (R.length + 1) (loop R.length 0 f_length (-1) f_bestLength a_row a_bound a_saved a_mine a_best a_bestTag a_bestBound (by omega) rfl)
theorem rz_look {E : List rm_El} {R : List rm_Ru} {D : List rm_Cd} {F : List rm_FE} {L : Nat} (hY : rz_Y E R D F L (f_count, f_lastTag, f_drafted, f_rules, f_fired, f_length, f_bestRule, f_bestLength, a_tag, a_type, a_fields, a_draftPattern, a_draftNot, a_size, a_pattern, a_not, a_action, a_firedRule, a_firedTag, a_row, a_bound, a_saved, a_mine, a_best, a_bestTag, a_bestBound)) (hV : rm_RV R) (hF : F.length ≤ 40) {post : Int32 → SY → Prop}
    (K : ∀ (f_length' f_bestRule' f_bestLength' : Int32) (a_row' a_bound' a_saved' a_mine' a_best' a_bestTag' a_bestBound' : Nat → Int32), rz_Y E R D F L (f_count, f_lastTag, f_drafted, f_rules, f_fired, f_length', f_bestRule', f_bestLength', a_tag, a_type, a_fields, a_draftPattern, a_draftNot, a_size, a_pattern, a_not, a_action, a_firedRule, a_firedTag, a_row', a_bound', a_saved', a_mine', a_best', a_bestTag', a_bestBound') → ry_AY (rm_ally E F R R.length).2.2 f_bestRule' f_bestLength' a_best' a_bestTag' a_bestBound' → post (rm_ally E F R R.length).2.1 (f_count, f_lastTag, f_drafted, f_rules, f_fired, f_length', f_bestRule', f_bestLength', a_tag, a_type, a_fields, a_draftPattern, a_draftNot, a_size, a_pattern, a_not, a_action, a_firedRule, a_firedTag, a_row', a_bound', a_saved', a_mine', a_best', a_bestTag', a_bestBound')) : wpY_look post (f_count, f_lastTag, f_drafted, f_rules, f_fired, f_length, f_bestRule, f_bestLength, a_tag, a_type, a_fields, a_draftPattern, a_draftNot, a_size, a_pattern, a_not, a_action, a_firedRule, a_firedTag, a_row, a_bound, a_saved, a_mine, a_best, a_bestTag, a_bestBound) := by
  obtain ⟨hE, hl, h2, h3, h4, h5, h6, h7⟩ := hY
  refine ry_look hE hV h6 h2 hF h4 (fun f_length' f_bestRule' f_bestLength' a_row' a_bound' a_saved' a_mine' a_best' a_bestTag' a_bestBound' hA' => ?_)
  rw [h5] at hA' ⊢
  exact K f_length' f_bestRule' f_bestLength' a_row' a_bound' a_saved' a_mine' a_best' a_bestTag' a_bestBound' ⟨hE, hl, h2, h3, h4, h5, h6, h7⟩ hA'
/-! forget -/
theorem ry_fo83 {kept i : Nat} (hk : kept ≤ i) (hi : i < 64) {post : SY → Prop} {J : Int32 → Int32 → (Nat → Int32) → (Nat → Int32) → (Nat → Int32) → (Nat → Int32) → (Nat → Int32) → (Nat → Int32) → (Nat → Int32) → (Nat → Int32) → (Nat → Int32) → (Nat → Int32) → (Nat → Int32) → (Nat → Int32) → (Nat → Int32) → (Nat → Int32) → (Nat → Int32) → (Nat → Int32) → (Nat → Int32) → (Nat → Int32) → Prop}
    (K : ∀ ft', (∀ m, ¬ (3 * kept ≤ m ∧ m < 3 * kept + 3) → ft' m = a_firedTag m) → (∀ m, m < 3 → ft' (3 * kept + m) = a_firedTag (3 * i + m)) → J (nI (kept + 1)) (nI (i + 1)) a_tag a_type a_fields a_draftPattern a_draftNot a_size a_pattern a_not a_action a_firedRule ft' a_row a_bound a_saved a_mine a_best a_bestTag a_bestBound) :
    ∀ d k ft', k + d = 3 → (∀ m, ¬ (3 * kept ≤ m ∧ m < 3 * kept + k) → ft' m = a_firedTag m) → (∀ m, m < k → ft' (3 * kept + m) = a_firedTag (3 * i + m)) →
      wY_forget_83 post J (nI kept) (nI i) f_count f_lastTag f_drafted f_rules f_fired f_length f_bestRule f_bestLength (d + 1) (nI k) a_tag a_type a_fields a_draftPattern a_draftNot a_size a_pattern a_not a_action a_firedRule ft' a_row a_bound a_saved a_mine a_best a_bestTag a_bestBound := by
  intro d
  induction d with
  | zero =>
    intro k ft' hkd h1 h2
    have e : k = 3 := by omega
    subst e
    exact pk_le 3 3 (fun _ => nm_r (nI_1 kept) (nm_r (nI_1 i) (K ft' h1 h2))) (fun h => absurd h (by omega))
  | succ d ih =>
    intro k ft' hkd h1 h2
    refine pk_le 3 k (fun h => absurd h (by omega)) (fun _ => ?_)
    rw [rm_n3k, rm_n3k]
    refine And.intro (vp_in_nI (by omega) (by omega)) (And.intro (vp_in_nI (by omega) (by omega)) (nm_e (nm_r (nI_1 k) ?_)))
    rw [nI_clamp (n := 3 * i + k) (by omega), nI_clamp (n := 3 * kept + k) (by omega)]
    refine ih (k + 1) _ (by omega) ?_ ?_
    · intro m hm
      rw [pk_un (by omega)]
      exact h1 m (by omega)
    · intro m hm
      by_cases e : m = k
      · subst e; rw [pk_us]; exact h1 _ (by omega)
      · rw [pk_un (by omega)]; exact h2 m (by omega)
theorem ry_fo23 {E : List rm_El} (hE : ry_YE E f_count a_tag a_type a_fields) {kept i : Nat} (hki : kept ≤ i) (hi : i < 64) {post : SY → Prop} {J : Int32 → Int32 → (Nat → Int32) → (Nat → Int32) → (Nat → Int32) → (Nat → Int32) → (Nat → Int32) → (Nat → Int32) → (Nat → Int32) → (Nat → Int32) → (Nat → Int32) → (Nat → Int32) → (Nat → Int32) → (Nat → Int32) → (Nat → Int32) → (Nat → Int32) → (Nat → Int32) → (Nat → Int32) → (Nat → Int32) → (Nat → Int32) → Prop}
    (K0 : rm_ak E a_firedTag i 3 = false → J (nI kept) (nI (i + 1)) a_tag a_type a_fields a_draftPattern a_draftNot a_size a_pattern a_not a_action a_firedRule a_firedTag a_row a_bound a_saved a_mine a_best a_bestTag a_bestBound)
    (K1 : rm_ak E a_firedTag i 3 = true → ∀ ft', (∀ m, ¬ (3 * kept ≤ m ∧ m < 3 * kept + 3) → ft' m = a_firedTag m) → (∀ m, m < 3 → ft' (3 * kept + m) = a_firedTag (3 * i + m)) → J (nI (kept + 1)) (nI (i + 1)) a_tag a_type a_fields a_draftPattern a_draftNot a_size a_pattern a_not a_action (upd a_firedRule kept (a_firedRule i)) ft' a_row a_bound a_saved a_mine a_best a_bestTag a_bestBound) :
    ∀ d k, k + d = 3 → wY_forget_23 post J (nI kept) (nI i) f_count f_lastTag f_drafted f_rules f_fired f_length f_bestRule f_bestLength a_tag a_type a_fields a_draftPattern a_draftNot a_size a_pattern a_not a_action a_firedRule a_firedTag a_row a_bound a_saved a_mine a_best a_bestTag a_bestBound (d + 1) (rm_b (rm_ak E a_firedTag i k)) (nI k) := by
  intro d
  induction d with
  | zero =>
    intro k hk
    have e : k = 3 := by omega
    subst e
    refine pk_le 3 3 (fun _ => rm_b_0 (fun z => nm_r (nI_1 i) (K0 z)) (fun z => And.intro (vp_in_nI (by omega) (by omega)) (And.intro (vp_in_nI (by omega) (by omega)) (nm_e ?_)))) (fun h => absurd h (by omega))
    rw [nI_clamp (n := kept) (by omega), nI_clamp (n := i) (by omega)]
    exact Exists.intro 4 (ry_fo83 hki hi (K1 z) 3 0 a_firedTag rfl (fun _ _ => rfl) (fun m hm => absurd hm (by omega)))
  | succ d ih =>
    intro k hk
    refine pk_le 3 k (fun h => absurd h (by omega)) (fun _ => ?_)
    rw [rm_n3k]
    refine And.intro (vp_in_nI (by omega) (by omega)) ?_
    rw [nI_clamp (n := 3 * i + k) (by omega)]
    have ihk := ih (k + 1) (by omega)
    have e1 : rm_ak E a_firedTag i (k + 1) = (rm_ak E a_firedTag i k && rm_a0 E (a_firedTag (3 * i + k))) := rfl
    rw [e1] at ihk
    refine nm_e ?_
    by_cases z : a_firedTag (3 * i + k) ≤ 0
    · have e2 : rm_a0 E (a_firedTag (3 * i + k)) = true := by
        unfold rm_a0
        rw [decide_eq_true z, Bool.true_or]
      rw [e2, Bool.and_true] at ihk
      exact br_t z (nm_r (nI_1 k) ihk)
    · refine br_f z (ry_find hE (fun j x hx hxt => ?_) (fun hno => ?_))
      · have e2 : rm_a0 E (a_firedTag (3 * i + k)) = true := by
          unfold rm_a0
          rw [decide_eq_false z, Bool.false_or, List.any_eq_true]
          exact ⟨x, List.mem_of_getElem? hx, decide_eq_true hxt⟩
        rw [e2, Bool.and_true] at ihk
        have hl := (List.getElem?_eq_some_iff.mp hx).1
        have h12 := hE.2.1
        exact br_t (nI_pos' (by omega)) (nm_r (nI_1 k) ihk)
      · have e2 : rm_a0 E (a_firedTag (3 * i + k)) = false := by
          unfold rm_a0
          rw [decide_eq_false z, Bool.false_or, List.any_eq_false]
          intro x hx
          rw [decide_eq_false (hno x hx)]
          simp
        rw [e2, Bool.and_false] at ihk
        exact br_f (by decide) (nm_r (nI_1 k) ihk)
theorem ry_forget {E : List rm_El} {R : List rm_Ru} {D : List rm_Cd} {F : List rm_FE} {L : Nat} (hY : rz_Y E R D F L (f_count, f_lastTag, f_drafted, f_rules, f_fired, f_length, f_bestRule, f_bestLength, a_tag, a_type, a_fields, a_draftPattern, a_draftNot, a_size, a_pattern, a_not, a_action, a_firedRule, a_firedTag, a_row, a_bound, a_saved, a_mine, a_best, a_bestTag, a_bestBound)) (hF : F.length ≤ 40) {post : SY → Prop}
    (K : ∀ fn fr ft, rz_Y E R D (F.filter (rm_al E)) L (f_count, f_lastTag, f_drafted, f_rules, fn, f_length, f_bestRule, f_bestLength, a_tag, a_type, a_fields, a_draftPattern, a_draftNot, a_size, a_pattern, a_not, a_action, fr, ft, a_row, a_bound, a_saved, a_mine, a_best, a_bestTag, a_bestBound) → post (f_count, f_lastTag, f_drafted, f_rules, fn, f_length, f_bestRule, f_bestLength, a_tag, a_type, a_fields, a_draftPattern, a_draftNot, a_size, a_pattern, a_not, a_action, fr, ft, a_row, a_bound, a_saved, a_mine, a_best, a_bestTag, a_bestBound)) : wpY_forget post (f_count, f_lastTag, f_drafted, f_rules, f_fired, f_length, f_bestRule, f_bestLength, a_tag, a_type, a_fields, a_draftPattern, a_draftNot, a_size, a_pattern, a_not, a_action, a_firedRule, a_firedTag, a_row, a_bound, a_saved, a_mine, a_best, a_bestTag, a_bestBound) := by
  obtain ⟨hE, hl, h2, h3, h4, h5, h6, h7⟩ := hY
  have loop : ∀ d kept i fr ft, i + d = F.length → rm_CI (rm_al E) a_firedRule a_firedTag kept i fr ft → wY_forget_4 post f_count f_lastTag f_drafted f_rules f_fired f_length f_bestRule f_bestLength (d + 1) (nI kept) (nI i) a_tag a_type a_fields a_draftPattern a_draftNot a_size a_pattern a_not a_action fr ft a_row a_bound a_saved a_mine a_best a_bestTag a_bestBound := by
    intro d
    induction d with
    | zero =>
      intro kept i fr ft hi hI
      have e : i = F.length := by omega
      subst e
      refine pk_le F.length F.length (fun _ => K (nI kept) fr ft ?_) (fun h => absurd h (by omega)) (hx := h4)
      have hF' := hI.2.1
      rw [h5] at hF'
      have hm2 : (F.filter (rm_al E)).length = kept := by rw [← hF', rm_F_len]
      exact ⟨hE, hl, h2, h3, by rw [hm2], by rw [hm2]; exact hF', h6, h7⟩
    | succ d ih =>
      intro kept i fr ft hi hI
      have hki := hI.1
      have hft : ∀ k, ft (3 * i + k) = a_firedTag (3 * i + k) := fun k => hI.2.2.2 _ (by omega)
      have e3 : rm_ak E ft i 3 = rm_al E (a_firedRule i, a_firedTag (3 * i), a_firedTag (3 * i + 1), a_firedTag (3 * i + 2)) := by
        rw [rm_ak3 E a_firedRule]
        have q0 : ft (3 * i) = a_firedTag (3 * i) := hft 0
        rw [q0, hft 1, hft 2]
      refine pk_le F.length i (fun h => absurd h (by omega)) (fun _ => pk_le 64 i (fun h => absurd h (by omega)) (fun _ => Exists.intro 4 ?_)) (hx := h4)
      refine ry_fo23 hE hki (by omega) (fun z => ?_) (fun z ft2 g1 g2 => ?_) 3 0 rfl
      · rw [e3] at z
        exact ih kept (i + 1) fr ft (by omega) (rm_CI_skip hI z)
      · rw [e3] at z
        exact ih (kept + 1) (i + 1) _ ft2 (by omega) (rm_CI_keep hI z rfl g1 g2)
  exact Exists.intro (F.length + 1) (loop F.length 0 0 a_firedRule a_firedTag (by omega) (rm_CI_0 _ _ _))
theorem ry_made {b : rm_As} (hok : rm_okb b) (hbb : ∀ v, v < 3 → a_bestBound v = rm_enc (b v)) {e : Nat} (he : e < 20) {post : Int32 → Prop} (h : post (nI (rm_vf b e))) : wpY_made post (f_count, f_lastTag, f_drafted, f_rules, f_fired, f_length, f_bestRule, f_bestLength, a_tag, a_type, a_fields, a_draftPattern, a_draftNot, a_size, a_pattern, a_not, a_action, a_firedRule, a_firedTag, a_row, a_bound, a_saved, a_mine, a_best, a_bestTag, a_bestBound) (nI e) := by
  refine pk_le 16 e (fun h16 => pk_eq e 16 (fun e16 => ?_) (fun ne => ?_)) (fun h16 => ?_)
  · rw [rm_vf_16 e16] at h
    exact h
  · have e1 : nI e - 17 = nI (e - 17) := pk_sub (b := 17) (by omega)
    rw [e1]
    refine And.intro (vp_in_nI (by omega) (by omega)) ?_
    rw [nI_clamp (n := e - 17) (by omega), hbb _ (by omega)]
    cases hb : b (e - 17) with
    | none =>
      rw [rm_vf_n (by omega) hb] at h
      exact br_f (by decide) h
    | some y =>
      rw [rm_vf_s (by omega) hb] at h
      have hy := hok _ _ hb
      exact br_t (nI_pos' (by omega)) (And.intro (vp_in_nI (by omega) (by omega)) h)
  · rw [rm_vf_lo h16] at h
    exact h
theorem rz_shoot {E : List rm_El} {R : List rm_Ru} {D : List rm_Cd} {F : List rm_FE} {L : Nat} (hY : rz_Y E R D F L (f_count, f_lastTag, f_drafted, f_rules, f_fired, f_length, f_bestRule, f_bestLength, a_tag, a_type, a_fields, a_draftPattern, a_draftNot, a_size, a_pattern, a_not, a_action, a_firedRule, a_firedTag, a_row, a_bound, a_saved, a_mine, a_best, a_bestTag, a_bestBound)) (hV : rm_RV R) (hF : F.length ≤ 40)
    (hwf : ∀ w, (rm_ally E F R R.length).2.2 = some w → ∃ c, R[w.1]? = some c) {post : Int32 → SY → Prop}
    (Kn : ∀ v', (rm_ally E F R R.length).2.2 = none → rz_Y E R D F L v' → post (-1) v')
    (Kf : ∀ w v', (rm_ally E F R R.length).2.2 = some w → ¬ (F.filter (rm_al E)).length < 40 → rz_Y E R D (F.filter (rm_al E)) L v' → post (-2) v')
    (K0 : ∀ w c v', (rm_ally E F R R.length).2.2 = some w → R[w.1]? = some c → (F.filter (rm_al E)).length < 40 → (c.2 = 0 ∨ (4 ≤ c.2 ∧ E.length = 12) ∨ (1 ≤ c.2 ∧ c.2 ≤ 3 ∧ ∀ x, x ∈ E → x.1 ≠ rm_g w.2.1 (c.2 - 1))) → rz_Y E R D (F.filter (rm_al E) ++ [(nI w.1, rm_g w.2.1 0, rm_g w.2.1 1, rm_g w.2.1 2)]) L v' → post (nI w.1) v')
    (K1 : ∀ w c i x v', (rm_ally E F R R.length).2.2 = some w → R[w.1]? = some c → (F.filter (rm_al E)).length < 40 → 1 ≤ c.2 → c.2 ≤ 3 → E[i]? = some x → x.1 = rm_g w.2.1 (c.2 - 1) → rz_Y (E.eraseIdx i) R D (F.filter (rm_al E) ++ [(nI w.1, rm_g w.2.1 0, rm_g w.2.1 1, rm_g w.2.1 2)]) L v' → post (nI w.1) v')
    (K2 : ∀ w c v', (rm_ally E F R R.length).2.2 = some w → R[w.1]? = some c → (F.filter (rm_al E)).length < 40 → 4 ≤ c.2 → E.length < 12 → rz_Y (E ++ [(nI (L + 1), (c.2 - 4) / 8000, rm_cd w.2.2 (c.2 - 4) 3)]) R D (F.filter (rm_al E) ++ [(nI w.1, rm_g w.2.1 0, rm_g w.2.1 1, rm_g w.2.1 2)]) (L + 1) v' → post (nI w.1) v') :
    wpY_shoot post (f_count, f_lastTag, f_drafted, f_rules, f_fired, f_length, f_bestRule, f_bestLength, a_tag, a_type, a_fields, a_draftPattern, a_draftNot, a_size, a_pattern, a_not, a_action, a_firedRule, a_firedTag, a_row, a_bound, a_saved, a_mine, a_best, a_bestTag, a_bestBound) := by
  unfold wpY_shoot
  refine rz_look hY hV hF (fun f_length' f_bestRule' f_bestLength' a_row' a_bound' a_saved' a_mine' a_best' a_bestTag' a_bestBound' hY' hA' => ?_)
  cases hw : (rm_ally E F R R.length).2.2 with
  | none =>
    rw [hw] at hA'
    have hA' : f_bestRule' = -1 := hA'
    exact br_f (by rw [hA']; decide) (Kn _ hw hY')
  | some w =>
    rw [hw] at hA'
    obtain ⟨w1, w2, w3, w4, w5, w6, w7, w8⟩ := hA'
    obtain ⟨c, hc⟩ := hwf w hw
    have hv := hV.2 c (List.mem_of_getElem? hc)
    have hFl : (F.filter (rm_al E)).length ≤ 40 := Nat.le_trans (List.length_filter_le _ _) hF
    refine br_t (by rw [w1]; exact nI_pos' (by omega)) ?_
    refine ry_forget hY' hF (fun fn fr ft hYf => ?_)
    have h4 := hYf.2.2.2.2.1
    refine pk_le (F.filter (rm_al E)).length 39 (fun hlt => ?_) (fun hge => Kf w _ hw (by omega) hYf) (hx := h4)
    rw [h4]
    refine And.intro (vp_in_nI (by omega) (by omega)) (nm_e (Exists.intro 4 ?_))
    rw [nI_clamp (n := (F.filter (rm_al E)).length) (by omega)]
    have loop : ∀ d k ft', k + d = 3 → (∀ j, j < k → ft' (3 * (F.filter (rm_al E)).length + j) = rm_g w.2.1 j) → (∀ m, m < 3 * (F.filter (rm_al E)).length → ft' m = ft m) →
        wY_shoot_44 post (nI (F.filter (rm_al E)).length) f_count f_lastTag f_drafted f_rules (nI (F.filter (rm_al E)).length) f_length' f_bestRule' f_bestLength' (d + 1) (nI k) a_tag a_type a_fields a_draftPattern a_draftNot a_size a_pattern a_not a_action (upd fr (F.filter (rm_al E)).length f_bestRule') ft' a_row' a_bound' a_saved' a_mine' a_best' a_bestTag' a_bestBound' := by
      intro d
      induction d with
      | zero =>
        intro k ft' hk g1 g2
        have e : k = 3 := by omega
        subst e
        refine pk_le 3 3 (fun _ => nm_r (nI_1 (F.filter (rm_al E)).length) ?_) (fun h => absurd h (by omega))
        obtain ⟨hE, hl, h2, h3, _, h5, h6, h7⟩ := hYf
        rw [w1]
        refine And.intro (vp_in_nI (by omega) (by omega)) ?_
        rw [nI_clamp (n := w.1) (by omega), (h6 w.1 c hc).2]
        refine nm_e ?_
        have eF : rm_F ((F.filter (rm_al E)).length + 1) (upd fr (F.filter (rm_al E)).length (nI w.1)) ft' = F.filter (rm_al E) ++ [(nI w.1, rm_g w.2.1 0, rm_g w.2.1 1, rm_g w.2.1 2)] := by
          rw [rm_F_s, rm_F_c (fr := fr) (ft := ft) (fun i hi => pk_un (by omega)) (fun m hm => g2 m hm), h5, pk_us, ← g1 0 (by omega), ← g1 1 (by omega), ← g1 2 (by omega)]
          rfl
        have hlen1 : (F.filter (rm_al E) ++ [(nI w.1, rm_g w.2.1 0, rm_g w.2.1 1, rm_g w.2.1 2)]).length = (F.filter (rm_al E)).length + 1 := by rw [List.length_append]; rfl
        have hY2 : rz_Y E R D (F.filter (rm_al E) ++ [(nI w.1, rm_g w.2.1 0, rm_g w.2.1 1, rm_g w.2.1 2)]) L (f_count, f_lastTag, f_drafted, f_rules, nI ((F.filter (rm_al E)).length + 1), f_length', nI w.1, f_bestLength', a_tag, a_type, a_fields, a_draftPattern, a_draftNot, a_size, a_pattern, a_not, a_action, upd fr (F.filter (rm_al E)).length (nI w.1), ft', a_row', a_bound', a_saved', a_mine', a_best', a_bestTag', a_bestBound') :=
          ⟨hE, hl, h2, h3, by rw [hlen1], by rw [hlen1]; exact eF, h6, h7⟩
        refine pk_le c.2 3 (fun hle => pk_le c.2 0 (fun h0 => ?_) (fun h0 => ?_) (ha := by omega)) (fun hgt => ?_) (ha := by omega)
        · exact K0 w c _ hw hc (by omega) (Or.inl (by omega)) hY2
        · have e1 : nI c.2 - 1 = nI (c.2 - 1) := pk_sub (b := 1) (by omega)
          rw [e1]
          refine And.intro (vp_in_nI (by omega) (by omega)) ?_
          rw [nI_clamp (n := c.2 - 1) (by omega), w6 _ (by omega)]
          refine ry_find hE (fun i x hx hxt => ?_) (fun hno => ?_)
          · have hil := (List.getElem?_eq_some_iff.mp hx).1
            have h12 := hE.2.1
            refine br_f (nI_pos (by omega)) (ry_drop hY2 hil (zz_Y ?_))
            intro f_count'' f_lastTag'' f_drafted'' f_rules'' f_fired'' f_length'' f_bestRule'' f_bestLength'' a_tag'' a_type'' a_fields'' a_draftPattern'' a_draftNot'' a_size'' a_pattern'' a_not'' a_action'' a_firedRule'' a_firedTag'' a_row'' a_bound'' a_saved'' a_mine'' a_best'' a_bestTag'' a_bestBound'' z1 z2
            have k := K1 w c i x _ hw hc (by omega) (by omega) (by omega) hx hxt z2
            have z1 : f_bestRule'' = nI w.1 := z1
            rw [← z1] at k
            exact k
          · exact br_t (by decide) (K0 w c _ hw hc (by omega) (Or.inr (Or.inr ⟨by omega, by omega, hno⟩)) hY2)
        · have hc4 : c.2 - 4 < 32000 := by have := hv.2.2.1; omega
          refine nm_r (e' := nI (c.2 - 4)) (pk_sub (b := 4) (by omega)) ?_
          refine ry_entry (q := c.2 - 4) (k := 0) (by omega) (by omega) ?_
          refine ry_entry (q := c.2 - 4) (k := 1) (by omega) (by omega) ?_
          refine ry_entry (q := c.2 - 4) (k := 2) (by omega) (by omega) ?_
          refine ry_made w8 w7 (rm_en_lt _ _) ?_
          refine ry_made w8 w7 (rm_en_lt _ _) ?_
          refine ry_made w8 w7 (rm_en_lt _ _) ?_
          have cd := rm_cd3 w8 (c.2 - 4)
          refine nm_r (e' := nI (rm_cd w.2.2 (c.2 - 4) 3)) ?_ (And.intro (by decide) ?_)
          · have q1 : (256 : Int32) * nI (rm_vf w.2.2 (rm_en (c.2 - 4) 0)) = nI (256 * rm_vf w.2.2 (rm_en (c.2 - 4) 0)) := pk_mul 256 _
            have q2 : (16 : Int32) * nI (rm_vf w.2.2 (rm_en (c.2 - 4) 1)) = nI (16 * rm_vf w.2.2 (rm_en (c.2 - 4) 1)) := pk_mul 16 _
            rw [q1, q2, nI_add, nI_add, cd.2.2.2]
          · rw [rm_d8 (by omega)]
            refine ry_add hY2 (by omega) cd.2.2.1 (fun h12 => ?_) (zz_Y ?_)
            · exact K0 w c _ hw hc (by omega) (Or.inr (Or.inl ⟨by omega, h12⟩)) hY2
            · intro f_count'' f_lastTag'' f_drafted'' f_rules'' f_fired'' f_length'' f_bestRule'' f_bestLength'' a_tag'' a_type'' a_fields'' a_draftPattern'' a_draftNot'' a_size'' a_pattern'' a_not'' a_action'' a_firedRule'' a_firedTag'' a_row'' a_bound'' a_saved'' a_mine'' a_best'' a_bestTag'' a_bestBound'' z0 z1 z2
              have k := K2 w c _ hw hc (by omega) (by omega) z0 z2
              have z1 : f_bestRule'' = nI w.1 := z1
              rw [← z1] at k
              exact k
      | succ d ih =>
        intro k ft' hk g1 g2
        refine pk_le 3 k (fun h => absurd h (by omega)) (fun _ => And.intro (vp_in_nI (by omega) (by omega)) ?_)
        rw [rm_n3k]
        refine And.intro (vp_in_nI (by omega) (by omega)) (nm_e (nm_r (nI_1 k) ?_))
        rw [nI_clamp (n := 3 * (F.filter (rm_al E)).length + k) (by omega), nI_clamp (n := k) (by omega)]
        refine ih (k + 1) _ (by omega) (fun j hj => ?_) (fun m hm => ?_)
        · by_cases e : j = k
          · subst e; rw [pk_us]; exact w6 j (by omega)
          · rw [pk_un (by omega)]; exact g1 j (by omega)
        · rw [pk_un (by omega)]; exact g2 m hm
    exact loop 3 0 ft rfl (fun j hj => absurd hj (by omega)) (fun _ _ => rfl)
end
end
section
/-! ===== the reference's methods over the abstract state ===== -/
section
variable {f_count f_lastTag f_drafted f_rules f_fired f_length f_bestRule f_bestLength : Int32} {a_tag a_type a_fields a_draftPattern a_draftNot a_size a_pattern a_not a_action a_firedRule a_firedTag a_row a_bound a_saved a_mine a_best a_bestTag a_bestBound : Nat → Int32}
theorem ry_bad {p : Int32} {post : Int32 → Prop} (K0 : ¬ (0 ≤ p ∧ p ≤ 31999) → post 1) (K1 : ∀ q, p = nI q → q < 32000 → post 0) : wpY_badPattern post (f_count, f_lastTag, f_drafted, f_rules, f_fired, f_length, f_bestRule, f_bestLength, a_tag, a_type, a_fields, a_draftPattern, a_draftNot, a_size, a_pattern, a_not, a_action, a_firedRule, a_firedTag, a_row, a_bound, a_saved, a_mine, a_best, a_bestTag, a_bestBound) p := by
  by_cases t0 : p < 0
  · exact br_t t0 (K0 (fun z => absurd t0 (Int32.not_lt.mpr z.1)))
  · refine br_f t0 ?_
    by_cases t1 : p ≤ 31999
    · obtain ⟨q, hq, rfl⟩ := nI_of2 (n := 31999) (by decide) t0 t1
      exact br_t t1 (K1 q rfl (by omega))
    · exact br_f t1 (K0 (fun z => t1 z.2))
theorem rz_ymake {E : List rm_El} {R : List rm_Ru} {D : List rm_Cd} {F : List rm_FE} {L : Nat} (hY : rz_Y E R D F L (f_count, f_lastTag, f_drafted, f_rules, f_fired, f_length, f_bestRule, f_bestLength, a_tag, a_type, a_fields, a_draftPattern, a_draftNot, a_size, a_pattern, a_not, a_action, a_firedRule, a_firedTag, a_row, a_bound, a_saved, a_mine, a_best, a_bestTag, a_bestBound)) {ty code : Int32} {post : Int32 → SY → Prop}
    (K1 : ¬ (0 ≤ ty ∧ ty ≤ 3) → post (-1) (f_count, f_lastTag, f_drafted, f_rules, f_fired, f_length, f_bestRule, f_bestLength, a_tag, a_type, a_fields, a_draftPattern, a_draftNot, a_size, a_pattern, a_not, a_action, a_firedRule, a_firedTag, a_row, a_bound, a_saved, a_mine, a_best, a_bestTag, a_bestBound)) (K2 : 0 ≤ ty → ty ≤ 3 → ¬ (0 ≤ code ∧ code ≤ 4095) → post (-2) (f_count, f_lastTag, f_drafted, f_rules, f_fired, f_length, f_bestRule, f_bestLength, a_tag, a_type, a_fields, a_draftPattern, a_draftNot, a_size, a_pattern, a_not, a_action, a_firedRule, a_firedTag, a_row, a_bound, a_saved, a_mine, a_best, a_bestTag, a_bestBound)) (K3 : E.length = 12 → 0 ≤ ty → ty ≤ 3 → 0 ≤ code → code ≤ 4095 → post (-3) (f_count, f_lastTag, f_drafted, f_rules, f_fired, f_length, f_bestRule, f_bestLength, a_tag, a_type, a_fields, a_draftPattern, a_draftNot, a_size, a_pattern, a_not, a_action, a_firedRule, a_firedTag, a_row, a_bound, a_saved, a_mine, a_best, a_bestTag, a_bestBound))
    (K : ∀ y x v', ty = nI y → y < 4 → code = nI x → x < 4096 → E.length < 12 → rz_Y (E ++ [(nI (L + 1), y, x)]) R D F (L + 1) v' → post (nI (L + 1)) v') : wpY_make post (f_count, f_lastTag, f_drafted, f_rules, f_fired, f_length, f_bestRule, f_bestLength, a_tag, a_type, a_fields, a_draftPattern, a_draftNot, a_size, a_pattern, a_not, a_action, a_firedRule, a_firedTag, a_row, a_bound, a_saved, a_mine, a_best, a_bestTag, a_bestBound) ty code := by
  by_cases t0 : ty < 0
  · exact br_t t0 (K1 (fun z => absurd t0 (Int32.not_lt.mpr z.1)))
  · refine br_f t0 ?_
    by_cases t1 : ty ≤ 3
    · refine br_t t1 ?_
      by_cases c0 : code < 0
      · exact br_t c0 (K2 (Int32.not_lt.mp t0) t1 (fun z => absurd c0 (Int32.not_lt.mpr z.1)))
      · refine br_f c0 ?_
        by_cases c1 : code ≤ 4095
        · refine br_t c1 ?_
          obtain ⟨y, hy, rfl⟩ := nI_of2 (n := 3) (by decide) t0 t1
          obtain ⟨x, hx, rfl⟩ := nI_of2 (n := 4095) (by decide) c0 c1
          refine ry_add hY (by omega) (by omega) (fun e => K3 e (Int32.not_lt.mp t0) t1 (Int32.not_lt.mp c0) c1) (zz_Y ?_)
          intro f_count' f_lastTag' f_drafted' f_rules' f_fired' f_length' f_bestRule' f_bestLength' a_tag' a_type' a_fields' a_draftPattern' a_draftNot' a_size' a_pattern' a_not' a_action' a_firedRule' a_firedTag' a_row' a_bound' a_saved' a_mine' a_best' a_bestTag' a_bestBound' h1 _ h2
          exact K y x _ rfl (by omega) rfl (by omega) h1 h2
        · exact br_f c1 (K2 (Int32.not_lt.mp t0) t1 (fun z => c1 z.2))
    · exact br_f t1 (K1 (fun z => t1 z.2))
theorem rz_yremove {E : List rm_El} {R : List rm_Ru} {D : List rm_Cd} {F : List rm_FE} {L : Nat} (hY : rz_Y E R D F L (f_count, f_lastTag, f_drafted, f_rules, f_fired, f_length, f_bestRule, f_bestLength, a_tag, a_type, a_fields, a_draftPattern, a_draftNot, a_size, a_pattern, a_not, a_action, a_firedRule, a_firedTag, a_row, a_bound, a_saved, a_mine, a_best, a_bestTag, a_bestBound)) {t : Int32} {post : Int32 → SY → Prop}
    (K0 : (∀ x, x ∈ E → x.1 ≠ t) → post (-1) (f_count, f_lastTag, f_drafted, f_rules, f_fired, f_length, f_bestRule, f_bestLength, a_tag, a_type, a_fields, a_draftPattern, a_draftNot, a_size, a_pattern, a_not, a_action, a_firedRule, a_firedTag, a_row, a_bound, a_saved, a_mine, a_best, a_bestTag, a_bestBound)) (K1 : ∀ i x v', E[i]? = some x → x.1 = t → rz_Y (E.eraseIdx i) R D F L v' → post (nI (E.length - 1)) v') : wpY_remove post (f_count, f_lastTag, f_drafted, f_rules, f_fired, f_length, f_bestRule, f_bestLength, a_tag, a_type, a_fields, a_draftPattern, a_draftNot, a_size, a_pattern, a_not, a_action, a_firedRule, a_firedTag, a_row, a_bound, a_saved, a_mine, a_best, a_bestTag, a_bestBound) t := by
  have hE := hY.1
  unfold wpY_remove
  refine ry_find hE (fun i x hx hxt => ?_) (fun hno => br_f (by decide) (K0 hno))
  have hil := (List.getElem?_eq_some_iff.mp hx).1
  have h12 := hE.2.1
  refine br_t (nI_pos' (by omega)) (ry_drop hY hil (zz_Y ?_))
  intro f_count' f_lastTag' f_drafted' f_rules' f_fired' f_length' f_bestRule' f_bestLength' a_tag' a_type' a_fields' a_draftPattern' a_draftNot' a_size' a_pattern' a_not' a_action' a_firedRule' a_firedTag' a_row' a_bound' a_saved' a_mine' a_best' a_bestTag' a_bestBound' _ h2
  have k := K1 i x _ hx hxt h2
  have e := h2.1.1
  rw [List.length_eraseIdx_of_lt hil] at e
  rw [← e] at k
  exact k
theorem rz_yexists {E : List rm_El} {R : List rm_Ru} {D : List rm_Cd} {F : List rm_FE} {L : Nat} (hY : rz_Y E R D F L (f_count, f_lastTag, f_drafted, f_rules, f_fired, f_length, f_bestRule, f_bestLength, a_tag, a_type, a_fields, a_draftPattern, a_draftNot, a_size, a_pattern, a_not, a_action, a_firedRule, a_firedTag, a_row, a_bound, a_saved, a_mine, a_best, a_bestTag, a_bestBound)) {t : Int32} {post : Int32 → Prop}
    (K0 : (∀ x, x ∈ E → x.1 ≠ t) → post 0) (K1 : ∀ (i : Nat) (x : rm_El), E[i]? = some x → x.1 = t → post 1) : wpY_exists post (f_count, f_lastTag, f_drafted, f_rules, f_fired, f_length, f_bestRule, f_bestLength, a_tag, a_type, a_fields, a_draftPattern, a_draftNot, a_size, a_pattern, a_not, a_action, a_firedRule, a_firedTag, a_row, a_bound, a_saved, a_mine, a_best, a_bestTag, a_bestBound) t := by
  have hE := hY.1
  unfold wpY_exists
  refine ry_find hE (fun i x hx hxt => ?_) (fun hno => br_f (by decide) (K0 hno))
  have hil := (List.getElem?_eq_some_iff.mp hx).1
  have h12 := hE.2.1
  exact br_t (nI_pos' (by omega)) (K1 i x hx hxt)
theorem rz_ycontents {E : List rm_El} {R : List rm_Ru} {D : List rm_Cd} {F : List rm_FE} {L : Nat} (hY : rz_Y E R D F L (f_count, f_lastTag, f_drafted, f_rules, f_fired, f_length, f_bestRule, f_bestLength, a_tag, a_type, a_fields, a_draftPattern, a_draftNot, a_size, a_pattern, a_not, a_action, a_firedRule, a_firedTag, a_row, a_bound, a_saved, a_mine, a_best, a_bestTag, a_bestBound)) {t : Int32} {post : Int32 → Prop}
    (K0 : (∀ x, x ∈ E → x.1 ≠ t) → post (-1)) (K1 : ∀ (i : Nat) (x : rm_El), E[i]? = some x → x.1 = t → post (nI (4096 * x.2.1 + x.2.2))) : wpY_contents post (f_count, f_lastTag, f_drafted, f_rules, f_fired, f_length, f_bestRule, f_bestLength, a_tag, a_type, a_fields, a_draftPattern, a_draftNot, a_size, a_pattern, a_not, a_action, a_firedRule, a_firedTag, a_row, a_bound, a_saved, a_mine, a_best, a_bestTag, a_bestBound) t := by
  have hE := hY.1
  unfold wpY_contents
  refine ry_find hE (fun i x hx hxt => ?_) (fun hno => br_f (by decide) (K0 hno))
  have hil := (List.getElem?_eq_some_iff.mp hx).1
  have h12 := hE.2.1
  obtain ⟨g1, g2, g3, g4, g5⟩ := hE.2.2 i x hx
  refine br_t (nI_pos' (by omega)) (And.intro (vp_in_nI (by omega) (by omega)) (And.intro (vp_in_nI (by omega) (by omega)) ?_))
  rw [nI_clamp (n := i) (by omega), g2, g3]
  have e1 : (4096 : Int32) * nI x.2.1 = nI (4096 * x.2.1) := pk_mul 4096 _
  rw [e1, nI_add]
  exact K1 i x hx hxt
theorem rz_yclear {E : List rm_El} {R : List rm_Ru} {D : List rm_Cd} {F : List rm_FE} {L : Nat} (hY : rz_Y E R D F L (f_count, f_lastTag, f_drafted, f_rules, f_fired, f_length, f_bestRule, f_bestLength, a_tag, a_type, a_fields, a_draftPattern, a_draftNot, a_size, a_pattern, a_not, a_action, a_firedRule, a_firedTag, a_row, a_bound, a_saved, a_mine, a_best, a_bestTag, a_bestBound)) {post : Int32 → SY → Prop} (K : ∀ v', rz_Y E [] [] [] L v' → post (nI R.length) v') : wpY_clearRules post (f_count, f_lastTag, f_drafted, f_rules, f_fired, f_length, f_bestRule, f_bestLength, a_tag, a_type, a_fields, a_draftPattern, a_draftNot, a_size, a_pattern, a_not, a_action, a_firedRule, a_firedTag, a_row, a_bound, a_saved, a_mine, a_best, a_bestTag, a_bestBound) := by
  obtain ⟨hE, hl, h2, h3, h4, h5, h6, h7⟩ := hY
  have k := K (f_count, f_lastTag, 0, 0, 0, f_length, f_bestRule, f_bestLength, a_tag, a_type, a_fields, a_draftPattern, a_draftNot, a_size, a_pattern, a_not, a_action, a_firedRule, a_firedTag, a_row, a_bound, a_saved, a_mine, a_best, a_bestTag, a_bestBound) ⟨hE, hl, rfl, rfl, rfl, rfl, fun r c h => absurd h (by simp), fun k q n h => absurd h (by simp)⟩
  rw [← h2] at k
  exact k
theorem rz_ycondition {E : List rm_El} {R : List rm_Ru} {D : List rm_Cd} {F : List rm_FE} {L : Nat} (hY : rz_Y E R D F L (f_count, f_lastTag, f_drafted, f_rules, f_fired, f_length, f_bestRule, f_bestLength, a_tag, a_type, a_fields, a_draftPattern, a_draftNot, a_size, a_pattern, a_not, a_action, a_firedRule, a_firedTag, a_row, a_bound, a_saved, a_mine, a_best, a_bestTag, a_bestBound)) (hD : D.length ≤ 3) {p ne : Int32} {post : Int32 → SY → Prop}
    (K1 : ¬ (0 ≤ p ∧ p ≤ 31999) → post (-1) (f_count, f_lastTag, f_drafted, f_rules, f_fired, f_length, f_bestRule, f_bestLength, a_tag, a_type, a_fields, a_draftPattern, a_draftNot, a_size, a_pattern, a_not, a_action, a_firedRule, a_firedTag, a_row, a_bound, a_saved, a_mine, a_best, a_bestTag, a_bestBound)) (K2 : 0 ≤ p ∧ p ≤ 31999 → D.length = 3 → post (-2) (f_count, f_lastTag, f_drafted, f_rules, f_fired, f_length, f_bestRule, f_bestLength, a_tag, a_type, a_fields, a_draftPattern, a_draftNot, a_size, a_pattern, a_not, a_action, a_firedRule, a_firedTag, a_row, a_bound, a_saved, a_mine, a_best, a_bestTag, a_bestBound)) (K3 : 0 ≤ p ∧ p ≤ 31999 → D.length ≠ 3 → ne ≠ 0 → D.length = 0 → post (-3) (f_count, f_lastTag, f_drafted, f_rules, f_fired, f_length, f_bestRule, f_bestLength, a_tag, a_type, a_fields, a_draftPattern, a_draftNot, a_size, a_pattern, a_not, a_action, a_firedRule, a_firedTag, a_row, a_bound, a_saved, a_mine, a_best, a_bestTag, a_bestBound))
    (K : ∀ q n v', p = nI q → q < 32000 → D.length < 3 → (n = true ↔ ne ≠ 0) → (D.length = 0 → n = false) → rz_Y E R (D ++ [(q, n)]) F L v' → post (nI (D.length + 1)) v') : wpY_condition post (f_count, f_lastTag, f_drafted, f_rules, f_fired, f_length, f_bestRule, f_bestLength, a_tag, a_type, a_fields, a_draftPattern, a_draftNot, a_size, a_pattern, a_not, a_action, a_firedRule, a_firedTag, a_row, a_bound, a_saved, a_mine, a_best, a_bestTag, a_bestBound) p ne := by
  obtain ⟨hE, hl, h2, h3, h4, h5, h6, h7⟩ := hY
  unfold wpY_condition
  refine ry_bad (fun z => br_f (by decide) (K1 z)) (fun q hq0 hq => br_t rfl ?_)
  subst hq0
  have hpb : (0 : Int32) ≤ nI q ∧ nI q ≤ 31999 := ⟨nI_pos' (by omega), nI_le (b := 31999) (by omega) (by omega)⟩
  refine pk_le D.length 2 (fun hle => ?_) (fun h => K2 hpb (by omega)) (hx := h3)
  have fin : ∀ n : Bool, (n = true ↔ ne ≠ 0) → (D.length = 0 → n = false) → wY_condition_62 post (rm_b n) f_drafted f_count f_lastTag f_drafted f_rules f_fired f_length f_bestRule f_bestLength a_tag a_type a_fields (upd a_draftPattern f_drafted.toNatClampNeg (nI q)) a_draftNot a_size a_pattern a_not a_action a_firedRule a_firedTag a_row a_bound a_saved a_mine a_best a_bestTag a_bestBound := by
    intro n hn1 hn2
    rw [h3]
    refine And.intro (vp_in_nI (by omega) (by omega)) (nm_e (nm_r (nI_1 D.length) ?_))
    rw [nI_clamp (n := D.length) (by omega), rm_b_nar]
    refine K q n _ rfl hq (by omega) hn1 hn2 ⟨hE, hl, h2, ?_, h4, h5, h6, ?_⟩
    · rw [List.length_append]; rfl
    · exact rx_CO_snoc h7 hq (fun k hk => pk_un (by omega)) (fun k hk => pk_un (by omega)) (by rw [Nat.zero_add, pk_us]) (by rw [Nat.zero_add, pk_us])
  have mid : (D.length = 0 → ne = 0) → wY_condition_35 post (nI q) ne f_count f_lastTag f_drafted f_rules f_fired f_length f_bestRule f_bestLength a_tag a_type a_fields a_draftPattern a_draftNot a_size a_pattern a_not a_action a_firedRule a_firedTag a_row a_bound a_saved a_mine a_best a_bestTag a_bestBound := by
    intro h0
    refine And.intro (by rw [h3]; exact vp_in_nI (by omega) (by omega)) (nm_e ?_)
    by_cases z : ne = 0
    · exact br_t z (fin false ⟨fun y => absurd y (by simp), fun y => absurd z y⟩ (fun _ => rfl))
    · exact br_f z (fin true ⟨fun _ => z, fun _ => rfl⟩ (fun y => absurd (h0 y) z))
  by_cases z : ne = 0
  · exact br_t z (mid (fun _ => z))
  · exact br_f z (pk_eq D.length 0 (fun y => K3 hpb (by omega) z y) (fun y => mid (fun w => absurd w y)) (hx := h3))
theorem rz_yrule {E : List rm_El} {R : List rm_Ru} {D : List rm_Cd} {F : List rm_FE} {L : Nat} (hY : rz_Y E R D F L (f_count, f_lastTag, f_drafted, f_rules, f_fired, f_length, f_bestRule, f_bestLength, a_tag, a_type, a_fields, a_draftPattern, a_draftNot, a_size, a_pattern, a_not, a_action, a_firedRule, a_firedTag, a_row, a_bound, a_saved, a_mine, a_best, a_bestTag, a_bestBound)) (hD : D.length ≤ 3) (hR : R.length ≤ 5) {p : Int32} {post : Int32 → SY → Prop}
    (K1 : D.length = 0 → post (-1) (f_count, f_lastTag, f_drafted, f_rules, f_fired, f_length, f_bestRule, f_bestLength, a_tag, a_type, a_fields, a_draftPattern, a_draftNot, a_size, a_pattern, a_not, a_action, a_firedRule, a_firedTag, a_row, a_bound, a_saved, a_mine, a_best, a_bestTag, a_bestBound)) (K2 : D.length ≠ 0 → ¬ (0 ≤ p ∧ p ≤ 32003) → post (-2) (f_count, f_lastTag, f_drafted, f_rules, f_fired, f_length, f_bestRule, f_bestLength, a_tag, a_type, a_fields, a_draftPattern, a_draftNot, a_size, a_pattern, a_not, a_action, a_firedRule, a_firedTag, a_row, a_bound, a_saved, a_mine, a_best, a_bestTag, a_bestBound)) (K3 : ∀ ac, D.length ≠ 0 → p = nI ac → ac < 32004 → 1 ≤ ac → ac ≤ 3 → rm_np D < ac → post (-3) (f_count, f_lastTag, f_drafted, f_rules, f_fired, f_length, f_bestRule, f_bestLength, a_tag, a_type, a_fields, a_draftPattern, a_draftNot, a_size, a_pattern, a_not, a_action, a_firedRule, a_firedTag, a_row, a_bound, a_saved, a_mine, a_best, a_bestTag, a_bestBound))
    (K4 : ∀ ac, D.length ≠ 0 → p = nI ac → ac < 32004 → (1 ≤ ac → ac ≤ 3 → ac ≤ rm_np D) → R.length = 5 → post (-4) (f_count, f_lastTag, f_drafted, f_rules, f_fired, f_length, f_bestRule, f_bestLength, a_tag, a_type, a_fields, a_draftPattern, a_draftNot, a_size, a_pattern, a_not, a_action, a_firedRule, a_firedTag, a_row, a_bound, a_saved, a_mine, a_best, a_bestTag, a_bestBound))
    (K : ∀ ac v', D.length ≠ 0 → p = nI ac → ac < 32004 → (1 ≤ ac → ac ≤ 3 → ac ≤ rm_np D) → R.length < 5 → rz_Y E (R ++ [(D, ac)]) [] F L v' → post (nI R.length) v') : wpY_rule post (f_count, f_lastTag, f_drafted, f_rules, f_fired, f_length, f_bestRule, f_bestLength, a_tag, a_type, a_fields, a_draftPattern, a_draftNot, a_size, a_pattern, a_not, a_action, a_firedRule, a_firedTag, a_row, a_bound, a_saved, a_mine, a_best, a_bestTag, a_bestBound) p := by
  obtain ⟨hE, hl, h2, h3, h4, h5, h6, h7⟩ := hY
  refine pk_eq D.length 0 K1 (fun hD0 => ?_) (hx := h3)
  by_cases t0 : p < 0
  · exact br_t t0 (K2 hD0 (fun z => absurd t0 (Int32.not_lt.mpr z.1)))
  · refine br_f t0 ?_
    by_cases t1 : p ≤ 32003
    · refine br_t t1 ?_
      obtain ⟨ac, hac, rfl⟩ := nI_of2 (n := 32003) (by decide) t0 t1
      have hco0 : ∀ k q n, D[k]? = some (q, n) → a_draftPattern k = nI q ∧ q < 32000 ∧ a_draftNot k = rm_b n := by
        intro k q n hk
        have h := h7 k q n hk
        rw [Nat.zero_add] at h
        exact h
      have copy : (1 ≤ ac → ac ≤ 3 → ac ≤ rm_np D) → R.length < 5 → ∀ d k pat neg, k + d = 3 → (∀ j, j < k → pat (3 * R.length + j) = a_draftPattern j ∧ neg (3 * R.length + j) = vp_nar .boolean (a_draftNot j)) → (∀ m, ¬ (3 * R.length ≤ m ∧ m < 3 * R.length + 3) → pat m = a_pattern m ∧ neg m = a_not m) →
          wY_rule_91 post (nI ac) (nI R.length) f_count f_lastTag f_drafted f_rules f_fired f_length f_bestRule f_bestLength (d + 1) (nI k) a_tag a_type a_fields a_draftPattern a_draftNot a_size pat neg a_action a_firedRule a_firedTag a_row a_bound a_saved a_mine a_best a_bestTag a_bestBound := by
        intro hok hR5 d
        induction d with
        | zero =>
          intro k pat neg hk g1 g2
          have e : k = 3 := by omega
          subst e
          refine pk_le 3 3 (fun _ => ?_) (fun h => absurd h (by omega))
          refine And.intro (vp_in_nI (by omega) (by omega)) (nm_e (And.intro (vp_in_nI (by omega) (by omega)) (nm_e (nm_r (nI_1 R.length) ?_))))
          rw [nI_clamp (n := R.length) (by omega), h3]
          have hco : rx_CO D (3 * R.length) pat neg := by
            intro j q n hj
            have hl := (List.getElem?_eq_some_iff.mp hj).1
            obtain ⟨o1, o2, o3⟩ := hco0 j q n hj
            rw [(g1 j (by omega)).1, (g1 j (by omega)).2, o3, rm_b_nar]
            exact ⟨o1, o2, rfl⟩
          refine K ac _ hD0 rfl (by omega) hok hR5 ⟨hE, hl, ?_, rfl, h4, h5, ?_, fun k q n h => absurd h (by simp)⟩
          · rw [List.length_append]; rfl
          · intro r c hr
            by_cases er : r < R.length
            · rw [List.getElem?_append_left er] at hr
              obtain ⟨q1, q2⟩ := h6 r c hr
              exact ⟨rx_RU_c q1 (pk_un (by omega)) (fun k hk => (g2 _ (by omega)).1) (fun k hk => (g2 _ (by omega)).2), by rw [pk_un (by omega)]; exact q2⟩
            · rw [List.getElem?_append_right (by omega)] at hr
              have hl := (List.getElem?_eq_some_iff.mp hr).1
              have hl : r - R.length < 1 := hl
              have e2 : r = R.length := by omega
              subst e2
              rw [Nat.sub_self] at hr
              have hr : some (D, ac) = some c := hr
              cases hr
              exact ⟨⟨hR5, pk_us, hD, hco⟩, pk_us⟩
        | succ d ih =>
          intro k pat neg hk g1 g2
          refine pk_le 3 k (fun h => absurd h (by omega)) (fun _ => ?_)
          rw [rm_n3k]
          refine And.intro (vp_in_nI (by omega) (by omega)) (And.intro (vp_in_nI (by omega) (by omega)) (nm_e (And.intro (vp_in_nI (by omega) (by omega)) (And.intro (vp_in_nI (by omega) (by omega)) (nm_e (nm_r (nI_1 k) ?_))))))
          rw [nI_clamp (n := k) (by omega), nI_clamp (n := 3 * R.length + k) (by omega)]
          refine ih (k + 1) _ _ (by omega) (fun j hj => ?_) (fun m hm => ?_)
          · by_cases ej : j = k
            · subst ej; exact ⟨pk_us, pk_us⟩
            · rw [pk_un (by omega), pk_un (by omega)]; exact g1 j (by omega)
          · rw [pk_un (by omega), pk_un (by omega)]; exact g2 m hm
      have at75 : (1 ≤ ac → ac ≤ 3 → ac ≤ rm_np D) → wY_rule_75 post (nI ac) f_count f_lastTag f_drafted f_rules f_fired f_length f_bestRule f_bestLength a_tag a_type a_fields a_draftPattern a_draftNot a_size a_pattern a_not a_action a_firedRule a_firedTag a_row a_bound a_saved a_mine a_best a_bestTag a_bestBound := by
        intro hok
        refine pk_le R.length 4 (fun e => ?_) (fun e => K4 ac hD0 rfl (by omega) hok (by omega)) (hx := h2)
        rw [h2]
        have c := copy hok (by omega) 3 0 a_pattern a_not rfl (fun j hj => absurd hj (by omega)) (fun _ _ => ⟨rfl, rfl⟩)
        rw [h2] at c
        exact Exists.intro 4 c
      have hnl := rm_np_le D
      have at58 : wY_rule_58 post (nI ac) (nI (rm_np D)) f_count f_lastTag f_drafted f_rules f_fired f_length f_bestRule f_bestLength a_tag a_type a_fields a_draftPattern a_draftNot a_size a_pattern a_not a_action a_firedRule a_firedTag a_row a_bound a_saved a_mine a_best a_bestTag a_bestBound :=
        pk_le ac 0 (fun z => at75 (fun y => absurd y (by omega))) (fun z => pk_le 4 ac (fun y => at75 (fun _ w => absurd w (by omega))) (fun y => pk_le ac (rm_np D) (fun w => at75 (fun _ _ => w)) (fun w => K3 ac hD0 rfl (by omega) (by omega) (by omega) w)))
      have loop : ∀ d k, k + d = D.length → wY_rule_27 post (nI ac) f_count f_lastTag f_drafted f_rules f_fired f_length f_bestRule f_bestLength a_tag a_type a_fields a_draftPattern a_draftNot a_size a_pattern a_not a_action a_firedRule a_firedTag a_row a_bound a_saved a_mine a_best a_bestTag a_bestBound (d + 1) (nI (rm_np (D.take k))) (nI k) := by
        intro d
        induction d with
        | zero =>
          intro k hk
          have e : k = D.length := by omega
          subst e
          rw [List.take_length]
          exact pk_le D.length D.length (fun _ => at58) (fun h => absurd h (by omega)) (hx := h3)
        | succ d ih =>
          intro k hk
          have hlt : k < D.length := by omega
          rcases hdk : D[k] with ⟨q, n⟩
          have hg : D[k]? = some (q, n) := by rw [List.getElem?_eq_getElem hlt, hdk]
          have hs : rm_np (D.take (k + 1)) = rm_np (D.take k) + (if n then 0 else 1) := by
            rw [List.take_succ_eq_append_getElem hlt, hdk, rm_np_snoc]
          have ihk := ih (k + 1) (by omega)
          rw [hs] at ihk
          refine pk_le D.length k (fun h => absurd h (by omega)) (fun _ => pk_le 3 k (fun h => absurd h (by omega)) (fun _ => And.intro (vp_in_nI (by omega) (by omega)) ?_)) (hx := h3)
          rw [nI_clamp (n := k) (by omega), (hco0 k q n hg).2.2]
          refine rm_b_0 (fun e => ?_) (fun e => ?_)
          · subst e
            exact nm_r (nI_1 _) (nm_r (nI_1 k) ihk)
          · subst e
            exact nm_r (nI_1 k) ihk
      exact Exists.intro (D.length + 1) (loop D.length 0 (by omega))
    · exact br_f t1 (K2 hD0 (fun z => t1 z.2))
theorem rz_yopen {E : List rm_El} {R : List rm_Ru} {D : List rm_Cd} {F : List rm_FE} {L : Nat} (hY : rz_Y E R D F L (f_count, f_lastTag, f_drafted, f_rules, f_fired, f_length, f_bestRule, f_bestLength, a_tag, a_type, a_fields, a_draftPattern, a_draftNot, a_size, a_pattern, a_not, a_action, a_firedRule, a_firedTag, a_row, a_bound, a_saved, a_mine, a_best, a_bestTag, a_bestBound)) (hV : rm_RV R) (hF : F.length ≤ 40) {post : Int32 → SY → Prop}
    (K : ∀ v', rz_Y E R D F L v' → post (rm_ally E F R R.length).2.1 v') : wpY_open post (f_count, f_lastTag, f_drafted, f_rules, f_fired, f_length, f_bestRule, f_bestLength, a_tag, a_type, a_fields, a_draftPattern, a_draftNot, a_size, a_pattern, a_not, a_action, a_firedRule, a_firedTag, a_row, a_bound, a_saved, a_mine, a_best, a_bestTag, a_bestBound) := by
  unfold wpY_open
  exact rz_look hY hV hF (fun f_length' f_bestRule' f_bestLength' a_row' a_bound' a_saved' a_mine' a_best' a_bestTag' a_bestBound' hY' _ => K _ hY')
theorem rz_yfirstRule {E : List rm_El} {R : List rm_Ru} {D : List rm_Cd} {F : List rm_FE} {L : Nat} (hY : rz_Y E R D F L (f_count, f_lastTag, f_drafted, f_rules, f_fired, f_length, f_bestRule, f_bestLength, a_tag, a_type, a_fields, a_draftPattern, a_draftNot, a_size, a_pattern, a_not, a_action, a_firedRule, a_firedTag, a_row, a_bound, a_saved, a_mine, a_best, a_bestTag, a_bestBound)) (hV : rm_RV R) (hF : F.length ≤ 40) {post : Int32 → SY → Prop}
    (K : ∀ v', rz_Y E R D F L v' → post (rm_br (rm_ally E F R R.length).2.2) v') : wpY_firstRule post (f_count, f_lastTag, f_drafted, f_rules, f_fired, f_length, f_bestRule, f_bestLength, a_tag, a_type, a_fields, a_draftPattern, a_draftNot, a_size, a_pattern, a_not, a_action, a_firedRule, a_firedTag, a_row, a_bound, a_saved, a_mine, a_best, a_bestTag, a_bestBound) := by
  unfold wpY_firstRule
  refine rz_look hY hV hF (fun f_length' f_bestRule' f_bestLength' a_row' a_bound' a_saved' a_mine' a_best' a_bestTag' a_bestBound' hY' hA' => ?_)
  have k := K _ hY'
  have e : f_bestRule' = rm_br (rm_ally E F R R.length).2.2 := by
    cases hw : (rm_ally E F R R.length).2.2 with
    | none => rw [hw] at hA'; exact hA'
    | some w => rw [hw] at hA'; exact hA'.1
  rw [← e] at k
  exact k
theorem rz_yfirstTag {E : List rm_El} {R : List rm_Ru} {D : List rm_Cd} {F : List rm_FE} {L : Nat} (hY : rz_Y E R D F L (f_count, f_lastTag, f_drafted, f_rules, f_fired, f_length, f_bestRule, f_bestLength, a_tag, a_type, a_fields, a_draftPattern, a_draftNot, a_size, a_pattern, a_not, a_action, a_firedRule, a_firedTag, a_row, a_bound, a_saved, a_mine, a_best, a_bestTag, a_bestBound)) (hV : rm_RV R) (hF : F.length ≤ 40) {p : Int32} {post : Int32 → SY → Prop}
    (K : ∀ v', rz_Y E R D F L v' → post (rm_bk (rm_ally E F R R.length).2.2 p) v') : wpY_firstTag post (f_count, f_lastTag, f_drafted, f_rules, f_fired, f_length, f_bestRule, f_bestLength, a_tag, a_type, a_fields, a_draftPattern, a_draftNot, a_size, a_pattern, a_not, a_action, a_firedRule, a_firedTag, a_row, a_bound, a_saved, a_mine, a_best, a_bestTag, a_bestBound) p := by
  unfold wpY_firstTag
  refine rz_look hY hV hF (fun f_length' f_bestRule' f_bestLength' a_row' a_bound' a_saved' a_mine' a_best' a_bestTag' a_bestBound' hY' hA' => ?_)
  have k := K _ hY'
  cases hw : (rm_ally E F R R.length).2.2 with
  | none =>
    rw [hw] at hA' k
    have hA' : f_bestRule' = -1 := hA'
    exact br_f (by rw [hA']; decide) k
  | some w =>
    rw [hw] at hA' k
    obtain ⟨w1, w2, w3, w4, w5, w6, w7, w8⟩ := hA'
    refine br_t (by rw [w1]; exact nI_pos' (by omega)) ?_
    unfold rm_bk at k
    dsimp only at k
    by_cases t0 : p < 0
    · rw [if_neg (fun z => absurd t0 (Int32.not_lt.mpr z.1))] at k
      exact br_t t0 k
    · refine br_f t0 ?_
      by_cases t1 : f_bestLength' ≤ p
      · rw [if_neg (fun z => absurd z.2 (by rw [← w3]; exact Int32.not_lt.mpr t1))] at k
        exact br_t t1 k
      · obtain ⟨j, hj, rfl⟩ := nI_of t0
        have t2 : nI j < nI w.2.1.length := by rw [← w3]; exact Int32.not_le.mp t1
        have hjl : j < w.2.1.length := (nI_ltI hj (by omega)).mp t2
        rw [if_pos ⟨nI_pos' hj, t2⟩, nI_clamp hj] at k
        refine br_f t1 (pk_le j 2 (fun _ => And.intro (vp_in_nI (by omega) (by omega)) ?_) (fun h => absurd h (by omega)))
        rw [nI_clamp hj, w6 j (by omega)]
        exact k
theorem rz_ymatches {E : List rm_El} {R : List rm_Ru} {D : List rm_Cd} {F : List rm_FE} {L : Nat} (hY : rz_Y E R D F L (f_count, f_lastTag, f_drafted, f_rules, f_fired, f_length, f_bestRule, f_bestLength, a_tag, a_type, a_fields, a_draftPattern, a_draftNot, a_size, a_pattern, a_not, a_action, a_firedRule, a_firedTag, a_row, a_bound, a_saved, a_mine, a_best, a_bestTag, a_bestBound)) (hV : rm_RV R) (F0 : List rm_FE) (a : rm_Ac) (ha : a.1 = 0) {p : Int32} {post : Int32 → SY → Prop}
    (K0 : ¬ (0 ≤ p ∧ p < nI R.length) → post (-1) (f_count, f_lastTag, f_drafted, f_rules, f_fired, f_length, f_bestRule, f_bestLength, a_tag, a_type, a_fields, a_draftPattern, a_draftNot, a_size, a_pattern, a_not, a_action, a_firedRule, a_firedTag, a_row, a_bound, a_saved, a_mine, a_best, a_bestTag, a_bestBound)) (K1 : ∀ r c v', p = nI r → R[r]? = some c → rz_Y E R D F L v' → post (rm_ay F0 r (rm_im E c.1 (fun _ => none) []) a (12 ^ rm_np c.1)).1 v') : wpY_matches post (f_count, f_lastTag, f_drafted, f_rules, f_fired, f_length, f_bestRule, f_bestLength, a_tag, a_type, a_fields, a_draftPattern, a_draftNot, a_size, a_pattern, a_not, a_action, a_firedRule, a_firedTag, a_row, a_bound, a_saved, a_mine, a_best, a_bestTag, a_bestBound) p := by
  have hY0 := hY
  obtain ⟨hE, hl, h2, h3, h4, h5, h6, h7⟩ := hY
  have hR5 := hV.1
  by_cases t0 : p < 0
  · exact br_t t0 (K0 (fun z => absurd t0 (Int32.not_lt.mpr z.1)))
  · refine br_f t0 ?_
    obtain ⟨r, hr, rfl⟩ := nI_of t0
    refine pk_le R.length r (fun hge => K0 (fun z => nI_nlt hge hr z.2)) (fun hlt => pk_le r 4 (fun _ => ?_) (fun h => absurd h (by omega))) (hx := h2)
    have hg : R[r]? = some R[r] := List.getElem?_eq_getElem hlt
    have hv := hV.2 R[r] (List.getElem_mem hlt)
    refine ry_rows (h6 r _ hg).1 hv.1 (Exists.intro (12 ^ rm_np R[r].1 + 1) ?_)
    have k1 := fun v' => K1 r R[r] v' rfl hg
    have hU := (h6 r _ hg).1
    have hnl := rm_np_le R[r].1
    have hpow : 12 ^ rm_np R[r].1 ≤ 1728 := by
      have hc : rm_np R[r].1 = 1 ∨ rm_np R[r].1 = 2 ∨ rm_np R[r].1 = 3 := by
        have := hv.1
        have := hv.2.1
        omega
      rcases hc with e | e | e <;> rw [e] <;> decide
    generalize 12 ^ rm_np R[r].1 = P at *
    have loop : ∀ d c (f_length' : Int32) (a_row' a_bound' a_saved' : Nat → Int32), c + d = P → wY_matches_30 post (nI r) (nI P) (d + 1) (rm_ay F0 r (rm_im E R[r].1 (fun _ => none) []) a c).1 (nI c) f_count f_lastTag f_drafted f_rules f_fired f_length' f_bestRule f_bestLength a_tag a_type a_fields a_draftPattern a_draftNot a_size a_pattern a_not a_action a_firedRule a_firedTag a_row' a_bound' a_saved' a_mine a_best a_bestTag a_bestBound := by
      intro d
      induction d with
      | zero =>
        intro c f_length' a_row' a_bound' a_saved' hc
        have e : c = P := by omega
        subst e
        exact pk_le c c (fun _ => k1 _ ⟨hE, hl, h2, h3, h4, h5, h6, h7⟩) (fun h => absurd h (by omega))
      | succ d ih =>
        intro c f_length' a_row' a_bound' a_saved' hc
        refine pk_le P c (fun h => absurd h (by omega)) (fun _ => ?_)
        refine ry_isMatch hE hU (by omega) ?_
        cases him : rm_im E R[r].1 (fun _ => none) [] c with
        | none =>
          intro f_length'' a_row'' a_bound'' a_saved''
          refine br_t rfl (nm_r (nI_1 c) ?_)
          have k := ih (c + 1) f_length'' a_row'' a_bound'' a_saved'' (by omega)
          rw [rm_ay_n him] at k
          exact k
        | some m =>
          intro f_length'' a_row'' a_bound'' a_saved'' _ _ _ _
          have k := ih (c + 1) f_length'' a_row'' a_bound'' a_saved'' (by omega)
          rw [rm_ay_s him, rm_nt_1] at k
          exact br_f (by decide) (nm_e (nm_r (nI_1 c) k))
    have k := loop P 0 f_length a_row a_bound a_saved (by omega)
    rw [rm_ay_0, ha] at k
    exact k
theorem rz_yfitting {E : List rm_El} {R : List rm_Ru} {D : List rm_Cd} {F : List rm_FE} {L : Nat} (hY : rz_Y E R D F L (f_count, f_lastTag, f_drafted, f_rules, f_fired, f_length, f_bestRule, f_bestLength, a_tag, a_type, a_fields, a_draftPattern, a_draftNot, a_size, a_pattern, a_not, a_action, a_firedRule, a_firedTag, a_row, a_bound, a_saved, a_mine, a_best, a_bestTag, a_bestBound)) {p : Int32} {post : Int32 → SY → Prop}
    (K0 : ¬ (0 ≤ p ∧ p ≤ 31999) → post (-1) (f_count, f_lastTag, f_drafted, f_rules, f_fired, f_length, f_bestRule, f_bestLength, a_tag, a_type, a_fields, a_draftPattern, a_draftNot, a_size, a_pattern, a_not, a_action, a_firedRule, a_firedTag, a_row, a_bound, a_saved, a_mine, a_best, a_bestTag, a_bestBound)) (K1 : ∀ q v', p = nI q → q < 32000 → rz_Y E R D F L v' → post (nI (E.countP (rm_ft q (fun _ => none)))) v') : wpY_fitting post (f_count, f_lastTag, f_drafted, f_rules, f_fired, f_length, f_bestRule, f_bestLength, a_tag, a_type, a_fields, a_draftPattern, a_draftNot, a_size, a_pattern, a_not, a_action, a_firedRule, a_firedTag, a_row, a_bound, a_saved, a_mine, a_best, a_bestTag, a_bestBound) p := by
  obtain ⟨hE, hl, h2, h3, h4, h5, h6, h7⟩ := hY
  have h12 := hE.2.1
  unfold wpY_fitting
  refine ry_bad (fun z => br_f (by decide) (K0 z)) (fun q hq0 hq => br_t rfl ?_)
  subst hq0
  have inner : ∀ e j bd sv, j + e = E.length → ry_BD (fun _ => none) bd → wY_fitting_34 post (nI q) (e + 1) (nI ((E.take j).countP (rm_ft q (fun _ => none)))) (nI j) f_count f_lastTag f_drafted f_rules f_fired f_length f_bestRule f_bestLength a_tag a_type a_fields a_draftPattern a_draftNot a_size a_pattern a_not a_action a_firedRule a_firedTag a_row bd sv a_mine a_best a_bestTag a_bestBound := by
    intro e
    induction e with
    | zero =>
      intro j bd sv hj hb
      have e : j = E.length := by omega
      subst e
      rw [List.take_length]
      exact pk_le E.length E.length (fun _ => K1 q _ rfl hq ⟨hE, hl, h2, h3, h4, h5, h6, h7⟩) (fun h => absurd h (by omega)) (hx := hE.1)
    | succ e ih =>
      intro j bd sv hj hb
      have hlt : j < E.length := by omega
      have hg : E[j]? = some E[j] := List.getElem?_eq_getElem hlt
      refine pk_le E.length j (fun h => absurd h (by omega)) (fun _ => pk_le 12 j (fun h => absurd h (by omega)) (fun _ => ?_)) (hx := hE.1)
      refine ry_fits (keep := false) hE hq hg rm_okb0 hb (fun bd' sv' hb' => ?_)
      have k := ih (j + 1) bd' sv' (by omega) hb'
      rw [List.take_succ_eq_append_getElem hlt, List.countP_append] at k
      refine rm_b_0 (fun z => ?_) (fun z => ?_)
      · rw [List.countP_cons_of_neg (by rw [z]; simp)] at k
        exact nm_r (nI_1 j) k
      · rw [List.countP_cons_of_pos z] at k
        exact nm_r (nI_1 _) (nm_r (nI_1 j) k)
  have loop : ∀ d k bd, k + d = 3 → (∀ v, v < k → bd v = -1) → wY_fitting_12 post (nI q) f_count f_lastTag f_drafted f_rules f_fired f_length f_bestRule f_bestLength (d + 1) (nI k) a_tag a_type a_fields a_draftPattern a_draftNot a_size a_pattern a_not a_action a_firedRule a_firedTag a_row bd a_saved a_mine a_best a_bestTag a_bestBound := by
    intro d
    induction d with
    | zero =>
      intro k bd hk h
      have e : k = 3 := by omega
      subst e
      exact pk_le 3 3 (fun _ => Exists.intro (E.length + 1) (inner E.length 0 bd a_saved (by omega) h)) (fun h => absurd h (by omega))
    | succ d ih =>
      intro k bd hk h
      refine pk_le 3 k (fun h => absurd h (by omega)) (fun _ => And.intro (vp_in_nI (by omega) (by omega)) (nm_e (nm_r (nI_1 k) ?_)))
      rw [nI_clamp (n := k) (by omega)]
      refine ih (k + 1) _ (by omega) (fun v hv => ?_)
      by_cases e : v = k
      · subst e; exact pk_us
      · rw [pk_un e]; exact h v (by omega)
  exact Exists.intro 4 (loop 3 0 a_bound rfl (fun v hv => absurd hv (by omega)))
end
end
section
/-! ===== the two abstract states ===== -/
def rz_P (B : Nat) (cell : Nat → Option rm_El) (E : List rm_El) (R : List rm_Ru) (D : List rm_Cd) (FX FY : List rm_FE) (L : Nat) : Prop :=
  List.Perm (rm_ce cell) E ∧ (E.map (fun e => e.1)).Nodup ∧ (∀ e, e ∈ E → 0 < e.1.toInt ∧ e.1.toInt ≤ L) ∧ rm_RV R ∧ D.length ≤ 3 ∧ (D.length ≠ 0 → 1 ≤ rm_np D) ∧ FX = FY.filter (rm_al E) ∧ FY.length ≤ 40 ∧ rm_FS R FY ∧ (∀ f, f ∈ FY → ∀ k, k < 3 → (rm_tk f k).toInt ≤ L) ∧ L ≤ B
theorem rm_filt_c {α : Type} {p q : α → Bool} : ∀ (l : List α), (∀ x, x ∈ l → p x = q x) → l.filter p = l.filter q
  | [], _ => rfl
  | a :: l, h => by
    rw [List.filter_cons, List.filter_cons, h a List.mem_cons_self, rm_filt_c l (fun x hx => h x (List.mem_cons_of_mem _ hx))]
theorem rm_filt_id {α : Type} {p : α → Bool} (l : List α) (h : ∀ x, x ∈ l → p x = true) : l.filter p = l := by
  rw [List.filter_eq_self]
  exact h
theorem rm_free {cell : Nat → Option rm_El} : ∀ n, (∀ c, c < n → cell c ≠ none) → ((List.range n).filterMap cell).length = n
  | 0, _ => rfl
  | n + 1, h => by
    rw [List.range_succ, List.filterMap_append, List.length_append, rm_free n (fun c hc => h c (by omega))]
    cases hc : cell n with
    | none => exact absurd hc (h n (by omega))
    | some x => rw [List.filterMap_cons_some hc]; rfl
theorem rm_free' {cell : Nat → Option rm_El} {E : List rm_El} (p : List.Perm (rm_ce cell) E) (h : E.length < 12) : ∃ c, c < 12 ∧ cell c = none := by
  apply Classical.byContradiction
  intro hn
  have h2 := rm_free (cell := cell) 12 (fun c hc hz => hn ⟨c, hc, hz⟩)
  have h3 := p.length_eq
  unfold rm_ce at h3
  omega
theorem rm_idx : ∀ {E : List rm_El}, (E.map (fun e => e.1)).Nodup → ∀ (i j : Nat) (x y : rm_El), E[i]? = some x → E[j]? = some y → x.1 = y.1 → i = j
  | [], _, i, j, x, y, h1, _, _ => absurd h1 (by simp)
  | e :: E, h, 0, 0, x, y, _, _, _ => rfl
  | e :: E, h, 0, j + 1, x, y, h1, h2, h3 => by
    rw [List.map_cons, List.nodup_cons] at h
    have h1 : some e = some x := h1
    cases h1
    have h2 : E[j]? = some y := h2
    exact absurd (List.mem_map.mpr ⟨y, List.mem_of_getElem? h2, h3.symm⟩) h.1
  | e :: E, h, i + 1, 0, x, y, h1, h2, h3 => by
    rw [List.map_cons, List.nodup_cons] at h
    have h2 : some e = some y := h2
    cases h2
    have h1 : E[i]? = some x := h1
    exact absurd (List.mem_map.mpr ⟨x, List.mem_of_getElem? h1, h3⟩) h.1
  | e :: E, h, i + 1, j + 1, x, y, h1, h2, h3 => by
    rw [List.map_cons, List.nodup_cons] at h
    have h1 : E[i]? = some x := h1
    have h2 : E[j]? = some y := h2
    rw [rm_idx h.2 i j x y h1 h2 h3]
theorem rm_erase_perm : ∀ (E : List rm_El) (j : Nat) (x : rm_El), E[j]? = some x → List.Perm E (x :: E.eraseIdx j)
  | [], j, x, h => absurd h (by simp)
  | e :: E, 0, x, h => by
    have h : some e = some x := h
    cases h
    exact List.Perm.refl _
  | e :: E, j + 1, x, h => by
    have h : E[j]? = some x := h
    have ih := rm_erase_perm E j x h
    show List.Perm (e :: E) (x :: e :: E.eraseIdx j)
    exact (List.Perm.cons e ih).trans (List.Perm.swap x e _)
theorem rm_a0_live {E : List rm_El} {t : List Int32} (h : ∀ x, x ∈ t → ∃ e, e ∈ E ∧ e.1 = x) (k : Nat) : rm_a0 E (rm_g t k) = true := by
  unfold rm_a0
  by_cases hk : k < t.length
  · obtain ⟨e, h1, h2⟩ := h _ (List.getElem_mem hk)
    rw [rm_g_lt hk]
    have : E.any (fun x => decide (x.1 = t[k])) = true := by
      rw [List.any_eq_true]
      exact ⟨e, h1, decide_eq_true h2⟩
    rw [this, Bool.or_true]
  · rw [rm_g_ge (by omega), decide_eq_true (by decide), Bool.true_or]
theorem rm_al_live {E : List rm_El} {t : List Int32} (h : ∀ x, x ∈ t → ∃ e, e ∈ E ∧ e.1 = x) (r : Int32) : rm_al E (r, rm_g t 0, rm_g t 1, rm_g t 2) = true := by
  unfold rm_al
  show (rm_a0 E (rm_g t 0) && (rm_a0 E (rm_g t 1) && rm_a0 E (rm_g t 2))) = true
  rw [rm_a0_live h, rm_a0_live h, rm_a0_live h]
  rfl
theorem rm_fold_inv {F : List rm_FE} {r : Nat} (Q : Nat × List Int32 × rm_As → Prop) : ∀ (l : List rm_It) (a : rm_Ac), (∀ m, m ∈ l → Q (r, m)) → (∀ w, a.2.2 = some w → Q w) → ∀ w, (l.foldl (rm_nt F r) a).2.2 = some w → Q w
  | [], _, _, h => h
  | m :: l, a, h1, h2 => by
    rw [List.foldl_cons]
    refine rm_fold_inv Q l _ (fun m' hm' => h1 m' (List.mem_cons_of_mem _ hm')) ?_
    intro w hw
    unfold rm_nt at hw
    split at hw
    · exact h2 w hw
    · have hw : rm_up a.2.2 r m = some w := hw
      unfold rm_up at hw
      split at hw
      · cases hw; exact h1 m List.mem_cons_self
      · rename_i z hz
        split at hw
        · cases hw; exact h1 m List.mem_cons_self
        · cases hw; exact h2 _ hz
theorem rm_all_wf {E : List rm_El} {F : List rm_FE} {R : List rm_Ru} : ∀ n w, (rm_all E F R n).2.2 = some w → ∃ c, R[w.1]? = some c ∧ w.2.1.length = rm_np c.1 ∧ ∀ x, x ∈ w.2.1 → ∃ e, e ∈ E ∧ e.1 = x
  | 0, w, h => absurd h (by unfold rm_all; simp)
  | n + 1, w, h => by
    cases hR : R[n]? with
    | none =>
      rw [rm_all, hR] at h
      exact rm_all_wf n w h
    | some c =>
      rw [rm_all_s hR] at h
      refine rm_fold_inv (fun w => ∃ c, R[w.1]? = some c ∧ w.2.1.length = rm_np c.1 ∧ ∀ x, x ∈ w.2.1 → ∃ e, e ∈ E ∧ e.1 = x) _ _ (fun m hm => ?_) (rm_all_wf n) w h
      obtain ⟨s, s1, s2, s3⟩ := rm_mem_mt c.1 _ _ m hm
      rw [List.nil_append] at s1
      refine ⟨c, hR, ?_, ?_⟩
      · show m.1.length = _
        rw [s1]; exact s2
      · intro x hx
        have hx : x ∈ m.1 := hx
        rw [s1] at hx
        exact s3 x hx
theorem rm_all_eq {cell : Nat → Option rm_El} {E : List rm_El} {FX FY : List rm_FE} {R : List rm_Ru} (p : List.Perm (rm_ce cell) E) (h12 : E.length ≤ 12) (inj : rm_inj E) (hF : FX = FY.filter (rm_al E)) (hV : rm_RV R) : ∀ n, rm_all (rm_ce cell) FX R n = rm_ally E FY R n
  | 0 => rfl
  | n + 1 => by
    cases hR : R[n]? with
    | none => rw [rm_all, rm_ally, hR]; exact rm_all_eq p h12 inj hF hV n
    | some c =>
      have hv := hV.2 c (List.mem_of_getElem? hR)
      have hnl := rm_np_le c.1
      rw [rm_all_s hR, rm_ally_s hR, rm_all_eq p h12 inj hF hV n, rm_fold p h12 inj FX n c.1 (by omega)]
      unfold rm_ay
      apply rm_foldc
      intro m hm
      have hm2 := (rm_im_perm h12 c.1 (fun _ => none) []).mem_iff.mp hm
      obtain ⟨s, s1, s2, s3⟩ := rm_mem_mt c.1 _ _ m hm2
      rw [List.nil_append] at s1
      unfold rm_hf
      rw [decide_eq_decide, hF, List.mem_filter]
      refine ⟨fun z => z.1, fun z => ⟨z, rm_al_live (fun x hx => ?_) _⟩⟩
      rw [s1] at hx
      exact s3 x hx
theorem rm_mem_E {cell : Nat → Option rm_El} {E : List rm_El} (p : List.Perm (rm_ce cell) E) (hc : ∀ c x, cell c = some x → c < 12) {x : rm_El} : x ∈ E ↔ ∃ c, cell c = some x := by
  rw [← p.mem_iff]
  exact rm_ce_mem hc
theorem rz_P_add {B : Nat} {cell : Nat → Option rm_El} {E : List rm_El} {R : List rm_Ru} {D : List rm_Cd} {FX FY : List rm_FE} {L : Nat} (hP : rz_P B cell E R D FX FY L) (hB : B < 2147483000) {c y x : Nat} (hc : c < 12) (h0 : cell c = none) :
    rz_P (B + 1) (rm_cu cell c (some (nI (L + 1), y, x))) (E ++ [(nI (L + 1), y, x)]) R D FX FY (L + 1) := by
  obtain ⟨p1, p2, p3, p4, p5, p6, p7, p8, p9, p10, p11⟩ := hP
  have hT : (nI (L + 1)).toInt = ((L + 1 : Nat) : Int) := nI_toInt (by omega)
  refine ⟨?_, ?_, ?_, p4, p5, p6, ?_, p8, p9, ?_, by omega⟩
  · refine (rm_ce_put (nI (L + 1), y, x) h0 12 hc).trans ?_
    exact (List.Perm.cons _ p1).trans (List.perm_append_singleton _ _).symm
  · rw [List.map_append, List.map_cons, List.map_nil]
    have q : List.Perm (List.map (fun e => e.1) E ++ [nI (L + 1)]) (nI (L + 1) :: List.map (fun e => e.1) E) := List.perm_append_singleton _ _
    rw [q.nodup_iff, List.nodup_cons]
    refine ⟨?_, p2⟩
    intro hm
    obtain ⟨e, h1, h2⟩ := List.mem_map.mp hm
    have h3 := (p3 e h1).2
    have h2 : e.1 = nI (L + 1) := h2
    rw [h2, hT] at h3
    omega
  · intro e he
    rw [List.mem_append, List.mem_singleton] at he
    rcases he with he | he
    · have := p3 e he; omega
    · subst he
      show 0 < (nI (L + 1)).toInt ∧ (nI (L + 1)).toInt ≤ _
      rw [hT]; omega
  · rw [p7]
    apply rm_filt_c
    intro f hf
    have key : ∀ k, k < 3 → rm_a0 E (rm_tk f k) = rm_a0 (E ++ [(nI (L + 1), y, x)]) (rm_tk f k) := by
      intro k hk
      unfold rm_a0
      rw [List.any_append]
      have h3 := p10 f hf k hk
      have e : List.any [(nI (L + 1), y, x)] (fun x => decide (x.1 = rm_tk f k)) = false := by
        rw [List.any_cons, List.any_nil, Bool.or_false]
        apply decide_eq_false
        intro z
        have z : nI (L + 1) = rm_tk f k := z
        rw [← z, hT] at h3
        omega
      rw [e, Bool.or_false]
    unfold rm_al
    have k0 := key 0 (by omega)
    have k1 := key 1 (by omega)
    have k2 := key 2 (by omega)
    have k0 : rm_a0 E f.2.1 = rm_a0 (E ++ [(nI (L + 1), y, x)]) f.2.1 := k0
    have k1 : rm_a0 E f.2.2.1 = rm_a0 (E ++ [(nI (L + 1), y, x)]) f.2.2.1 := k1
    have k2 : rm_a0 E f.2.2.2 = rm_a0 (E ++ [(nI (L + 1), y, x)]) f.2.2.2 := k2
    rw [k0, k1, k2]
  · intro f hf k hk
    have := p10 f hf k hk
    omega
theorem rm_a0_erase {E : List rm_El} (nd : (E.map (fun e => e.1)).Nodup) (hpos : ∀ e, e ∈ E → 0 < e.1.toInt) {j : Nat} {x : rm_El} (hj : E[j]? = some x) (s : Int32) : rm_a0 (E.eraseIdx j) s = (rm_a0 E s && !decide (s = x.1)) := by
  have q := rm_erase_perm E j x hj
  have nd2 := (List.Perm.map (fun e : rm_El => e.1) q).nodup_iff.mp nd
  rw [List.map_cons, List.nodup_cons] at nd2
  have hx := hpos x (List.mem_of_getElem? hj)
  unfold rm_a0
  by_cases hs : s ≤ 0
  · rw [decide_eq_true hs, Bool.true_or, Bool.true_or]
    have : ¬ s = x.1 := by
      intro z
      rw [z, Int32.le_iff_toInt_le] at hs
      have e0 : (0 : Int32).toInt = 0 := by decide
      omega
    rw [decide_eq_false this]; rfl
  · rw [decide_eq_false hs, Bool.false_or, Bool.false_or]
    rw [q.any_eq, List.any_cons]
    by_cases hsx : s = x.1
    · subst hsx
      rw [decide_eq_true rfl]
      have : (E.eraseIdx j).any (fun y => decide (y.1 = x.1)) = false := by
        rw [List.any_eq_false]
        intro y hy
        have : ¬ y.1 = x.1 := fun z => nd2.1 (List.mem_map.mpr ⟨y, hy, z⟩)
        rw [decide_eq_false this]; simp
      rw [this]; rfl
    · rw [decide_eq_false (fun z => hsx z.symm), decide_eq_false hsx, Bool.false_or]
      simp
theorem rz_P_del {B : Nat} {cell : Nat → Option rm_El} {E : List rm_El} {R : List rm_Ru} {D : List rm_Cd} {FX FY : List rm_FE} {L : Nat} (hP : rz_P B cell E R D FX FY L) {i j : Nat} {x : rm_El} (hi12 : i < 12) (hi : cell i = some x) (hj : E[j]? = some x) :
    rz_P B (rm_cu cell i none) (E.eraseIdx j) R D (FX.filter (rm_nh x.1)) FY L := by
  obtain ⟨p1, p2, p3, p4, p5, p6, p7, p8, p9, p10, p11⟩ := hP
  have q := rm_erase_perm E j x hj
  have nd2 := (List.Perm.map (fun e : rm_El => e.1) q).nodup_iff.mp p2
  rw [List.map_cons, List.nodup_cons] at nd2
  refine ⟨?_, nd2.2, fun e he => p3 e (List.mem_of_mem_eraseIdx he), p4, p5, p6, ?_, p8, p9, p10, p11⟩
  · have q2 := rm_ce_put (cell := rm_cu cell i none) x (rm_cu_s _ _ _) 12 hi12
    rw [rm_cu_back hi] at q2
    exact List.Perm.cons_inv (q2.symm.trans (p1.trans q))
  · rw [p7, List.filter_filter]
    apply rm_filt_c
    intro f _
    unfold rm_al rm_nh
    have e := rm_a0_erase p2 (fun e he => (p3 e he).1) hj
    rw [e, e, e]
    cases decide (f.2.1 = x.1) <;> cases decide (f.2.2.1 = x.1) <;> cases decide (f.2.2.2 = x.1) <;> cases rm_a0 E f.2.1 <;> cases rm_a0 E f.2.2.1 <;> cases rm_a0 E f.2.2.2 <;> rfl
theorem rz_P_forget {B : Nat} {cell : Nat → Option rm_El} {E : List rm_El} {R : List rm_Ru} {D : List rm_Cd} {FX FY : List rm_FE} {L : Nat} (hP : rz_P B cell E R D FX FY L) : rz_P B cell E R D FX (FY.filter (rm_al E)) L := by
  obtain ⟨p1, p2, p3, p4, p5, p6, p7, p8, p9, p10, p11⟩ := hP
  refine ⟨p1, p2, p3, p4, p5, p6, ?_, Nat.le_trans (List.length_filter_le _ _) p8, fun f hf => p9 f (List.mem_filter.mp hf).1, fun f hf => p10 f (List.mem_filter.mp hf).1, p11⟩
  rw [rm_filt_id _ (fun f hf => (List.mem_filter.mp hf).2)]
  exact p7
theorem rz_P_fire {B : Nat} {cell : Nat → Option rm_El} {E : List rm_El} {R : List rm_Ru} {D : List rm_Cd} {FX FY : List rm_FE} {L : Nat} (hP : rz_P B cell E R D FX FY L) {r : Nat} {t : List Int32} {c : rm_Ru} (hR : R[r]? = some c) (hl : t.length = rm_np c.1) (ht : ∀ x, x ∈ t → ∃ e, e ∈ E ∧ e.1 = x) (h40 : FX.length < 40) :
    rz_P B cell E R D (FX ++ [(nI r, rm_g t 0, rm_g t 1, rm_g t 2)]) (FY.filter (rm_al E) ++ [(nI r, rm_g t 0, rm_g t 1, rm_g t 2)]) L := by
  obtain ⟨p1, p2, p3, p4, p5, p6, p7, p8, p9, p10, p11⟩ := hP
  have htk : ∀ k, k < 3 → rm_tk (nI r, rm_g t 0, rm_g t 1, rm_g t 2) k = rm_g t k := by
    intro k hk
    have hk : k = 0 ∨ k = 1 ∨ k = 2 := by omega
    rcases hk with rfl | rfl | rfl <;> rfl
  refine ⟨p1, p2, p3, p4, p5, p6, ?_, ?_, ?_, ?_, p11⟩
  · rw [rm_filt_id]
    · rw [p7]
    · intro f hf
      rw [List.mem_append, List.mem_singleton] at hf
      rcases hf with hf | hf
      · exact (List.mem_filter.mp hf).2
      · rw [hf]; exact rm_al_live ht _
  · rw [← p7, List.length_append]
    show FX.length + 1 ≤ 40
    omega
  · intro f hf
    rw [List.mem_append, List.mem_singleton] at hf
    rcases hf with hf | hf
    · exact p9 f (List.mem_filter.mp hf).1
    · subst hf
      refine ⟨r, c, hR, rfl, fun k hk h3 => ?_⟩
      rw [htk k h3]
      exact rm_g_ge (by omega)
  · intro f hf k hk
    rw [List.mem_append, List.mem_singleton] at hf
    rcases hf with hf | hf
    · exact p10 f (List.mem_filter.mp hf).1 k hk
    · subst hf
      rw [htk k hk]
      by_cases hkt : k < t.length
      · obtain ⟨e, e1, e2⟩ := ht _ (List.getElem_mem hkt)
        rw [rm_g_lt hkt, ← e2]
        exact (p3 e e1).2
      · rw [rm_g_ge (by omega)]
        have e0 : (0 : Int32).toInt = 0 := by decide
        omega
theorem rz_P_mono {B B' : Nat} {cell : Nat → Option rm_El} {E : List rm_El} {R : List rm_Ru} {D : List rm_Cd} {FX FY : List rm_FE} {L : Nat} (hP : rz_P B cell E R D FX FY L) (h : B ≤ B') : rz_P B' cell E R D FX FY L := by
  obtain ⟨p1, p2, p3, p4, p5, p6, p7, p8, p9, p10, p11⟩ := hP
  exact ⟨p1, p2, p3, p4, p5, p6, p7, p8, p9, p10, by omega⟩
end
section
/-! ===== fire on both sides ===== -/
theorem rz_P_12 {B : Nat} {cell : Nat → Option rm_El} {E : List rm_El} {R : List rm_Ru} {D : List rm_Cd} {FX FY : List rm_FE} {L : Nat} (hP : rz_P B cell E R D FX FY L) : E.length ≤ 12 := by
  have h := hP.1.length_eq
  have h2 : (rm_ce cell).length ≤ (List.range 12).length := List.length_filterMap_le _ _
  rw [List.length_range] at h2
  omega
theorem rz_P_FX {B : Nat} {cell : Nat → Option rm_El} {E : List rm_El} {R : List rm_Ru} {D : List rm_Cd} {FX FY : List rm_FE} {L : Nat} (hP : rz_P B cell E R D FX FY L) : FX.length ≤ 40 ∧ rm_FS R FX := by
  obtain ⟨p1, p2, p3, p4, p5, p6, p7, p8, p9, p10, p11⟩ := hP
  refine ⟨?_, fun f hf => ?_⟩
  · rw [p7]; exact Nat.le_trans (List.length_filter_le _ _) p8
  · rw [p7] at hf; exact p9 f (List.mem_filter.mp hf).1
theorem rz_P_eq {B : Nat} {cell : Nat → Option rm_El} {E : List rm_El} {R : List rm_Ru} {D : List rm_Cd} {FX FY : List rm_FE} {L : Nat} (hP : rz_P B cell E R D FX FY L) : rm_ally E FY R R.length = rm_all (rm_ce cell) FX R R.length := by
  have h12 := rz_P_12 hP
  obtain ⟨p1, p2, p3, p4, p5, p6, p7, p8, p9, p10, p11⟩ := hP
  exact (rm_all_eq p1 h12 (rm_inj_nd p2) p7 p4 R.length).symm
theorem rz_fireJ {B : Nat} {cell : Nat → Option rm_El} {E : List rm_El} {R : List rm_Ru} {D : List rm_Cd} {FX FY : List rm_FE} {L : Nat} (hP : rz_P B cell E R D FX FY L) (hB : B < 2147483000) {u : SX} (hX : rz_X cell E.length R D FX L u) {Q : Int32 → SX → Prop}
    (K : ∀ r u' cell' E' FX' FY' L', rz_P (B + 1) cell' E' R D FX' FY' L' → rz_X cell' E'.length R D FX' L' u' → (r = -1 ∨ r = -2 ∨ ∃ i, i < 5 ∧ r = nI i) →
      (∀ v, rz_Y E R D FY L v → ∀ post : Int32 → SY → Prop, (∀ v', rz_Y E' R D FY' L' v' → post r v') → wpY_shoot post v) → Q r u') : wpX_fire Q u := by
  obtain ⟨f_used, f_count, f_lastTag, f_ruleCount, f_draftSize, f_firedCount, f_bestRule, f_rowSize, f_bestSize, f_total, f_openTotal, a_tags, a_types, a_fields, a_ofType, a_ofValue, a_sizes, a_patterns, a_negative, a_actions, a_firedRule, a_firedTags, a_bound, a_candidates, a_chosen, a_row, a_bestRow, a_bestBound, a_falling, a_bestFalling⟩ := u
  have h12 := rz_P_12 hP
  have hFX := rz_P_FX hP
  have hEq := rz_P_eq hP
  have hc12 : ∀ c x, cell c = some x → c < 12 := fun c x h => (hX.1.1 c x h).1
  have hmem := fun x => rm_mem_E hP.1 hc12 (x := x)
  obtain ⟨p1, p2, p3, p4, p5, p6, p7, p8, p9, p10, p11⟩ := id hP
  have hinj := rm_inj_nd p2
  have hwf := rm_all_wf (E := rm_ce cell) (F := FX) (R := R) R.length
  have hwfY : ∀ w, (rm_ally E FY R R.length).2.2 = some w → ∃ c, R[w.1]? = some c := by
    intro w hw
    rw [hEq] at hw
    obtain ⟨c, h1, _⟩ := hwf w hw
    exact ⟨c, h1⟩
  have hr5 : ∀ r c, R[r]? = some c → r < 5 := by
    intro r c h
    have := (List.getElem?_eq_some_iff.mp h).1
    have := p4.1
    omega
  have hlive : ∀ w, (rm_all (rm_ce cell) FX R R.length).2.2 = some w → ∀ x, x ∈ w.2.1 → ∃ e, e ∈ E ∧ e.1 = x := by
    intro w hw x hx
    obtain ⟨c, _, _, h3⟩ := hwf w hw
    obtain ⟨e, e1, e2⟩ := h3 x hx
    exact ⟨e, p1.mem_iff.mp e1, e2⟩
  have hlen : ∀ w c, (rm_all (rm_ce cell) FX R R.length).2.2 = some w → R[w.1]? = some c → w.2.1.length = rm_np c.1 := by
    intro w c hw hc
    obtain ⟨c', h1, h2, _⟩ := hwf w hw
    rw [hc] at h1
    cases h1
    exact h2
  refine rz_fire hX (by omega) p4 hFX.1 hFX.2 h12 (fun c x h => ?_) (fun h => rm_free' p1 h) (fun w hw => ?_) ?_ ?_ ?_ ?_ ?_
  · have hx := (hmem x).mpr ⟨c, h⟩
    cases E with
    | nil => exact absurd hx (by simp)
    | cons e E => show 1 ≤ E.length + 1; omega
  · obtain ⟨c, h1, h2, _⟩ := hwf w hw
    exact ⟨c, h1, h2⟩
  · intro u' hn hX'
    refine K (-1) u' cell E FX FY L (rz_P_mono hP (by omega)) hX' (Or.inl rfl) (zz_Y ?_)
    intro f_count f_lastTag f_drafted f_rules f_fired f_length f_bestRule f_bestLength a_tag a_type a_fields a_draftPattern a_draftNot a_size a_pattern a_not a_action a_firedRule a_firedTag a_row a_bound a_saved a_mine a_best a_bestTag a_bestBound hv post hpost
    refine rz_shoot hv p4 p8 hwfY (fun v' _ hv' => hpost v' hv') ?_ ?_ ?_ ?_
    · intro w v' hw
      rw [hEq, hn] at hw; exact absurd hw (by simp)
    · intro w c v' hw
      rw [hEq, hn] at hw; exact absurd hw (by simp)
    · intro w c i x v' hw
      rw [hEq, hn] at hw; exact absurd hw (by simp)
    · intro w c v' hw
      rw [hEq, hn] at hw; exact absurd hw (by simp)
  · intro w u' hw0 h40 hX'
    refine K (-2) u' cell E FX (FY.filter (rm_al E)) L (rz_P_mono (rz_P_forget hP) (by omega)) hX' (Or.inr (Or.inl rfl)) (zz_Y ?_)
    intro f_count f_lastTag f_drafted f_rules f_fired f_length f_bestRule f_bestLength a_tag a_type a_fields a_draftPattern a_draftNot a_size a_pattern a_not a_action a_firedRule a_firedTag a_row a_bound a_saved a_mine a_best a_bestTag a_bestBound hv post hpost
    refine rz_shoot hv p4 p8 hwfY ?_ ?_ ?_ ?_ ?_
    · intro v' hw
      rw [hEq, hw0] at hw; exact absurd hw (by simp)
    · intro w' v' _ _ hv'
      exact hpost v' hv'
    · intro w' c v' _ _ hlt
      rw [← p7] at hlt; omega
    · intro w' c i x v' _ _ hlt
      rw [← p7] at hlt; omega
    · intro w' c v' _ _ hlt
      rw [← p7] at hlt; omega
  · intro w c u' hw0 hc h40 hcond hX'
    refine K (nI w.1) u' cell E (FX ++ [(nI w.1, rm_g w.2.1 0, rm_g w.2.1 1, rm_g w.2.1 2)]) (FY.filter (rm_al E) ++ [(nI w.1, rm_g w.2.1 0, rm_g w.2.1 1, rm_g w.2.1 2)]) L (rz_P_mono (rz_P_fire hP hc (hlen w c hw0 hc) (hlive w hw0) h40) (by omega)) hX' (Or.inr (Or.inr ⟨w.1, hr5 _ _ hc, rfl⟩)) (zz_Y ?_)
    intro f_count f_lastTag f_drafted f_rules f_fired f_length f_bestRule f_bestLength a_tag a_type a_fields a_draftPattern a_draftNot a_size a_pattern a_not a_action a_firedRule a_firedTag a_row a_bound a_saved a_mine a_best a_bestTag a_bestBound hv post hpost
    refine rz_shoot hv p4 p8 hwfY ?_ ?_ ?_ ?_ ?_
    · intro v' hw
      rw [hEq, hw0] at hw; exact absurd hw (by simp)
    · intro w' v' _ hlt
      rw [← p7] at hlt; omega
    · intro w' c' v' hw hc' _ _ hv'
      rw [hEq, hw0] at hw
      cases hw
      exact hpost v' hv'
    · intro w' c' i x v' hw hc' _ a1 a2 hx hxt
      rw [hEq, hw0] at hw
      cases hw
      rw [hc] at hc'
      cases hc'
      rcases hcond with z | z | z
      · omega
      · omega
      · obtain ⟨i', hi'⟩ := (hmem x).mp (List.mem_of_getElem? hx)
        exact absurd hxt (z.2.2 i' x hi')
    · intro w' c' v' hw hc' _ a1 a2
      rw [hEq, hw0] at hw
      cases hw
      rw [hc] at hc'
      cases hc'
      rcases hcond with z | z | z
      · omega
      · omega
      · omega
  · intro w c i x u' hw0 hc h40 a1 a2 hi hxt hX'
    have hxE := (hmem x).mpr ⟨i, hi⟩
    obtain ⟨j, hj⟩ := List.mem_iff_getElem?.mp hxE
    have hjl := (List.getElem?_eq_some_iff.mp hj).1
    have hP1 := rz_P_fire hP hc (hlen w c hw0 hc) (hlive w hw0) h40
    have hP2 := rz_P_del hP1 (hc12 i x hi) hi hj
    rw [hxt] at hP2
    refine K (nI w.1) u' (rm_cu cell i none) (E.eraseIdx j) _ (FY.filter (rm_al E) ++ [(nI w.1, rm_g w.2.1 0, rm_g w.2.1 1, rm_g w.2.1 2)]) L (rz_P_mono hP2 (by omega)) ?_ (Or.inr (Or.inr ⟨w.1, hr5 _ _ hc, rfl⟩)) (zz_Y ?_)
    · rw [List.length_eraseIdx_of_lt hjl]
      exact hX'
    · intro f_count f_lastTag f_drafted f_rules f_fired f_length f_bestRule f_bestLength a_tag a_type a_fields a_draftPattern a_draftNot a_size a_pattern a_not a_action a_firedRule a_firedTag a_row a_bound a_saved a_mine a_best a_bestTag a_bestBound hv post hpost
      refine rz_shoot hv p4 p8 hwfY ?_ ?_ ?_ ?_ ?_
      · intro v' hw
        rw [hEq, hw0] at hw; exact absurd hw (by simp)
      · intro w' v' _ hlt
        rw [← p7] at hlt; omega
      · intro w' c' v' hw hc' _ hcond hv'
        rw [hEq, hw0] at hw
        cases hw
        rw [hc] at hc'
        cases hc'
        rcases hcond with z | z | z
        · omega
        · omega
        · exact absurd hxt (z.2.2 x hxE)
      · intro w' c' i' x' v' hw hc' _ _ _ hx' hxt' hv'
        rw [hEq, hw0] at hw
        cases hw
        rw [hc] at hc'
        cases hc'
        have e : i' = j := rm_idx p2 i' j x' x hx' hj (hxt'.trans hxt.symm)
        subst e
        exact hpost v' hv'
      · intro w' c' v' hw hc' _ b1 b2
        rw [hEq, hw0] at hw
        cases hw
        rw [hc] at hc'
        cases hc'
        omega
  · intro w c i u' hw0 hc h40 a1 a2 hi hi0 hok hX'
    have hP1 := rz_P_fire hP hc (hlen w c hw0 hc) (hlive w hw0) h40
    refine K (nI w.1) u' _ (E ++ [(nI (L + 1), (c.2 - 4) / 8000, rm_cd w.2.2 (c.2 - 4) 3)]) _ (FY.filter (rm_al E) ++ [(nI w.1, rm_g w.2.1 0, rm_g w.2.1 1, rm_g w.2.1 2)]) (L + 1) (rz_P_add hP1 hB hi hi0) ?_ (Or.inr (Or.inr ⟨w.1, hr5 _ _ hc, rfl⟩)) (zz_Y ?_)
    · rw [List.length_append]
      exact hX'
    · intro f_count f_lastTag f_drafted f_rules f_fired f_length f_bestRule f_bestLength a_tag a_type a_fields a_draftPattern a_draftNot a_size a_pattern a_not a_action a_firedRule a_firedTag a_row a_bound a_saved a_mine a_best a_bestTag a_bestBound hv post hpost
      refine rz_shoot hv p4 p8 hwfY ?_ ?_ ?_ ?_ ?_
      · intro v' hw
        rw [hEq, hw0] at hw; exact absurd hw (by simp)
      · intro w' v' _ hlt
        rw [← p7] at hlt; omega
      · intro w' c' v' hw hc' _ hcond hv'
        rw [hEq, hw0] at hw
        cases hw
        rw [hc] at hc'
        cases hc'
        rcases hcond with z | z | z
        · omega
        · omega
        · omega
      · intro w' c' i' x' v' hw hc' _ b1 b2
        rw [hEq, hw0] at hw
        cases hw
        rw [hc] at hc'
        cases hc'
        omega
      · intro w' c' v' hw hc' _ _ _ hv'
        rw [hEq, hw0] at hw
        cases hw
        rw [hc] at hc'
        cases hc'
        exact hpost v' hv'
end
section
/-! ===== the owed statements ===== -/
/-- the relation at the head of a turn: one abstract state behind both objects -/
def i_Rel (k : Nat) (u : SX) (v : SY) : Prop := ∃ (cell : Nat → Option rm_El) (E : List rm_El) (R : List rm_Ru) (D : List rm_Cd) (FX FY : List rm_FE) (L : Nat), rz_P (10 * k) cell E R D FX FY L ∧ rz_X cell E.length R D FX L u ∧ rz_Y E R D FY L v
theorem i_up {k : Nat} {u : SX} {v : SY} (h : i_Rel k u v) : i_Rel (k + 3) u v := by
  obtain ⟨cell, E, R, D, FX, FY, L, hP, hX, hY⟩ := h
  exact ⟨cell, E, R, D, FX, FY, L, rz_P_mono hP (by omega), hX, hY⟩
theorem i_vc0 : wpX_init (fun u => wpY_init (fun v => i_Rel 0 u v)) := by
  refine ⟨fun _ => none, [], [], [], [], [], 0, ?_, ?_, ?_⟩
  · refine ⟨?_, List.nodup_nil, fun e he => absurd he (by simp), ⟨by simp, fun c hc => absurd hc (by simp)⟩, by simp, fun h => absurd rfl h, rfl, by simp, fun f hf => absurd hf (by simp), fun f hf => absurd hf (by simp), Nat.le_refl _⟩
    have e : rm_ce (fun _ => none) = [] := by decide
    rw [e]
  · refine ⟨⟨fun c x h => absurd h (by simp), fun i _ => b_0 i, fun y _ i _ => b_0 i, fun k _ v _ i _ => b_0 i⟩, rfl, rfl, rfl, rfl, rfl, rfl, fun r c h => absurd h (by simp), fun k q n h => absurd h (by simp), (0, 0, none), rfl, rfl, rfl⟩
  · exact ⟨⟨rfl, by simp, fun i x h => absurd h (by simp)⟩, rfl, rfl, rfl, rfl, rfl, fun r c h => absurd h (by simp), fun k q n h => absurd h (by simp)⟩
theorem rz_nI3 {y : Nat} (h : y < 4) : (0 : Int32) ≤ nI y ∧ nI y ≤ 3 := ⟨nI_pos' (by omega), nI_le (b := 3) (by omega) (by omega)⟩
theorem rz_nIc {y : Nat} (h : y < 4096) : (0 : Int32) ≤ nI y ∧ nI y ≤ 4095 := ⟨nI_pos' (by omega), nI_le (b := 4095) (by omega) (by omega)⟩
theorem rz_nIp {y : Nat} (h : y < 32000) : (0 : Int32) ≤ nI y ∧ nI y ≤ 31999 := ⟨nI_pos' (by omega), nI_le (b := 31999) (by omega) (by omega)⟩
theorem rz_nIa {y : Nat} (h : y < 32004) : (0 : Int32) ≤ nI y ∧ nI y ≤ 32003 := ⟨nI_pos' (by omega), nI_le (b := 32003) (by omega) (by omega)⟩
theorem i_vc_make {k : Nat} {u : SX} {v : SY} (I : i_Rel k u v) (hk : k + 3 ≤ 1536) (v1 : Int32) (v2 : Int32) : wpX_make (fun r u' => wpY_make (fun r' v' => r' = r ∧ i_Rel (k + 3) u' v') v v1 v2) u v1 v2 := by
  obtain ⟨f_used, f_count, f_lastTag, f_ruleCount, f_draftSize, f_firedCount, f_bestRule, f_rowSize, f_bestSize, f_total, f_openTotal, a_tags, a_types, a_fields, a_ofType, a_ofValue, a_sizes, a_patterns, a_negative, a_actions, a_firedRule, a_firedTags, a_bound, a_candidates, a_chosen, a_row, a_bestRow, a_bestBound, a_falling, a_bestFalling⟩ := u
  obtain ⟨yf_count, yf_lastTag, yf_drafted, yf_rules, yf_fired, yf_length, yf_bestRule, yf_bestLength, ya_tag, ya_type, ya_fields, ya_draftPattern, ya_draftNot, ya_size, ya_pattern, ya_not, ya_action, ya_firedRule, ya_firedTag, ya_row, ya_bound, ya_saved, ya_mine, ya_best, ya_bestTag, ya_bestBound⟩ := v
  have up := i_up I
  obtain ⟨cell, E, R, D, FX, FY, L, hP, hX, hY⟩ := I
  have hL := hP.2.2.2.2.2.2.2.2.2.2
  have h12 := rz_P_12 hP
  refine rz_make hX (by omega) h12 (fun h => rm_free' hP.1 h) (fun z => ?_) (fun t0 t1 z => ?_) (fun t0 t1 c0 c1 e => ?_) (fun y x c u' e1 hy e2 hx hlt hc hc0 hX' => ?_)
  · refine rz_ymake hY (fun _ => ⟨rfl, up⟩) (fun a b => absurd ⟨a, b⟩ z) (fun _ a b => absurd ⟨a, b⟩ z) (fun y x v' e1 hy => ?_)
    rw [e1] at z
    exact absurd (rz_nI3 hy) z
  · refine rz_ymake hY (fun w => absurd ⟨t0, t1⟩ w) (fun _ _ _ => ⟨rfl, up⟩) (fun _ _ _ a b => absurd ⟨a, b⟩ z) (fun y x v' e1 hy e2 hx => ?_)
    rw [e2] at z
    exact absurd (rz_nIc hx) z
  · refine rz_ymake hY (fun w => absurd ⟨t0, t1⟩ w) (fun _ _ w => absurd ⟨c0, c1⟩ w) (fun _ _ _ _ _ => ⟨rfl, up⟩) (fun y x v' _ _ _ _ hlt => ?_)
    omega
  · have z1 := rz_nI3 hy
    have z2 := rz_nIc hx
    rw [← e1] at z1
    rw [← e2] at z2
    refine rz_ymake hY (fun w => absurd z1 w) (fun _ _ w => absurd z2 w) (fun w => ?_) (fun y' x' v' f1 hy' f2 hx' _ hY' => ⟨rfl, ?_⟩)
    · omega
    · rw [e1, nI_eq (by omega) (by omega)] at f1
      rw [e2, nI_eq (by omega) (by omega)] at f2
      subst f1 f2
      refine ⟨_, E ++ [(nI (L + 1), y, x)], R, D, FX, FY, L + 1, rz_P_mono (rz_P_add hP (by omega) hc hc0) (by omega), ?_, hY'⟩
      rw [List.length_append]
      exact hX'
theorem i_vc_remove {k : Nat} {u : SX} {v : SY} (I : i_Rel k u v) (hk : k + 3 ≤ 1536) (v1 : Int32) : wpX_remove (fun r u' => wpY_remove (fun r' v' => r' = r ∧ i_Rel (k + 3) u' v') v v1) u v1 := by
  obtain ⟨f_used, f_count, f_lastTag, f_ruleCount, f_draftSize, f_firedCount, f_bestRule, f_rowSize, f_bestSize, f_total, f_openTotal, a_tags, a_types, a_fields, a_ofType, a_ofValue, a_sizes, a_patterns, a_negative, a_actions, a_firedRule, a_firedTags, a_bound, a_candidates, a_chosen, a_row, a_bestRow, a_bestBound, a_falling, a_bestFalling⟩ := u
  obtain ⟨yf_count, yf_lastTag, yf_drafted, yf_rules, yf_fired, yf_length, yf_bestRule, yf_bestLength, ya_tag, ya_type, ya_fields, ya_draftPattern, ya_draftNot, ya_size, ya_pattern, ya_not, ya_action, ya_firedRule, ya_firedTag, ya_row, ya_bound, ya_saved, ya_mine, ya_best, ya_bestTag, ya_bestBound⟩ := v
  have up := i_up I
  obtain ⟨cell, E, R, D, FX, FY, L, hP, hX, hY⟩ := I
  have hc12 : ∀ c x, cell c = some x → c < 12 := fun c x h => (hX.1.1 c x h).1
  have hmem := fun x => rm_mem_E hP.1 hc12 (x := x)
  refine rz_remove hX (rz_P_FX hP).1 (fun c x h => ?_) (fun hno => ?_) (fun c x u' hx hxt hX' => ?_)
  · have hx := (hmem x).mpr ⟨c, h⟩
    cases E with
    | nil => exact absurd hx (by simp)
    | cons e E => show 1 ≤ E.length + 1; omega
  · refine rz_yremove hY (fun _ => ⟨rfl, up⟩) (fun i x v' hx hxt => ?_)
    obtain ⟨c, hc⟩ := (hmem x).mp (List.mem_of_getElem? hx)
    exact absurd hxt (hno c x hc)
  · have hxE := (hmem x).mpr ⟨c, hx⟩
    refine rz_yremove hY (fun hno => absurd hxt (hno x hxE)) (fun i y v' hy hyt hY' => ⟨rfl, ?_⟩)
    have e : y = x := rm_inj_nd hP.2.1 y (List.mem_of_getElem? hy) x hxE (hyt.trans hxt.symm)
    subst e
    have hil := (List.getElem?_eq_some_iff.mp hy).1
    have hP2 := rz_P_del hP (hc12 c y hx) hx hy
    rw [hxt] at hP2
    refine ⟨_, E.eraseIdx i, R, D, _, FY, L, rz_P_mono hP2 (by omega), ?_, hY'⟩
    rw [List.length_eraseIdx_of_lt hil]
    exact hX'
theorem i_vc_condition {k : Nat} {u : SX} {v : SY} (I : i_Rel k u v) (hk : k + 3 ≤ 1536) (v1 : Int32) (v2 : Int32) : wpX_condition (fun r u' => wpY_condition (fun r' v' => r' = r ∧ i_Rel (k + 3) u' v') v v1 v2) u v1 v2 := by
  obtain ⟨f_used, f_count, f_lastTag, f_ruleCount, f_draftSize, f_firedCount, f_bestRule, f_rowSize, f_bestSize, f_total, f_openTotal, a_tags, a_types, a_fields, a_ofType, a_ofValue, a_sizes, a_patterns, a_negative, a_actions, a_firedRule, a_firedTags, a_bound, a_candidates, a_chosen, a_row, a_bestRow, a_bestBound, a_falling, a_bestFalling⟩ := u
  obtain ⟨yf_count, yf_lastTag, yf_drafted, yf_rules, yf_fired, yf_length, yf_bestRule, yf_bestLength, ya_tag, ya_type, ya_fields, ya_draftPattern, ya_draftNot, ya_size, ya_pattern, ya_not, ya_action, ya_firedRule, ya_firedTag, ya_row, ya_bound, ya_saved, ya_mine, ya_best, ya_bestTag, ya_bestBound⟩ := v
  have up := i_up I
  obtain ⟨cell, E, R, D, FX, FY, L, hP, hX, hY⟩ := I
  obtain ⟨p1, p2, p3, p4, p5, p6, p7, p8, p9, p10, p11⟩ := id hP
  refine rz_condition hX p5 (fun z => ?_) (fun t0 t1 e => ?_) (fun t0 t1 e3 hne e => ?_) (fun q n u' e1 hq hlt hn1 hn2 hX' => ?_)
  · refine rz_ycondition hY p5 (fun _ => ⟨rfl, up⟩) (fun w => absurd w z) (fun w => absurd w z) (fun q n v' e1 hq => ?_)
    rw [e1] at z
    exact absurd (rz_nIp hq) z
  · refine rz_ycondition hY p5 (fun w => absurd ⟨t0, t1⟩ w) (fun _ _ => ⟨rfl, up⟩) (fun _ w1 w2 w3 => absurd e w1) (fun q n v' e1 hq hlt => ?_)
    omega
  · refine rz_ycondition hY p5 (fun w => absurd ⟨t0, t1⟩ w) (fun _ w => absurd w e3) (fun _ w1 w2 w3 => ⟨rfl, up⟩) (fun q n v' e1 hq hlt hn1 hn2 => ?_)
    have := hn2 e
    rw [hn1.mpr hne] at this
    exact absurd this (by simp)
  · have z1 := rz_nIp hq
    rw [← e1] at z1
    refine rz_ycondition hY p5 (fun w => absurd z1 w) (fun _ w => ?_) (fun _ w1 w2 w3 => ?_) (fun q' n' v' f1 hq' _ hm1 hm2 hY' => ⟨rfl, ?_⟩)
    · omega
    · have := hn2 w3
      rw [hn1.mpr w2] at this
      exact absurd this (by simp)
    · rw [e1, nI_eq (by omega) (by omega)] at f1
      subst f1
      have en : n' = n := by
        cases n with
        | true => exact hm1.mpr (hn1.mp rfl)
        | false =>
          cases n' with
          | false => rfl
          | true => exact absurd (hn1.mpr (hm1.mp rfl)) (by simp)
      subst en
      refine ⟨cell, E, R, D ++ [(q, n')], FX, FY, L, ⟨p1, p2, p3, p4, ?_, fun _ => ?_, p7, p8, p9, p10, by omega⟩, hX', hY'⟩
      · rw [List.length_append]; show D.length + 1 ≤ 3; omega
      · rw [rm_np_snoc]
        by_cases h0 : D.length = 0
        · rw [hn2 h0]; show 1 ≤ _ + 1; omega
        · have := p6 h0
          omega
theorem i_vc_rule {k : Nat} {u : SX} {v : SY} (I : i_Rel k u v) (hk : k + 3 ≤ 1536) (v1 : Int32) : wpX_rule (fun r u' => wpY_rule (fun r' v' => r' = r ∧ i_Rel (k + 3) u' v') v v1) u v1 := by
  obtain ⟨f_used, f_count, f_lastTag, f_ruleCount, f_draftSize, f_firedCount, f_bestRule, f_rowSize, f_bestSize, f_total, f_openTotal, a_tags, a_types, a_fields, a_ofType, a_ofValue, a_sizes, a_patterns, a_negative, a_actions, a_firedRule, a_firedTags, a_bound, a_candidates, a_chosen, a_row, a_bestRow, a_bestBound, a_falling, a_bestFalling⟩ := u
  obtain ⟨yf_count, yf_lastTag, yf_drafted, yf_rules, yf_fired, yf_length, yf_bestRule, yf_bestLength, ya_tag, ya_type, ya_fields, ya_draftPattern, ya_draftNot, ya_size, ya_pattern, ya_not, ya_action, ya_firedRule, ya_firedTag, ya_row, ya_bound, ya_saved, ya_mine, ya_best, ya_bestTag, ya_bestBound⟩ := v
  have up := i_up I
  obtain ⟨cell, E, R, D, FX, FY, L, hP, hX, hY⟩ := I
  obtain ⟨p1, p2, p3, p4, p5, p6, p7, p8, p9, p10, p11⟩ := id hP
  have hinj : ∀ a b : Nat, a < 32004 → b < 32004 → v1 = nI a → v1 = nI b → a = b := by
    intro a b ha hb e1 e2
    rw [e1, nI_eq (by omega) (by omega)] at e2
    exact e2
  have hr : ∀ a : Nat, a < 32004 → v1 = nI a → 0 ≤ v1 ∧ v1 ≤ 32003 := by
    intro a ha e
    rw [e]; exact rz_nIa ha
  refine rz_rule hX p5 p4.1 (fun e => ?_) (fun hD z => ?_) (fun ac hD e1 hac a1 a2 a3 => ?_) (fun ac hD e1 hac hok e5 => ?_) (fun ac u' hD e1 hac hok h5 hX' => ?_)
  · exact rz_yrule hY p5 p4.1 (fun _ => ⟨rfl, up⟩) (fun w => absurd e w) (fun _ w => absurd e w) (fun _ w => absurd e w) (fun _ _ w => absurd e w)
  · exact rz_yrule hY p5 p4.1 (fun w => absurd w hD) (fun _ _ => ⟨rfl, up⟩) (fun ac' _ f1 hac' => absurd (hr ac' hac' f1) z) (fun ac' _ f1 hac' => absurd (hr ac' hac' f1) z) (fun ac' _ _ f1 hac' => absurd (hr ac' hac' f1) z)
  · refine rz_yrule hY p5 p4.1 (fun w => absurd w hD) (fun _ w => absurd (hr ac hac e1) w) (fun _ _ _ _ _ _ _ => ⟨rfl, up⟩) (fun ac' _ f1 hac' hok' => ?_) (fun ac' _ _ f1 hac' hok' => ?_)
    · have e := hinj ac ac' hac hac' e1 f1
      subst e
      have := hok' a1 a2
      omega
    · have e := hinj ac ac' hac hac' e1 f1
      subst e
      have := hok' a1 a2
      omega
  · refine rz_yrule hY p5 p4.1 (fun w => absurd w hD) (fun _ w => absurd (hr ac hac e1) w) (fun ac' _ f1 hac' b1 b2 b3 => ?_) (fun _ _ _ _ _ _ => ⟨rfl, up⟩) (fun ac' _ _ f1 hac' hok' h5 => ?_)
    · have e := hinj ac ac' hac hac' e1 f1
      subst e
      have := hok b1 b2
      omega
    · omega
  · refine rz_yrule hY p5 p4.1 (fun w => absurd w hD) (fun _ w => absurd (hr ac hac e1) w) (fun ac' _ f1 hac' b1 b2 b3 => ?_) (fun _ _ _ _ _ w => ?_) (fun ac' v' _ f1 hac' hok' _ hY' => ⟨rfl, ?_⟩)
    · have e := hinj ac ac' hac hac' e1 f1
      subst e
      have := hok b1 b2
      omega
    · omega
    · have e := hinj ac ac' hac hac' e1 f1
      subst e
      refine ⟨cell, E, R ++ [(D, ac)], [], FX, FY, L, ⟨p1, p2, p3, ⟨?_, ?_⟩, by simp, fun h => absurd rfl h, p7, p8, ?_, p10, by omega⟩, hX', hY'⟩
      · rw [List.length_append]; show R.length + 1 ≤ 5; omega
      · intro c hc
        rw [List.mem_append, List.mem_singleton] at hc
        rcases hc with hc | hc
        · exact p4.2 c hc
        · rw [hc]; exact ⟨p6 hD, p5, hac, hok⟩
      · intro f hf
        obtain ⟨r, c, h1, h2, h3⟩ := p9 f hf
        have hl := (List.getElem?_eq_some_iff.mp h1).1
        exact ⟨r, c, by rw [List.getElem?_append_left hl]; exact h1, h2, h3⟩
theorem i_vc_clearRules {k : Nat} {u : SX} {v : SY} (I : i_Rel k u v) (hk : k + 3 ≤ 1536) : wpX_clearRules (fun r u' => wpY_clearRules (fun r' v' => r' = r ∧ i_Rel (k + 3) u' v') v) u := by
  obtain ⟨f_used, f_count, f_lastTag, f_ruleCount, f_draftSize, f_firedCount, f_bestRule, f_rowSize, f_bestSize, f_total, f_openTotal, a_tags, a_types, a_fields, a_ofType, a_ofValue, a_sizes, a_patterns, a_negative, a_actions, a_firedRule, a_firedTags, a_bound, a_candidates, a_chosen, a_row, a_bestRow, a_bestBound, a_falling, a_bestFalling⟩ := u
  obtain ⟨yf_count, yf_lastTag, yf_drafted, yf_rules, yf_fired, yf_length, yf_bestRule, yf_bestLength, ya_tag, ya_type, ya_fields, ya_draftPattern, ya_draftNot, ya_size, ya_pattern, ya_not, ya_action, ya_firedRule, ya_firedTag, ya_row, ya_bound, ya_saved, ya_mine, ya_best, ya_bestTag, ya_bestBound⟩ := v
  obtain ⟨cell, E, R, D, FX, FY, L, hP, hX, hY⟩ := I
  obtain ⟨p1, p2, p3, p4, p5, p6, p7, p8, p9, p10, p11⟩ := id hP
  refine rz_clearRules hX (fun u' hX' => rz_yclear hY (fun v' hY' => ⟨rfl, ?_⟩))
  exact ⟨cell, E, [], [], [], [], L, ⟨p1, p2, p3, ⟨by simp, fun c hc => absurd hc (by simp)⟩, by simp, fun h => absurd rfl h, rfl, by simp, fun f hf => absurd hf (by simp), fun f hf => absurd hf (by simp), by omega⟩, hX', hY'⟩
theorem i_vc_elements {k : Nat} {u : SX} {v : SY} (I : i_Rel k u v) (hk : k + 3 ≤ 1536) : wpX_elements (fun r => wpY_elements (fun r' => r' = r ∧ i_Rel (k + 3) u v) v) u := by
  obtain ⟨f_used, f_count, f_lastTag, f_ruleCount, f_draftSize, f_firedCount, f_bestRule, f_rowSize, f_bestSize, f_total, f_openTotal, a_tags, a_types, a_fields, a_ofType, a_ofValue, a_sizes, a_patterns, a_negative, a_actions, a_firedRule, a_firedTags, a_bound, a_candidates, a_chosen, a_row, a_bestRow, a_bestBound, a_falling, a_bestFalling⟩ := u
  obtain ⟨yf_count, yf_lastTag, yf_drafted, yf_rules, yf_fired, yf_length, yf_bestRule, yf_bestLength, ya_tag, ya_type, ya_fields, ya_draftPattern, ya_draftNot, ya_size, ya_pattern, ya_not, ya_action, ya_firedRule, ya_firedTag, ya_row, ya_bound, ya_saved, ya_mine, ya_best, ya_bestTag, ya_bestBound⟩ := v
  have up := i_up I
  obtain ⟨cell, E, R, D, FX, FY, L, hP, hX, hY⟩ := I
  exact ⟨hY.1.1.trans hX.2.1.symm, up⟩
theorem i_vc_rules {k : Nat} {u : SX} {v : SY} (I : i_Rel k u v) (hk : k + 3 ≤ 1536) : wpX_rules (fun r => wpY_rules (fun r' => r' = r ∧ i_Rel (k + 3) u v) v) u := by
  obtain ⟨f_used, f_count, f_lastTag, f_ruleCount, f_draftSize, f_firedCount, f_bestRule, f_rowSize, f_bestSize, f_total, f_openTotal, a_tags, a_types, a_fields, a_ofType, a_ofValue, a_sizes, a_patterns, a_negative, a_actions, a_firedRule, a_firedTags, a_bound, a_candidates, a_chosen, a_row, a_bestRow, a_bestBound, a_falling, a_bestFalling⟩ := u
  obtain ⟨yf_count, yf_lastTag, yf_drafted, yf_rules, yf_fired, yf_length, yf_bestRule, yf_bestLength, ya_tag, ya_type, ya_fields, ya_draftPattern, ya_draftNot, ya_size, ya_pattern, ya_not, ya_action, ya_firedRule, ya_firedTag, ya_row, ya_bound, ya_saved, ya_mine, ya_best, ya_bestTag, ya_bestBound⟩ := v
  have up := i_up I
  obtain ⟨cell, E, R, D, FX, FY, L, hP, hX, hY⟩ := I
  exact ⟨hY.2.2.1.trans hX.2.2.2.1.symm, up⟩
theorem i_vc_exists {k : Nat} {u : SX} {v : SY} (I : i_Rel k u v) (hk : k + 3 ≤ 1536) (v1 : Int32) : wpX_exists (fun r => wpY_exists (fun r' => r' = r ∧ i_Rel (k + 3) u v) v v1) u v1 := by
  obtain ⟨f_used, f_count, f_lastTag, f_ruleCount, f_draftSize, f_firedCount, f_bestRule, f_rowSize, f_bestSize, f_total, f_openTotal, a_tags, a_types, a_fields, a_ofType, a_ofValue, a_sizes, a_patterns, a_negative, a_actions, a_firedRule, a_firedTags, a_bound, a_candidates, a_chosen, a_row, a_bestRow, a_bestBound, a_falling, a_bestFalling⟩ := u
  obtain ⟨yf_count, yf_lastTag, yf_drafted, yf_rules, yf_fired, yf_length, yf_bestRule, yf_bestLength, ya_tag, ya_type, ya_fields, ya_draftPattern, ya_draftNot, ya_size, ya_pattern, ya_not, ya_action, ya_firedRule, ya_firedTag, ya_row, ya_bound, ya_saved, ya_mine, ya_best, ya_bestTag, ya_bestBound⟩ := v
  have up := i_up I
  obtain ⟨cell, E, R, D, FX, FY, L, hP, hX, hY⟩ := I
  have hc12 : ∀ c x, cell c = some x → c < 12 := fun c x h => (hX.1.1 c x h).1
  have hmem := fun x => rm_mem_E hP.1 hc12 (x := x)
  refine rz_exists hX (fun hno => ?_) (fun c x hx hxt => ?_)
  · refine rz_yexists hY (fun _ => ⟨rfl, up⟩) (fun i x hx hxt => ?_)
    obtain ⟨c, hc⟩ := (hmem x).mp (List.mem_of_getElem? hx)
    exact absurd hxt (hno c x hc)
  · exact rz_yexists hY (fun hno => absurd hxt (hno x ((hmem x).mpr ⟨c, hx⟩))) (fun i y hy hyt => ⟨rfl, up⟩)
theorem i_vc_contents {k : Nat} {u : SX} {v : SY} (I : i_Rel k u v) (hk : k + 3 ≤ 1536) (v1 : Int32) : wpX_contents (fun r => wpY_contents (fun r' => r' = r ∧ i_Rel (k + 3) u v) v v1) u v1 := by
  obtain ⟨f_used, f_count, f_lastTag, f_ruleCount, f_draftSize, f_firedCount, f_bestRule, f_rowSize, f_bestSize, f_total, f_openTotal, a_tags, a_types, a_fields, a_ofType, a_ofValue, a_sizes, a_patterns, a_negative, a_actions, a_firedRule, a_firedTags, a_bound, a_candidates, a_chosen, a_row, a_bestRow, a_bestBound, a_falling, a_bestFalling⟩ := u
  obtain ⟨yf_count, yf_lastTag, yf_drafted, yf_rules, yf_fired, yf_length, yf_bestRule, yf_bestLength, ya_tag, ya_type, ya_fields, ya_draftPattern, ya_draftNot, ya_size, ya_pattern, ya_not, ya_action, ya_firedRule, ya_firedTag, ya_row, ya_bound, ya_saved, ya_mine, ya_best, ya_bestTag, ya_bestBound⟩ := v
  have up := i_up I
  obtain ⟨cell, E, R, D, FX, FY, L, hP, hX, hY⟩ := I
  have hc12 : ∀ c x, cell c = some x → c < 12 := fun c x h => (hX.1.1 c x h).1
  have hmem := fun x => rm_mem_E hP.1 hc12 (x := x)
  refine rz_contents hX (fun hno => ?_) (fun c x hx hxt => ?_)
  · refine rz_ycontents hY (fun _ => ⟨rfl, up⟩) (fun i x hx hxt => ?_)
    obtain ⟨c, hc⟩ := (hmem x).mp (List.mem_of_getElem? hx)
    exact absurd hxt (hno c x hc)
  · have hxE := (hmem x).mpr ⟨c, hx⟩
    refine rz_ycontents hY (fun hno => absurd hxt (hno x hxE)) (fun i y hy hyt => ⟨?_, up⟩)
    have e : y = x := rm_inj_nd hP.2.1 y (List.mem_of_getElem? hy) x hxE (hyt.trans hxt.symm)
    rw [e]
theorem i_vc_matches {k : Nat} {u : SX} {v : SY} (I : i_Rel k u v) (hk : k + 3 ≤ 1536) (v1 : Int32) : wpX_matches (fun r u' => wpY_matches (fun r' v' => r' = r ∧ i_Rel (k + 3) u' v') v v1) u v1 := by
  obtain ⟨f_used, f_count, f_lastTag, f_ruleCount, f_draftSize, f_firedCount, f_bestRule, f_rowSize, f_bestSize, f_total, f_openTotal, a_tags, a_types, a_fields, a_ofType, a_ofValue, a_sizes, a_patterns, a_negative, a_actions, a_firedRule, a_firedTags, a_bound, a_candidates, a_chosen, a_row, a_bestRow, a_bestBound, a_falling, a_bestFalling⟩ := u
  obtain ⟨yf_count, yf_lastTag, yf_drafted, yf_rules, yf_fired, yf_length, yf_bestRule, yf_bestLength, ya_tag, ya_type, ya_fields, ya_draftPattern, ya_draftNot, ya_size, ya_pattern, ya_not, ya_action, ya_firedRule, ya_firedTag, ya_row, ya_bound, ya_saved, ya_mine, ya_best, ya_bestTag, ya_bestBound⟩ := v
  have up := i_up I
  obtain ⟨cell, E, R, D, FX, FY, L, hP, hX, hY⟩ := I
  have hV := hP.2.2.2.1
  have h5 := hV.1
  have hbd : ∀ r c, R[r]? = some c → (0 : Int32) ≤ nI r ∧ nI r < nI R.length := by
    intro r c h
    have hl := (List.getElem?_eq_some_iff.mp h).1
    exact ⟨nI_pos' (by omega), nI_lt hl (by omega)⟩
  refine rz_matches hX hV (rz_P_FX hP).1 (rz_P_FX hP).2 (fun z => ?_) (fun r c a u' e1 hc ha hX' => ?_)
  · refine rz_ymatches hY hV FX (0, 0, none) rfl (fun _ => ⟨rfl, up⟩) (fun r c v' e1 hc => ?_)
    rw [e1] at z
    exact absurd (hbd r c hc) z
  · refine rz_ymatches hY hV FX a ha (fun z => ?_) (fun r' c' v' f1 hc' hY' => ⟨?_, ?_⟩)
    · rw [e1] at z
      exact absurd (hbd r c hc) z
    · have hl := (List.getElem?_eq_some_iff.mp hc).1
      have hl' := (List.getElem?_eq_some_iff.mp hc').1
      rw [e1, nI_eq (by omega) (by omega)] at f1
      subst f1
      rw [hc] at hc'
      cases hc'
      have hv := hV.2 c (List.mem_of_getElem? hc)
      have hnl := rm_np_le c.1
      rw [rm_fold hP.1 (rz_P_12 hP) (rm_inj_nd hP.2.1) FX r c.1 (by omega)]
      rfl
    · exact ⟨cell, E, R, D, FX, FY, L, rz_P_mono hP (by omega), hX', hY'⟩
theorem i_vc_open {k : Nat} {u : SX} {v : SY} (I : i_Rel k u v) (hk : k + 3 ≤ 1536) : wpX_open (fun r u' => wpY_open (fun r' v' => r' = r ∧ i_Rel (k + 3) u' v') v) u := by
  obtain ⟨f_used, f_count, f_lastTag, f_ruleCount, f_draftSize, f_firedCount, f_bestRule, f_rowSize, f_bestSize, f_total, f_openTotal, a_tags, a_types, a_fields, a_ofType, a_ofValue, a_sizes, a_patterns, a_negative, a_actions, a_firedRule, a_firedTags, a_bound, a_candidates, a_chosen, a_row, a_bestRow, a_bestBound, a_falling, a_bestFalling⟩ := u
  obtain ⟨yf_count, yf_lastTag, yf_drafted, yf_rules, yf_fired, yf_length, yf_bestRule, yf_bestLength, ya_tag, ya_type, ya_fields, ya_draftPattern, ya_draftNot, ya_size, ya_pattern, ya_not, ya_action, ya_firedRule, ya_firedTag, ya_row, ya_bound, ya_saved, ya_mine, ya_best, ya_bestTag, ya_bestBound⟩ := v
  obtain ⟨cell, E, R, D, FX, FY, L, hP, hX, hY⟩ := I
  refine rz_open hX hP.2.2.2.1 (rz_P_FX hP).1 (rz_P_FX hP).2 (fun u' hX' => rz_yopen hY hP.2.2.2.1 hP.2.2.2.2.2.2.2.1 (fun v' hY' => ⟨?_, cell, E, R, D, FX, FY, L, rz_P_mono hP (by omega), hX', hY'⟩))
  rw [rz_P_eq hP]
theorem i_vc_firstRule {k : Nat} {u : SX} {v : SY} (I : i_Rel k u v) (hk : k + 3 ≤ 1536) : wpX_firstRule (fun r u' => wpY_firstRule (fun r' v' => r' = r ∧ i_Rel (k + 3) u' v') v) u := by
  obtain ⟨f_used, f_count, f_lastTag, f_ruleCount, f_draftSize, f_firedCount, f_bestRule, f_rowSize, f_bestSize, f_total, f_openTotal, a_tags, a_types, a_fields, a_ofType, a_ofValue, a_sizes, a_patterns, a_negative, a_actions, a_firedRule, a_firedTags, a_bound, a_candidates, a_chosen, a_row, a_bestRow, a_bestBound, a_falling, a_bestFalling⟩ := u
  obtain ⟨yf_count, yf_lastTag, yf_drafted, yf_rules, yf_fired, yf_length, yf_bestRule, yf_bestLength, ya_tag, ya_type, ya_fields, ya_draftPattern, ya_draftNot, ya_size, ya_pattern, ya_not, ya_action, ya_firedRule, ya_firedTag, ya_row, ya_bound, ya_saved, ya_mine, ya_best, ya_bestTag, ya_bestBound⟩ := v
  obtain ⟨cell, E, R, D, FX, FY, L, hP, hX, hY⟩ := I
  refine rz_firstRule hX hP.2.2.2.1 (rz_P_FX hP).1 (rz_P_FX hP).2 (fun u' hX' => rz_yfirstRule hY hP.2.2.2.1 hP.2.2.2.2.2.2.2.1 (fun v' hY' => ⟨?_, cell, E, R, D, FX, FY, L, rz_P_mono hP (by omega), hX', hY'⟩))
  rw [rz_P_eq hP]
theorem i_vc_firstTag {k : Nat} {u : SX} {v : SY} (I : i_Rel k u v) (hk : k + 3 ≤ 1536) (v1 : Int32) : wpX_firstTag (fun r u' => wpY_firstTag (fun r' v' => r' = r ∧ i_Rel (k + 3) u' v') v v1) u v1 := by
  obtain ⟨f_used, f_count, f_lastTag, f_ruleCount, f_draftSize, f_firedCount, f_bestRule, f_rowSize, f_bestSize, f_total, f_openTotal, a_tags, a_types, a_fields, a_ofType, a_ofValue, a_sizes, a_patterns, a_negative, a_actions, a_firedRule, a_firedTags, a_bound, a_candidates, a_chosen, a_row, a_bestRow, a_bestBound, a_falling, a_bestFalling⟩ := u
  obtain ⟨yf_count, yf_lastTag, yf_drafted, yf_rules, yf_fired, yf_length, yf_bestRule, yf_bestLength, ya_tag, ya_type, ya_fields, ya_draftPattern, ya_draftNot, ya_size, ya_pattern, ya_not, ya_action, ya_firedRule, ya_firedTag, ya_row, ya_bound, ya_saved, ya_mine, ya_best, ya_bestTag, ya_bestBound⟩ := v
  obtain ⟨cell, E, R, D, FX, FY, L, hP, hX, hY⟩ := I
  refine rz_firstTag hX hP.2.2.2.1 (rz_P_FX hP).1 (rz_P_FX hP).2 (fun u' hX' => rz_yfirstTag hY hP.2.2.2.1 hP.2.2.2.2.2.2.2.1 (fun v' hY' => ⟨?_, cell, E, R, D, FX, FY, L, rz_P_mono hP (by omega), hX', hY'⟩))
  rw [rz_P_eq hP]
theorem i_vc_fire {k : Nat} {u : SX} {v : SY} (I : i_Rel k u v) (hk : k + 3 ≤ 1536) : wpX_fire (fun r u' => wpY_fire (fun r' v' => r' = r ∧ i_Rel (k + 3) u' v') v) u := by
  obtain ⟨yf_count, yf_lastTag, yf_drafted, yf_rules, yf_fired, yf_length, yf_bestRule, yf_bestLength, ya_tag, ya_type, ya_fields, ya_draftPattern, ya_draftNot, ya_size, ya_pattern, ya_not, ya_action, ya_firedRule, ya_firedTag, ya_row, ya_bound, ya_saved, ya_mine, ya_best, ya_bestTag, ya_bestBound⟩ := v
  obtain ⟨cell, E, R, D, FX, FY, L, hP, hX, hY⟩ := I
  refine rz_fireJ hP (by omega) hX (fun r u' cell' E' FX' FY' L' hP' hX' hr hYs => ?_)
  unfold wpY_fire
  refine hYs _ hY _ (zz_Y ?_)
  intro f_count f_lastTag f_drafted f_rules f_fired f_length f_bestRule f_bestLength a_tag a_type a_fields a_draftPattern a_draftNot a_size a_pattern a_not a_action a_firedRule a_firedTag a_row a_bound a_saved a_mine a_best a_bestTag a_bestBound hY'
  exact ⟨rfl, cell', E', R, D, FX', FY', L', rz_P_mono hP' (by omega), hX', hY'⟩
theorem i_vc_run {k : Nat} {u : SX} {v : SY} (I : i_Rel k u v) (hk : k + 3 ≤ 1536) (v1 : Int32) : wpX_run (fun r u' => wpY_run (fun r' v' => r' = r ∧ i_Rel (k + 3) u' v') v v1) u v1 := by
  obtain ⟨f_used, f_count, f_lastTag, f_ruleCount, f_draftSize, f_firedCount, f_bestRule, f_rowSize, f_bestSize, f_total, f_openTotal, a_tags, a_types, a_fields, a_ofType, a_ofValue, a_sizes, a_patterns, a_negative, a_actions, a_firedRule, a_firedTags, a_bound, a_candidates, a_chosen, a_row, a_bestRow, a_bestBound, a_falling, a_bestFalling⟩ := u
  obtain ⟨yf_count, yf_lastTag, yf_drafted, yf_rules, yf_fired, yf_length, yf_bestRule, yf_bestLength, ya_tag, ya_type, ya_fields, ya_draftPattern, ya_draftNot, ya_size, ya_pattern, ya_not, ya_action, ya_firedRule, ya_firedTag, ya_row, ya_bound, ya_saved, ya_mine, ya_best, ya_bestTag, ya_bestBound⟩ := v
  have up := i_up I
  by_cases t0 : v1 < 1
  · exact br_t t0 (br_t t0 ⟨rfl, up⟩)
  · by_cases t1 : v1 ≤ 30
    · refine br_f t0 (br_t t1 ?_)
      have t2 : ¬ v1 < 0 := by
        intro z
        apply t0
        rw [Int32.lt_iff_toInt_lt] at z ⊢
        have e0 : (0 : Int32).toInt = 0 := by decide
        have e1 : (1 : Int32).toInt = 1 := by decide
        omega
      obtain ⟨n, hn, rfl⟩ := nI_of2 (n := 30) (by decide) t2 t1
      obtain ⟨cell, E, R, D, FX, FY, L, hP, hX, hY⟩ := I
      have loop : ∀ d i cell E FX FY L (f_used f_count f_lastTag f_ruleCount f_draftSize f_firedCount f_bestRule f_rowSize f_bestSize f_total f_openTotal : Int32) (a_tags a_types a_fields a_ofType a_ofValue a_sizes a_patterns a_negative a_actions a_firedRule a_firedTags a_bound a_candidates a_chosen a_row a_bestRow a_bestBound a_falling a_bestFalling : Nat → Int32), i + d = n → rz_P (10 * k + i) cell E R D FX FY L → rz_X cell E.length R D FX L (f_used, f_count, f_lastTag, f_ruleCount, f_draftSize, f_firedCount, f_bestRule, f_rowSize, f_bestSize, f_total, f_openTotal, a_tags, a_types, a_fields, a_ofType, a_ofValue, a_sizes, a_patterns, a_negative, a_actions, a_firedRule, a_firedTags, a_bound, a_candidates, a_chosen, a_row, a_bestRow, a_bestBound, a_falling, a_bestFalling) →
          (∀ post : Int32 → SY → Prop, (∀ (f_count f_lastTag f_drafted f_rules f_fired f_length f_bestRule f_bestLength : Int32) (a_tag a_type a_fields a_draftPattern a_draftNot a_size a_pattern a_not a_action a_firedRule a_firedTag a_row a_bound a_saved a_mine a_best a_bestTag a_bestBound : Nat → Int32), rz_Y E R D FY L (f_count, f_lastTag, f_drafted, f_rules, f_fired, f_length, f_bestRule, f_bestLength, a_tag, a_type, a_fields, a_draftPattern, a_draftNot, a_size, a_pattern, a_not, a_action, a_firedRule, a_firedTag, a_row, a_bound, a_saved, a_mine, a_best, a_bestTag, a_bestBound) → wY_run_20 post (nI n) (d + 1) (nI i) 1 (nI i) f_count f_lastTag f_drafted f_rules f_fired f_length f_bestRule f_bestLength a_tag a_type a_fields a_draftPattern a_draftNot a_size a_pattern a_not a_action a_firedRule a_firedTag a_row a_bound a_saved a_mine a_best a_bestTag a_bestBound) → wY_run_20 post (nI n) (n + 1) 0 1 0 yf_count yf_lastTag yf_drafted yf_rules yf_fired yf_length yf_bestRule yf_bestLength ya_tag ya_type ya_fields ya_draftPattern ya_draftNot ya_size ya_pattern ya_not ya_action ya_firedRule ya_firedTag ya_row ya_bound ya_saved ya_mine ya_best ya_bestTag ya_bestBound) →
          wX_run_17 (fun r u' => wpY_run (fun r' v' => r' = r ∧ i_Rel (k + 3) u' v') (yf_count, yf_lastTag, yf_drafted, yf_rules, yf_fired, yf_length, yf_bestRule, yf_bestLength, ya_tag, ya_type, ya_fields, ya_draftPattern, ya_draftNot, ya_size, ya_pattern, ya_not, ya_action, ya_firedRule, ya_firedTag, ya_row, ya_bound, ya_saved, ya_mine, ya_best, ya_bestTag, ya_bestBound) (nI n)) (nI n) (d + 1) (nI i) (nI i) f_used f_count f_lastTag f_ruleCount f_draftSize f_firedCount f_bestRule f_rowSize f_bestSize f_total f_openTotal a_tags a_types a_fields a_ofType a_ofValue a_sizes a_patterns a_negative a_actions a_firedRule a_firedTags a_bound a_candidates a_chosen a_row a_bestRow a_bestBound a_falling a_bestFalling := by
        intro d
        induction d with
        | zero =>
          intro i cell E FX FY L f_used f_count f_lastTag f_ruleCount f_draftSize f_firedCount f_bestRule f_rowSize f_bestSize f_total f_openTotal a_tags a_types a_fields a_ofType a_ofValue a_sizes a_patterns a_negative a_actions a_firedRule a_firedTags a_bound a_candidates a_chosen a_row a_bestRow a_bestBound a_falling a_bestFalling hi hP hX hYr
          have e : i = n := by omega
          subst e
          refine pk_le i i (fun _ => br_f t0 (br_t t1 (Exists.intro (i + 1) (hYr _ ?_)))) (fun h => absurd h (by omega))
          intro f_count f_lastTag f_drafted f_rules f_fired f_length f_bestRule f_bestLength a_tag a_type a_fields a_draftPattern a_draftNot a_size a_pattern a_not a_action a_firedRule a_firedTag a_row a_bound a_saved a_mine a_best a_bestTag a_bestBound hY
          exact pk_le i i (fun _ => ⟨rfl, cell, E, R, D, FX, FY, L, rz_P_mono hP (by omega), hX, hY⟩) (fun h => absurd h (by omega))
        | succ d ih =>
          intro i cell E FX FY L f_used f_count f_lastTag f_ruleCount f_draftSize f_firedCount f_bestRule f_rowSize f_bestSize f_total f_openTotal a_tags a_types a_fields a_ofType a_ofValue a_sizes a_patterns a_negative a_actions a_firedRule a_firedTags a_bound a_candidates a_chosen a_row a_bestRow a_bestBound a_falling a_bestFalling hi hP hX hYr
          refine pk_le n i (fun h => absurd h (by omega)) (fun _ => ?_)
          refine rz_fireJ hP (by omega) hX (fun r u' cell' E' FX' FY' L' hP' hX' hr hYs => ?_)
          obtain ⟨f_used', f_count', f_lastTag', f_ruleCount', f_draftSize', f_firedCount', f_bestRule', f_rowSize', f_bestSize', f_total', f_openTotal', a_tags', a_types', a_fields', a_ofType', a_ofValue', a_sizes', a_patterns', a_negative', a_actions', a_firedRule', a_firedTags', a_bound', a_candidates', a_chosen', a_row', a_bestRow', a_bestBound', a_falling', a_bestFalling'⟩ := u'
          by_cases hr0 : (0 : Int32) ≤ r
          · refine br_t hr0 (nm_r (nI_1 i) (nm_r (nI_1 i) (ih (i + 1) cell' E' FX' FY' L' f_used' f_count' f_lastTag' f_ruleCount' f_draftSize' f_firedCount' f_bestRule' f_rowSize' f_bestSize' f_total' f_openTotal' a_tags' a_types' a_fields' a_ofType' a_ofValue' a_sizes' a_patterns' a_negative' a_actions' a_firedRule' a_firedTags' a_bound' a_candidates' a_chosen' a_row' a_bestRow' a_bestBound' a_falling' a_bestFalling' (by omega) (rz_P_mono hP' (by omega)) hX' ?_)))
            intro post hpost
            refine hYr post ?_
            intro f_count f_lastTag f_drafted f_rules f_fired f_length f_bestRule f_bestLength a_tag a_type a_fields a_draftPattern a_draftNot a_size a_pattern a_not a_action a_firedRule a_firedTag a_row a_bound a_saved a_mine a_best a_bestTag a_bestBound hY
            refine pk_le n i (fun h => absurd h (by omega)) (fun _ => br_f (by decide) ?_)
            refine hYs _ hY _ (zz_Y ?_)
            intro f_count' f_lastTag' f_drafted' f_rules' f_fired' f_length' f_bestRule' f_bestLength' a_tag' a_type' a_fields' a_draftPattern' a_draftNot' a_size' a_pattern' a_not' a_action' a_firedRule' a_firedTag' a_row' a_bound' a_saved' a_mine' a_best' a_bestTag' a_bestBound' hY'
            refine br_f (Int32.not_lt.mpr hr0) (br_f (by decide) (nm_r (nI_1 i) (nm_r (nI_1 i) ?_)))
            exact hpost f_count' f_lastTag' f_drafted' f_rules' f_fired' f_length' f_bestRule' f_bestLength' a_tag' a_type' a_fields' a_draftPattern' a_draftNot' a_size' a_pattern' a_not' a_action' a_firedRule' a_firedTag' a_row' a_bound' a_saved' a_mine' a_best' a_bestTag' a_bestBound' hY'
          · refine br_f hr0 (br_f t0 (br_t t1 (Exists.intro (n + 1) (hYr _ ?_))))
            intro f_count f_lastTag f_drafted f_rules f_fired f_length f_bestRule f_bestLength a_tag a_type a_fields a_draftPattern a_draftNot a_size a_pattern a_not a_action a_firedRule a_firedTag a_row a_bound a_saved a_mine a_best a_bestTag a_bestBound hY
            refine pk_le n i (fun h => absurd h (by omega)) (fun _ => br_f (by decide) ?_)
            refine hYs _ hY _ (zz_Y ?_)
            intro f_count' f_lastTag' f_drafted' f_rules' f_fired' f_length' f_bestRule' f_bestLength' a_tag' a_type' a_fields' a_draftPattern' a_draftNot' a_size' a_pattern' a_not' a_action' a_firedRule' a_firedTag' a_row' a_bound' a_saved' a_mine' a_best' a_bestTag' a_bestBound' hY'
            refine br_t (Int32.not_le.mp hr0) (br_t rfl (nm_r (nI_1 i) ?_))
            refine pk_le n (i + 1) (fun _ => ⟨rfl, cell', E', R, D, FX', FY', L', rz_P_mono hP' (by omega), hX', hY'⟩) (fun _ => br_t rfl ⟨rfl, cell', E', R, D, FX', FY', L', rz_P_mono hP' (by omega), hX', hY'⟩)
      exact Exists.intro (n + 1) (loop n 0 cell E FX FY L f_used f_count f_lastTag f_ruleCount f_draftSize f_firedCount f_bestRule f_rowSize f_bestSize f_total f_openTotal a_tags a_types a_fields a_ofType a_ofValue a_sizes a_patterns a_negative a_actions a_firedRule a_firedTags a_bound a_candidates a_chosen a_row a_bestRow a_bestBound a_falling a_bestFalling (by omega) hP hX (fun post hpost => hpost yf_count yf_lastTag yf_drafted yf_rules yf_fired yf_length yf_bestRule yf_bestLength ya_tag ya_type ya_fields ya_draftPattern ya_draftNot ya_size ya_pattern ya_not ya_action ya_firedRule ya_firedTag ya_row ya_bound ya_saved ya_mine ya_best ya_bestTag ya_bestBound hY))
    · exact br_f t0 (br_f t1 (br_f t0 (br_f t1 ⟨rfl, up⟩)))
theorem i_vc_fitting {k : Nat} {u : SX} {v : SY} (I : i_Rel k u v) (hk : k + 3 ≤ 1536) (v1 : Int32) : wpX_fitting (fun r u' => wpY_fitting (fun r' v' => r' = r ∧ i_Rel (k + 3) u' v') v v1) u v1 := by
  obtain ⟨f_used, f_count, f_lastTag, f_ruleCount, f_draftSize, f_firedCount, f_bestRule, f_rowSize, f_bestSize, f_total, f_openTotal, a_tags, a_types, a_fields, a_ofType, a_ofValue, a_sizes, a_patterns, a_negative, a_actions, a_firedRule, a_firedTags, a_bound, a_candidates, a_chosen, a_row, a_bestRow, a_bestBound, a_falling, a_bestFalling⟩ := u
  obtain ⟨yf_count, yf_lastTag, yf_drafted, yf_rules, yf_fired, yf_length, yf_bestRule, yf_bestLength, ya_tag, ya_type, ya_fields, ya_draftPattern, ya_draftNot, ya_size, ya_pattern, ya_not, ya_action, ya_firedRule, ya_firedTag, ya_row, ya_bound, ya_saved, ya_mine, ya_best, ya_bestTag, ya_bestBound⟩ := v
  have up := i_up I
  obtain ⟨cell, E, R, D, FX, FY, L, hP, hX, hY⟩ := I
  refine rz_fitting hX (fun z => ?_) (fun q u' e1 hq hX' => ?_)
  · refine rz_yfitting hY (fun _ => ⟨rfl, up⟩) (fun q v' e1 hq => ?_)
    rw [e1] at z
    exact absurd (rz_nIp hq) z
  · refine rz_yfitting hY (fun z => ?_) (fun q' v' f1 hq' hY' => ⟨?_, cell, E, R, D, FX, FY, L, rz_P_mono hP (by omega), hX', hY'⟩)
    · rw [e1] at z
      exact absurd (rz_nIp hq) z
    · rw [e1, nI_eq (by omega) (by omega)] at f1
      subst f1
      rw [hP.1.countP_eq]
end
