section
/-! ===== sets of tasks: naturals below 32 ===== -/
def rd_del (s k : Nat) : Nat := s &&& (31 - 2 ^ k)
def rd_pc (s : Nat) : Nat → Nat
  | 0 => 0
  | k + 1 => rd_pc s k + (if s.testBit k = true then 1 else 0)
def rd_sub (s t : Nat) : Prop := ∀ j, j < 5 → s.testBit j = true → t.testBit j = true
theorem rd_nf {b : Bool} (h : ¬ b = false) : b = true := by
  cases b
  · exact absurd rfl h
  · rfl
theorem rd_nt {b : Bool} (h : ¬ b = true) : b = false := by
  cases b
  · rfl
  · exact absurd rfl h
theorem rd_tf {b : Bool} (h : b = true) (g : b = false) : False := by
  rw [h] at g
  exact absurd g (by decide)
theorem rd_bit0 : ∀ s, s < 32 → ∀ k, k < 5 → (((nI s >>> (nI k &&& 31)) &&& 1) = 0 ↔ s.testBit k = false) := by decide +kernel
theorem rd_bit1 : ∀ s, s < 32 → ∀ k, k < 5 → (((nI s >>> (nI k &&& 31)) &&& 1) = 1 ↔ s.testBit k = true) := by decide +kernel
theorem rd_or1 : ∀ s, s < 32 → ∀ k, k < 5 → nI s ||| ((1 : Int32) <<< (nI k &&& 31)) = nI (s ||| 2 ^ k) := by decide +kernel
theorem rd_or0 : ∀ s, s < 32 → nI s ||| 0 = nI s := by decide +kernel
theorem rd_orlt : ∀ s, s < 32 → ∀ k, k < 5 → s ||| 2 ^ k < 32 := by decide +kernel
theorem rd_del1 : ∀ s, s < 32 → ∀ k, k < 5 → nI s &&& (((1 : Int32) <<< (nI k &&& 31)) ^^^ (-1)) = nI (rd_del s k) := by decide +kernel
theorem rd_dellt : ∀ s, s < 32 → ∀ k, k < 5 → rd_del s k < 32 := by decide +kernel
theorem rd_diff : ∀ s, s < 32 → ∀ t, t < 32 → nI s &&& (nI t ^^^ (-1)) = nI (s &&& (31 - t)) := by decide +kernel
theorem rd_difflt : ∀ s, s < 32 → ∀ t, t < 32 → s &&& (31 - t) < 32 := by decide +kernel
theorem rd_and : ∀ s, s < 32 → ∀ t, t < 32 → nI s &&& nI t = nI (s &&& t) := by decide +kernel
theorem rd_andlt : ∀ s, s < 32 → ∀ t, t < 32 → s &&& t < 32 := by decide +kernel
theorem rd_tor : ∀ s, s < 32 → ∀ k, k < 5 → ∀ j, j < 5 → (s ||| 2 ^ k).testBit j = (s.testBit j || decide (j = k)) := by decide +kernel
theorem rd_tdel : ∀ s, s < 32 → ∀ k, k < 5 → ∀ j, j < 5 → (rd_del s k).testBit j = (s.testBit j && !decide (j = k)) := by decide +kernel
theorem rd_tdiff : ∀ s, s < 32 → ∀ t, t < 32 → ∀ j, j < 5 → (s &&& (31 - t)).testBit j = (s.testBit j && !t.testBit j) := by decide +kernel
theorem rd_tand : ∀ s, s < 32 → ∀ t, t < 32 → ∀ j, j < 5 → (s &&& t).testBit j = (s.testBit j && t.testBit j) := by decide +kernel
theorem rd_ext : ∀ s, s < 32 → ∀ t, t < 32 → (∀ j, j < 5 → s.testBit j = t.testBit j) → s = t := by decide +kernel
theorem rd_subz0 : ∀ s, s < 32 → ∀ t, t < 32 → (nI s &&& (nI t ^^^ (-1)) = 0 ↔ ∀ j, j < 5 → s.testBit j = true → t.testBit j = true) := by decide +kernel
theorem rd_subz (s : Nat) (hs : s < 32) (t : Nat) (ht : t < 32) : nI s &&& (nI t ^^^ (-1)) = 0 ↔ rd_sub s t := rd_subz0 s hs t ht
theorem rd_z : ∀ j, j < 5 → (0 : Nat).testBit j = false := by decide +kernel
theorem rd_pc_or : ∀ s, s < 32 → ∀ k, k < 5 → s.testBit k = false → rd_pc (s ||| 2 ^ k) 5 = rd_pc s 5 + 1 := by decide +kernel
theorem rd_pc_eq0 : ∀ s, s < 32 → ∀ t, t < 32 → (∀ j, j < 5 → s.testBit j = true → t.testBit j = true) → rd_pc s 5 = rd_pc t 5 → s = t := by decide +kernel
theorem rd_pc_lt : ∀ s, s < 32 → ∀ k, k < 5 → s.testBit k = false → rd_pc s 5 < 5 := by decide +kernel
theorem rd_pc_le : ∀ s, s < 32 → rd_pc s 5 ≤ 5 := by decide +kernel
theorem rd_gt_or : ∀ s, s < 32 → ∀ k, k < 5 → s.testBit k = false → s < s ||| 2 ^ k := by decide +kernel
theorem rd_lt_del : ∀ s, s < 32 → ∀ k, k < 5 → s.testBit k = true → rd_del s k < s := by decide +kernel
theorem rd_del_or : ∀ s, s < 32 → ∀ k, k < 5 → s.testBit k = false → rd_del (s ||| 2 ^ k) k = s := by decide +kernel
theorem rd_del_id : ∀ s, s < 32 → ∀ k, k < 5 → s.testBit k = false → rd_del s k = s := by decide +kernel
theorem rd_del_com : ∀ s, s < 32 → ∀ k, k < 5 → ∀ x, x < 5 → k ≠ x → rd_del (s ||| 2 ^ k) x = rd_del s x ||| 2 ^ k := by decide +kernel
theorem rd_and_sub0 : ∀ s, s < 32 → ∀ t, t < 32 → (∀ j, j < 5 → s.testBit j = true → t.testBit j = true) → s &&& t = s := by decide +kernel
/-! bounds of the tables -/
def rd_cap (s : Nat) : Nat := 6 ^ (5 - rd_pc s 5)
def rd_cap2 (s : Nat) : Nat := 6 ^ rd_pc s 5
theorem rd_cap_or : ∀ s, s < 32 → ∀ k, k < 5 → s.testBit k = false → 6 * rd_cap (s ||| 2 ^ k) = rd_cap s := by decide +kernel
theorem rd_cap_b : ∀ s, s < 32 → rd_cap s ≤ 7776 ∧ (rd_cap s = 1 ∨ 6 ≤ rd_cap s) := by decide +kernel
theorem rd_cap2_del : ∀ s, s < 32 → ∀ k, k < 5 → s.testBit k = true → 6 * rd_cap2 (rd_del s k) = rd_cap2 s := by decide +kernel
theorem rd_cap2_b : ∀ s, s < 32 → rd_cap2 s ≤ 7776 ∧ (rd_cap2 s = 1 ∨ 6 ≤ rd_cap2 s) := by decide +kernel
/-! bytes -/
theorem rd_b8 : ∀ i, i < 16 → (nI i).toInt8.toInt32 = nI i := by decide +kernel
theorem rd_nb {i : Nat} (h : i < 16) : vp_nar .byte (nI i) = nI i := by
  rw [vp_nar_byte]
  exact rd_b8 i h
theorem rd_n3 : ∀ i, i < 16 → ¬ nI i = (-3) := by decide +kernel
theorem rd_n1 : ∀ i, i < 16 → ¬ nI i = (-1) := by decide +kernel
/-! one more member -/
theorem rd_acc_in {s i : Nat} {C : Nat → Prop} (hs : s < 32) (hi : i < 5) (h : ∀ j, j < 5 → (s.testBit j = true ↔ j < i ∧ C j)) (hC : C i) : ∀ j, j < 5 → ((s ||| 2 ^ i).testBit j = true ↔ j < i + 1 ∧ C j) := by
  intro j hj
  rw [rd_tor s hs i hi j hj, Bool.or_eq_true, h j hj, decide_eq_true_iff]
  constructor
  · intro z
    rcases z with z | z
    · exact ⟨by omega, z.2⟩
    · rw [z]; exact ⟨by omega, hC⟩
  · intro z
    by_cases e : j = i
    · exact Or.inr e
    · exact Or.inl ⟨by omega, z.2⟩
theorem rd_acc_out {s i : Nat} {C : Nat → Prop} (h : ∀ j, j < 5 → (s.testBit j = true ↔ j < i ∧ C j)) (hC : ¬ C i) : ∀ j, j < 5 → (s.testBit j = true ↔ j < i + 1 ∧ C j) := by
  intro j hj
  rw [h j hj]
  constructor
  · exact fun z => ⟨by omega, z.2⟩
  · intro z
    by_cases e : j = i
    · rw [e] at z; exact absurd z.2 hC
    · exact ⟨by omega, z.2⟩
theorem rd_acc_0 {C : Nat → Prop} : ∀ j, j < 5 → ((0 : Nat).testBit j = true ↔ j < 0 ∧ C j) := fun j hj => ⟨fun z => (rd_tf z (rd_z j hj)).elim, fun z => absurd z.1 (by omega)⟩
theorem rd_acc_5 {s : Nat} {C : Nat → Prop} (h : ∀ j, j < 5 → (s.testBit j = true ↔ j < 5 ∧ C j)) : ∀ j, j < 5 → (s.testBit j = true ↔ C j) := fun j hj => ⟨fun z => ((h j hj).mp z).2, fun z => (h j hj).mpr ⟨hj, z⟩⟩
end
section
/-! ===== the work that gets ready, the least length of time, in time ===== -/
section
variable {c d p : Nat → Nat} {k s t m : Nat}
def rd_pp (q : Nat) : Nat := if q = 0 then 1 else q
theorem rd_pp_pos (q : Nat) : 1 ≤ rd_pp q := by
  unfold rd_pp
  split <;> omega
def rd_w1 (c p : Nat → Nat) (t k : Nat) : Nat := (t + rd_pp (p k) - 1) / rd_pp (p k) * c k
def rd_W (c p : Nat → Nat) (s t : Nat) : Nat → Nat
  | 0 => 0
  | m + 1 => rd_W c p s t m + (if s.testBit m = true then rd_w1 c p t m else 0)
theorem rd_w1_mono {u : Nat} (h : t ≤ u) : rd_w1 c p t k ≤ rd_w1 c p u k := Nat.mul_le_mul_right _ (Nat.div_le_div_right (by omega))
theorem rd_W_mono {s s' t u : Nat} (h : t ≤ u) : ∀ m, (∀ j, j < m → s.testBit j = true → s'.testBit j = true) → rd_W c p s t m ≤ rd_W c p s' u m
  | 0, _ => Nat.le_refl _
  | m + 1, hs => by
    have h1 := rd_W_mono h m (fun j hj => hs j (by omega))
    have h2 : (if s.testBit m = true then rd_w1 c p t m else 0) ≤ (if s'.testBit m = true then rd_w1 c p u m else 0) := by
      by_cases e : s.testBit m = true
      · rw [if_pos e, if_pos (hs m (by omega) e)]
        exact rd_w1_mono h
      · rw [if_neg e]
        exact Nat.zero_le _
    exact Nat.add_le_add h1 h2
theorem rd_div_le {q : Nat} (t : Nat) (hq : 1 ≤ q) : (t + q - 1) / q ≤ t := by
  cases t with
  | zero => rw [Nat.div_eq_of_lt (by omega)]; exact Nat.le_refl _
  | succ t =>
    apply Nat.div_le_of_le_mul
    have : t ≤ q * t := Nat.le_mul_of_pos_left t (by omega)
    rw [Nat.mul_succ]
    omega
theorem rd_w1_le (hc : c k ≤ 15) : rd_w1 c p t k ≤ t * 15 := Nat.mul_le_mul (rd_div_le t (rd_pp_pos (p k))) hc
theorem rd_W_le : ∀ m, (∀ j, j < m → c j ≤ 15) → rd_W c p s t m ≤ m * (t * 15)
  | 0, _ => Nat.zero_le _
  | m + 1, hc => by
    have h1 := rd_W_le m (fun j hj => hc j (by omega))
    have h2 : (if s.testBit m = true then rd_w1 c p t m else 0) ≤ t * 15 := by
      by_cases e : s.testBit m = true
      · rw [if_pos e]; exact rd_w1_le (hc m (by omega))
      · rw [if_neg e]; exact Nat.zero_le _
    rw [Nat.succ_mul]
    exact Nat.add_le_add h1 h2
theorem rd_W_0 : ∀ m, m ≤ 5 → rd_W c p 0 t m = 0
  | 0, _ => rfl
  | m + 1, h => by
    show rd_W c p 0 t m + (if (0 : Nat).testBit m = true then rd_w1 c p t m else 0) = 0
    rw [rd_W_0 m (by omega), rd_z m (by omega)]
    rfl
/-- the rounds of responseUnder: m are left, the time is t -/
def rd_R (c p : Nat → Nat) (k s : Nat) : Nat → Nat → Option Nat
  | 0, _ => none
  | m + 1, t => if c k + rd_W c p s t 5 = t then some t else if c k + rd_W c p s t 5 ≤ p k then rd_R c p k s m (c k + rd_W c p s t 5) else none
theorem rd_R_1 (h : c k + rd_W c p s t 5 = t) : rd_R c p k s (m + 1) t = some t := if_pos h
theorem rd_R_2 (h : ¬ c k + rd_W c p s t 5 = t) (h2 : c k + rd_W c p s t 5 ≤ p k) : rd_R c p k s (m + 1) t = rd_R c p k s m (c k + rd_W c p s t 5) := (if_neg h).trans (if_pos h2)
theorem rd_R_3 (h : ¬ c k + rd_W c p s t 5 = t) (h2 : ¬ c k + rd_W c p s t 5 ≤ p k) : rd_R c p k s (m + 1) t = none := (if_neg h).trans (if_neg h2)
theorem rd_R_fix {r : Nat} : ∀ m t, rd_R c p k s m t = some r → c k + rd_W c p s r 5 = r
  | 0, t, h => nomatch h
  | m + 1, t, h => by
    by_cases e : c k + rd_W c p s t 5 = t
    · rw [rd_R_1 e] at h
      cases h
      exact e
    · by_cases e2 : c k + rd_W c p s t 5 ≤ p k
      · rw [rd_R_2 e e2] at h
        exact rd_R_fix m _ h
      · rw [rd_R_3 e e2] at h
        exact nomatch h
theorem rd_R_le {r : Nat} (hp : p k ≤ 15) : ∀ m t, t ≤ 15 → rd_R c p k s m t = some r → r ≤ 15
  | 0, t, _, h => nomatch h
  | m + 1, t, ht, h => by
    by_cases e : c k + rd_W c p s t 5 = t
    · rw [rd_R_1 e] at h
      cases h
      exact ht
    · by_cases e2 : c k + rd_W c p s t 5 ≤ p k
      · rw [rd_R_2 e e2] at h
        exact rd_R_le hp m _ (by omega) h
      · rw [rd_R_3 e e2] at h
        exact nomatch h
theorem rd_R_ex {u : Nat} (hu : c k + rd_W c p s u 5 ≤ u) (hp : u ≤ p k) : ∀ m t, t ≤ u → t ≤ c k + rd_W c p s t 5 → u - t < m → ∃ r, rd_R c p k s m t = some r ∧ r ≤ u
  | 0, t, _, _, h => absurd h (by omega)
  | m + 1, t, ht, hg, hm => by
    have hW : rd_W c p s t 5 ≤ rd_W c p s u 5 := rd_W_mono ht 5 (fun _ _ z => z)
    by_cases e : c k + rd_W c p s t 5 = t
    · exact ⟨t, rd_R_1 e, ht⟩
    · rw [rd_R_2 e (by omega)]
      have hW2 : rd_W c p s t 5 ≤ rd_W c p s (c k + rd_W c p s t 5) 5 := rd_W_mono hg 5 (fun _ _ z => z)
      exact rd_R_ex hu hp m _ (by omega) (by omega) (by omega)
/-- the task k is in time below the set s -/
def rd_T (c d p : Nat → Nat) (k s : Nat) : Prop := ∃ r, rd_R c p k s 16 (c k) = some r ∧ r ≤ d k
theorem rd_T_iff (h1 : d k ≤ p k) (h2 : p k ≤ 15) : rd_T c d p k s ↔ ∃ u, u ≤ d k ∧ c k + rd_W c p s u 5 ≤ u := by
  constructor
  · intro z
    obtain ⟨r, e, hr⟩ := z
    exact ⟨r, hr, Nat.le_of_eq (rd_R_fix _ _ e)⟩
  · intro z
    obtain ⟨u, hu, e⟩ := z
    obtain ⟨r, h, hr⟩ := rd_R_ex e (by omega) 16 (c k) (by omega) (by omega) (by omega)
    exact ⟨r, h, by omega⟩
theorem rd_T_mono {s' : Nat} (h1 : d k ≤ p k) (h2 : p k ≤ 15) (hs : rd_sub s' s) (h : rd_T c d p k s) : rd_T c d p k s' := by
  obtain ⟨u, hu, e⟩ := (rd_T_iff h1 h2).mp h
  have hW : rd_W c p s' u 5 ≤ rd_W c p s u 5 := rd_W_mono (Nat.le_refl u) 5 hs
  exact (rd_T_iff h1 h2).mpr ⟨u, hu, by omega⟩
end
/-! ===== an order of tasks ===== -/
section
variable {o : Nat → Nat} {P n k : Nat}
def rd_U (o : Nat → Nat) : Nat → Nat
  | 0 => 0
  | i + 1 => rd_U o i ||| 2 ^ o i
theorem rd_U_s (i : Nat) : rd_U o (i + 1) = rd_U o i ||| 2 ^ o i := rfl
theorem rd_U_lt : ∀ n, (∀ i, i < n → o i < 5) → rd_U o n < 32
  | 0, _ => (by decide : 0 < 32)
  | n + 1, h => rd_orlt _ (rd_U_lt n (fun i hi => h i (by omega))) _ (h n (by omega))
theorem rd_U_bit (hk : k < 5) : ∀ n, (∀ i, i < n → o i < 5) → ((rd_U o n).testBit k = true ↔ ∃ j, j < n ∧ o j = k)
  | 0, _ => ⟨fun z => (rd_tf z (rd_z k hk)).elim, fun ⟨j, hj, _⟩ => absurd hj (by omega)⟩
  | n + 1, h => by
    rw [rd_U_s, rd_tor _ (rd_U_lt n (fun i hi => h i (by omega))) _ (h n (by omega)) k hk, Bool.or_eq_true, rd_U_bit hk n (fun i hi => h i (by omega)), decide_eq_true_iff]
    constructor
    · intro z
      rcases z with ⟨j, hj, e⟩ | z
      · exact ⟨j, by omega, e⟩
      · exact ⟨n, by omega, z.symm⟩
    · intro z
      obtain ⟨j, hj, e⟩ := z
      by_cases g : j = n
      · rw [g] at e; exact Or.inr e.symm
      · exact Or.inl ⟨j, by omega, e⟩
theorem rd_U_congr {o' : Nat → Nat} : ∀ n, (∀ i, i < n → o i = o' i) → rd_U o n = rd_U o' n
  | 0, _ => rfl
  | n + 1, h => by
    rw [rd_U_s, rd_U_s, rd_U_congr n (fun i hi => h i (by omega)), h n (by omega)]
/-- o lists the members of P, each once -/
def rd_perm (P n : Nat) (o : Nat → Nat) : Prop := (∀ i, i < n → o i < 5) ∧ (∀ i j, i < j → j < n → o i ≠ o j) ∧ (∀ k, k < 5 → (P.testBit k = true ↔ ∃ j, j < n ∧ o j = k))
theorem rd_perm_U (hP : P < 32) (h : rd_perm P n o) : rd_U o n = P := by
  refine rd_ext _ (rd_U_lt n h.1) _ hP (fun j hj => ?_)
  have e := (rd_U_bit hj n h.1).trans (h.2.2 j hj).symm
  cases h1 : (rd_U o n).testBit j <;> cases h2 : P.testBit j
  · rfl
  · exact absurd (e.mpr h2) (by rw [h1]; decide)
  · exact absurd (e.mp h1) (by rw [h2]; decide)
  · rfl
theorem rd_perm_new (h : rd_perm P n o) {i : Nat} (hi : i < n) : (rd_U o i).testBit (o i) = false := by
  apply rd_nt
  intro z
  obtain ⟨j, hj, e⟩ := (rd_U_bit (h.1 i hi) i (fun t ht => h.1 t (by omega))).mp z
  exact h.2.1 j i hj hi e
theorem rd_U_pc (h5 : ∀ i, i < n → o i < 5) (hn : ∀ i, i < n → (rd_U o i).testBit (o i) = false) : ∀ i, i ≤ n → rd_pc (rd_U o i) 5 = i
  | 0, _ => (by decide : rd_pc 0 5 = 0)
  | i + 1, h => by
    rw [rd_U_s, rd_pc_or _ (rd_U_lt i (fun t ht => h5 t (by omega))) _ (h5 i (by omega)) (hn i (by omega)), rd_U_pc h5 hn i (by omega)]
theorem rd_perm_pc (hP : P < 32) (h : rd_perm P n o) : rd_pc P 5 = n := by
  have e := rd_U_pc h.1 (fun i hi => rd_perm_new h hi) n (Nat.le_refl n)
  rw [rd_perm_U hP h] at e
  exact e
theorem rd_perm_n (hP : P < 32) (h : rd_perm P n o) : n ≤ 5 := by
  have e := rd_perm_pc hP h
  have g := rd_pc_le P hP
  omega
theorem rd_perm_of (h5 : ∀ i, i < n → o i < 5) (hn : ∀ i, i < n → (rd_U o i).testBit (o i) = false) (hU : rd_U o n = P) : rd_perm P n o := by
  refine ⟨h5, fun i j hij hj e => ?_, fun k hk => ?_⟩
  · have z := hn j hj
    rw [← e] at z
    exact rd_tf ((rd_U_bit (h5 i (by omega)) j (fun t ht => h5 t (by omega))).mpr ⟨i, hij, rfl⟩) z
  · rw [← hU]
    exact rd_U_bit hk n h5
theorem rd_perm_inj (h : rd_perm P n o) {i j : Nat} (hi : i < n) (hj : j < n) (e : o i = o j) : i = j := by
  rcases Nat.lt_trichotomy i j with z | z | z
  · exact absurd e (h.2.1 i j z hj)
  · exact z
  · exact absurd e.symm (h.2.1 j i z hi)
theorem rd_perm_in (h : rd_perm P n o) {i : Nat} (hi : i < n) : P.testBit (o i) = true := (h.2.2 (o i) (h.1 i hi)).mpr ⟨i, hi, rfl⟩
/-- the same tasks in another order: σ and τ undo each other -/
theorem rd_perm_re (h : rd_perm P n o) {o' σ τ : Nat → Nat} (he : ∀ i, i < n → o' i = o (σ i)) (h1 : ∀ i, i < n → σ i < n ∧ τ (σ i) = i) (h2 : ∀ i, i < n → τ i < n ∧ σ (τ i) = i) : rd_perm P n o' := by
  refine ⟨fun i hi => ?_, fun i j hij hj e => ?_, fun k hk => ?_⟩
  · rw [he i hi]; exact h.1 _ (h1 i hi).1
  · rw [he i (by omega), he j hj] at e
    have g := rd_perm_inj h (h1 i (by omega)).1 (h1 j hj).1 e
    have g1 := (h1 i (by omega)).2
    have g2 := (h1 j hj).2
    rw [g] at g1
    omega
  · rw [h.2.2 k hk]
    constructor
    · intro z
      obtain ⟨j, hj, e⟩ := z
      exact ⟨τ j, (h2 j hj).1, by rw [he _ (h2 j hj).1, (h2 j hj).2]; exact e⟩
    · intro z
      obtain ⟨j, hj, e⟩ := z
      exact ⟨σ j, (h1 j hj).1, by rw [← he j hj]; exact e⟩
def rd_up (o : Nat → Nat) (i k : Nat) : Nat → Nat := fun j => if j = i then k else o j
theorem rd_up_s (i k : Nat) : rd_up o i k i = k := if_pos rfl
theorem rd_up_n {i j : Nat} (h : j ≠ i) : rd_up o i k j = o j := if_neg h
end
/-! ===== tables over sets ===== -/
section
variable {T : Nat → Nat → Prop} {P s k : Nat}
def rd_st (T : Nat → Nat → Prop) (P k s : Nat) : Prop := k < 5 ∧ P.testBit k = true ∧ s.testBit k = false ∧ rd_sub s P ∧ T k s
def rd_path (T : Nat → Nat → Prop) (P : Nat) : List Nat → Nat → Prop
  | [], s => s = P
  | k :: l, s => rd_st T P k s ∧ rd_path T P l (s ||| 2 ^ k)
/-- the tasks outside s can be put below those in s, all in time -/
def rd_reach (T : Nat → Nat → Prop) (P s : Nat) : Prop := ∃ l, rd_path T P l s
theorem rd_reach_iff : rd_reach T P s ↔ (s = P ∨ ∃ k, k < 5 ∧ rd_st T P k s ∧ rd_reach T P (s ||| 2 ^ k)) := by
  constructor
  · intro z
    obtain ⟨l, h⟩ := z
    cases l with
    | nil => exact Or.inl h
    | cons k l => exact Or.inr ⟨k, h.1.1, h.1, l, h.2⟩
  · intro z
    rcases z with z | ⟨k, _, h, l, g⟩
    · exact ⟨[], z⟩
    · exact ⟨k :: l, h, g⟩
def rd_stA (T : Nat → Nat → Prop) (P k s : Nat) : Prop := k < 5 ∧ s.testBit k = true ∧ P.testBit k = true ∧ T k (rd_del s k &&& P)
def rd_pathA (T : Nat → Nat → Prop) (P : Nat) : List Nat → Nat → Prop
  | [], s => s = 0
  | k :: l, s => rd_stA T P k s ∧ rd_pathA T P l (rd_del s k)
/-- the tasks in s can be put in order, all in time -/
def rd_amg (T : Nat → Nat → Prop) (P s : Nat) : Prop := ∃ l, rd_pathA T P l s
theorem rd_amg_iff : rd_amg T P s ↔ (s = 0 ∨ ∃ k, k < 5 ∧ rd_stA T P k s ∧ rd_amg T P (rd_del s k)) := by
  constructor
  · intro z
    obtain ⟨l, h⟩ := z
    cases l with
    | nil => exact Or.inl h
    | cons k l => exact Or.inr ⟨k, h.1.1, h.1, l, h.2⟩
  · intro z
    rcases z with z | ⟨k, _, h, l, g⟩
    · exact ⟨[], z⟩
    · exact ⟨k :: l, h, g⟩
theorem rd_U_sub {n i : Nat} {o : Nat → Nat} (h : rd_perm P n o) (hi : i ≤ n) : rd_sub (rd_U o i) P := by
  intro k hk z
  obtain ⟨j, hj, e⟩ := (rd_U_bit hk i (fun t ht => h.1 t (by omega))).mp z
  exact (h.2.2 k hk).mpr ⟨j, by omega, e⟩
/-- a good order is a way through the first table -/
theorem rd_good_reach {n : Nat} {o : Nat → Nat} (hP : P < 32) (h : rd_perm P n o) (hg : ∀ j, j < n → T (o j) (rd_U o j)) : ∀ m i, i + m = n → rd_reach T P (rd_U o i)
  | 0, i, e => rd_reach_iff.mpr (Or.inl (by rw [show i = n by omega]; exact rd_perm_U hP h))
  | m + 1, i, e => rd_reach_iff.mpr (Or.inr ⟨o i, h.1 i (by omega), ⟨h.1 i (by omega), rd_perm_in h (by omega), rd_perm_new h (by omega), rd_U_sub h (by omega), hg i (by omega)⟩, rd_good_reach hP h hg m (i + 1) (by omega)⟩)
/-- and through the second -/
theorem rd_good_amg {n : Nat} {o : Nat → Nat} (hP : P < 32) (h : rd_perm P n o) (hg : ∀ j, j < n → T (o j) (rd_U o j)) : ∀ i, i ≤ n → rd_amg T P (rd_U o i)
  | 0, _ => ⟨[], rfl⟩
  | i + 1, hi => by
    have hU : rd_U o i < 32 := rd_U_lt i (fun t ht => h.1 t (by omega))
    have ho : o i < 5 := h.1 i (by omega)
    have e : rd_del (rd_U o (i + 1)) (o i) = rd_U o i := rd_del_or _ hU _ ho (rd_perm_new h (by omega))
    refine rd_amg_iff.mpr (Or.inr ⟨o i, ho, ⟨ho, ?_, rd_perm_in h (by omega), ?_⟩, ?_⟩)
    · exact (rd_U_bit ho (i + 1) (fun t ht => h.1 t (by omega))).mpr ⟨i, by omega, rfl⟩
    · rw [e, rd_and_sub0 _ hU _ hP (rd_U_sub h (by omega))]
      exact hg i (by omega)
    · rw [e]
      exact rd_good_amg hP h hg i (by omega)
/-- one task less: the others stay in time -/
theorem rd_path_less {x : Nat} (hP : P < 32) (hx : x < 5) (hxP : P.testBit x = false) (hT : ∀ k s s', k < 5 → (P ||| 2 ^ x).testBit k = true → rd_sub s' s → T k s → T k s') : ∀ l s, s < 32 → rd_path T (P ||| 2 ^ x) l s → rd_reach T P (rd_del s x)
  | [], s, hs, h => by
    have e : s = P ||| 2 ^ x := h
    rw [e, rd_del_or P hP x hx hxP]
    exact ⟨[], rfl⟩
  | k :: l, s, hs, h => by
    obtain ⟨⟨hk, h1, h2, h3, h4⟩, h5⟩ := h
    have ih := rd_path_less hP hx hxP hT l (s ||| 2 ^ k) (rd_orlt s hs k hk) h5
    by_cases e : k = x
    · subst e
      rw [rd_del_or s hs k hk h2] at ih
      rw [rd_del_id s hs k hk h2]
      exact ih
    · rw [rd_del_com s hs k hk x hx e] at ih
      refine rd_reach_iff.mpr (Or.inr ⟨k, hk, ⟨hk, ?_, ?_, ?_, ?_⟩, ih⟩)
      · rw [rd_tor P hP x hx k hk, Bool.or_eq_true, decide_eq_true_iff] at h1
        exact h1.resolve_right e
      · rw [rd_tdel s hs x hx k hk, h2]
        rfl
      · intro j hj z
        rw [rd_tdel s hs x hx j hj, Bool.and_eq_true, Bool.not_eq_true', decide_eq_false_iff_not] at z
        have g := h3 j hj z.1
        rw [rd_tor P hP x hx j hj, Bool.or_eq_true, decide_eq_true_iff] at g
        exact g.resolve_right z.2
      · refine hT k s _ hk h1 (fun j hj z => ?_) h4
        rw [rd_tdel s hs x hx j hj, Bool.and_eq_true] at z
        exact z.1
theorem rd_reach_less {x : Nat} (hP : P < 32) (hx : x < 5) (hxP : P.testBit x = false) (hT : ∀ k s s', k < 5 → (P ||| 2 ^ x).testBit k = true → rd_sub s' s → T k s → T k s') (h : rd_reach T (P ||| 2 ^ x) 0) : rd_reach T P 0 := by
  obtain ⟨l, g⟩ := h
  have z := rd_path_less hP hx hxP hT l 0 (by decide) g
  rw [rd_del_id 0 (by decide) x hx (rd_z x hx)] at z
  exact z
end
/-! ===== idle time ===== -/
def rd_id (w : Nat → Nat) : Nat → Nat
  | 0 => 0
  | t + 1 => if (t + 1) - w (t + 1) ≤ rd_id w t then rd_id w t else (t + 1) - w (t + 1)
theorem rd_id_s (w : Nat → Nat) (t : Nat) : rd_id w (t + 1) = if (t + 1) - w (t + 1) ≤ rd_id w t then rd_id w t else (t + 1) - w (t + 1) := rfl
theorem rd_id_ge (w : Nat → Nat) : ∀ t, t - w t ≤ rd_id w t
  | 0 => by rw [Nat.zero_sub]; exact Nat.zero_le _
  | t + 1 => by
    rw [rd_id_s]
    split <;> omega
theorem rd_id_up (w : Nat → Nat) (t : Nat) : rd_id w t ≤ rd_id w (t + 1) := by
  rw [rd_id_s]
  split <;> omega
theorem rd_id_1 {w : Nat → Nat} {t : Nat} (h : w t ≤ w (t + 1)) : rd_id w (t + 1) ≤ rd_id w t + 1 := by
  have g := rd_id_ge w t
  rw [rd_id_s]
  split <;> omega
theorem rd_id_le (w : Nat → Nat) : ∀ t, rd_id w t ≤ t
  | 0 => Nat.le_refl _
  | t + 1 => by
    have g := rd_id_le w t
    rw [rd_id_s]
    split <;> omega
end
section
/-! ===== walks of what only reads ===== -/
/-- the three byte arrays hold c, d, p -/
def rd_A (c d p : Nat → Nat) (a1 a2 a3 : Nat → Int32) : Prop := ∀ k, k < 5 → a1 k = nI (c k) ∧ a2 k = nI (d k) ∧ a3 k = nI (p k) ∧ c k ≤ 15 ∧ d k ≤ 15 ∧ p k ≤ 15
section
variable {post : Int32 → Prop} {f0 f1 : Int32} {a1 a2 a3 a4 a5 a6 : Nat → Int32} {c d p o : Nat → Nat} {P n s k t : Nat}
theorem rd_in (hs : s < 32) (hk : k < 5) (h1 : s.testBit k = true → post 1) (h0 : s.testBit k = false → post 0) : wpX_in post () (nI s) (nI k) :=
  ek_if (rd_bit0 s hs k hk) h0 (fun z => h1 (rd_nf z))
theorem rd_inE {x : Int32} (u : Nat) (hx : x = nI u) (hu : u < 32) (hk : k < 5) (h1 : u.testBit k = true → post 1) (h0 : u.testBit k = false → post 0) : wpX_in post () x (nI k) := by
  subst hx
  exact rd_in hu hk h1 h0
theorem rd_w41 {J : Int32 → Int32 → Prop} {x1 : Int32} {w i q : Nat} (hA : rd_A c d p a1 a2 a3) (hi : i < 5) (hq : 1 ≤ q) (hq2 : q ≤ 15) (ht : t ≤ 61) (H : J (nI (w + (t + q - 1) / q * c i)) (nI (i + 1))) : wX_workIn_41 post J x1 (nI t) (nI w) (nI i) (nI q) f0 f1 a1 a2 a3 a4 a5 a6 := by
  refine ⟨nI_ne0 (by omega) (by omega), pk_in i 5 hi, nm_r ?_ (nm_r (nI_1 i) H)⟩
  rw [nI_clamp (by omega), (hA i hi).1, nI_add, show (1 : Int32) = nI 1 from rfl, pk_sub (by omega), pk_div (by omega) (by omega) (by omega), pk_mul, nI_add]
theorem rd_workIn (hA : rd_A c d p a1 a2 a3) (hs : s < 32) (ht : t ≤ 61) (H : post (nI (rd_W c p s t 5))) : wpX_workIn post (f0, f1, a1, a2, a3, a4, a5, a6) (nI s) (nI t) :=
  pk_loop (σ := Unit) (fun m i _ => wX_workIn_5 post (nI s) (nI t) f0 f1 a1 a2 a3 a4 a5 a6 m (nI (rd_W c p s t i)) (nI i)) (fun _ _ => True) 5 0 () (by omega) trivial
    (fun m _ _ => pk_le 5 5 (fun _ => H) (fun z => absurd z (by omega)))
    (fun m i _ hi _ hw => by
      have hw' : wX_workIn_5 post (nI s) (nI t) f0 f1 a1 a2 a3 a4 a5 a6 m (nI (rd_W c p s t (i + 1))) (nI (i + 1)) := hw () trivial
      refine pk_le 5 i (fun z => absurd z (by omega)) (fun _ => rd_in hs hi (fun hb => br_f (by decide) ⟨pk_in i 5 hi, ?_⟩) (fun hb => br_t rfl (nm_r (nI_1 i) ?_)))
      · have ca : a3 (nI i).toNatClampNeg = nI (p i) := by
          rw [nI_clamp (by omega)]
          exact (hA i hi).2.2.1
        have hp15 := (hA i hi).2.2.2.2.2
        have e : rd_W c p s t (i + 1) = rd_W c p s t i + (t + rd_pp (p i) - 1) / rd_pp (p i) * c i := by
          show rd_W c p s t i + (if s.testBit i = true then rd_w1 c p t i else 0) = _
          rw [if_pos hb]
          rfl
        rw [e] at hw'
        refine pk_le (p i) 0 (fun z => ?_) (fun z => ⟨pk_in i 5 hi, ?_⟩) ca
        · rw [show rd_pp (p i) = 1 from if_pos (by omega)] at hw'
          exact rd_w41 (q := 1) hA hi (by omega) (by omega) ht hw'
        · rw [show rd_pp (p i) = p i from if_neg (by omega)] at hw'
          rw [ca]
          exact rd_w41 hA hi (by omega) hp15 ht hw'
      · have e : rd_W c p s t (i + 1) = rd_W c p s t i := by
          show rd_W c p s t i + (if s.testBit i = true then rd_w1 c p t i else 0) = _
          rw [if_neg (by rw [hb]; decide)]
          rfl
        rw [e] at hw'
        exact hw')
def rd_ri : Option Nat → Int32
  | none => -3
  | some t => nI t
theorem rd_W15 (hA : rd_A c d p a1 a2 a3) : rd_W c p s t 5 ≤ 5 * (t * 15) := rd_W_le 5 (fun j hj => (hA j hj).2.2.2.1)
theorem rd_r10 (hA : rd_A c d p a1 a2 a3) (hk : k < 5) (hs : s < 32) : ∀ m r t, r + m = 16 → t ≤ 15 → post (rd_ri (rd_R c p k s m t)) → wX_responseUnder_10 post (nI k) (nI s) f0 f1 a1 a2 a3 a4 a5 a6 (m + 1) (nI t) (nI r)
  | 0, r, t, hr, ht, H => by
    have e : r = 16 := by omega
    subst e
    exact br_t (by decide) H
  | m + 1, r, t, hr, ht, H => by
    obtain ⟨A1, A2, A3, A4, A5, A6⟩ := hA k hk
    have hW := rd_W15 (s := s) (t := t) hA
    have c1 : a1 (nI k).toNatClampNeg = nI (c k) := by rw [nI_clamp (by omega)]; exact A1
    have c3 : a3 (nI k).toNatClampNeg = nI (p k) := by rw [nI_clamp (by omega)]; exact A3
    refine pk_lt 15 r (fun z => absurd z (by omega)) (fun _ => ⟨pk_in k 5 hk, rd_workIn hA hs (by omega) ?_⟩)
    refine nm_r (e' := nI (c k + rd_W c p s t 5)) (by rw [c1, nI_add]) ?_
    refine pk_eq (c k + rd_W c p s t 5) t (fun z => ?_) (fun z => ⟨pk_in k 5 hk, ?_⟩)
    · rw [rd_R_1 z] at H
      exact H
    · refine pk_le (c k + rd_W c p s t 5) (p k) (fun y => nm_r (nI_1 r) ?_) (fun y => ?_) rfl c3
      · rw [rd_R_2 z y] at H
        exact rd_r10 hA hk hs m (r + 1) _ (by omega) (by omega) H
      · rw [rd_R_3 z (by omega)] at H
        exact H
theorem rd_resp (hA : rd_A c d p a1 a2 a3) (hk : k < 5) (hs : s < 32) (H : post (rd_ri (rd_R c p k s 16 (c k)))) : wpX_responseUnder post (f0, f1, a1, a2, a3, a4, a5, a6) (nI k) (nI s) := by
  obtain ⟨A1, A2, A3, A4, A5, A6⟩ := hA k hk
  exact ⟨pk_in k 5 hk, nm_r (e' := nI (c k)) (by rw [nI_clamp (by omega)]; exact A1) ⟨17, rd_r10 hA hk hs 16 0 (c k) (by omega) A4 H⟩⟩
theorem rd_itu (hA : rd_A c d p a1 a2 a3) (hk : k < 5) (hs : s < 32) (h1 : rd_T c d p k s → post 1) (h0 : ¬ rd_T c d p k s → post 0) : wpX_inTimeUnder post (f0, f1, a1, a2, a3, a4, a5, a6) (nI k) (nI s) := by
  obtain ⟨A1, A2, A3, A4, A5, A6⟩ := hA k hk
  unfold wpX_inTimeUnder
  refine rd_resp hA hk hs ?_
  cases e : rd_R c p k s 16 (c k) with
  | none =>
    refine br_t rfl (h0 (fun z => ?_))
    obtain ⟨r, h, _⟩ := z
    rw [e] at h
    exact nomatch h
  | some r =>
    have hr := rd_R_le A6 _ _ A4 e
    refine br_f (rd_n3 r (by omega)) ⟨pk_in k 5 hk, ?_⟩
    refine pk_lt (d k) r (fun z => h0 (fun y => ?_)) (fun z => h1 ⟨r, e, z⟩) (by rw [nI_clamp (by omega)]; exact A2)
    obtain ⟨r', h, g⟩ := y
    rw [e] at h
    cases h
    omega
theorem rd_ituE {y : Int32} (u : Nat) (hy : y = nI u) (hA : rd_A c d p a1 a2 a3) (hk : k < 5) (hu : u < 32) (h1 : rd_T c d p k u → post 1) (h0 : ¬ rd_T c d p k u → post 0) : wpX_inTimeUnder post (f0, f1, a1, a2, a3, a4, a5, a6) (nI k) y := by
  subst hy
  exact rd_itu hA hk hu h1 h0
theorem rd_has (hP : P < 32) (hk : k < 5) (h1 : P.testBit k = true → post 1) (h0 : P.testBit k = false → post 0) : wpX_has post (nI P, f1, a1, a2, a3, a4, a5, a6) (nI k) :=
  pk_lt k 0 (fun z => absurd z (by omega)) (fun _ => pk_le 5 k (fun z => absurd z (by omega)) (fun _ => ek_if (rd_bit0 P hP k hk) h0 (fun z => h1 (rd_nf z))))
theorem rd_placeOf {j : Nat} (hn : n ≤ 5) (hO : ∀ i, i < n → a4 i = nI (o i)) (h5 : ∀ i, i < n → o i < 5) (hj : j < n) (hne : ∀ i, i < j → o i ≠ o j) (H : post (nI j)) : wpX_placeOf post (f0, nI n, a1, a2, a3, a4, a5, a6) (nI (o j)) :=
  pk_loop (σ := Unit) (fun m i _ => wX_placeOf_2 post (nI (o j)) f0 (nI n) a1 a2 a3 a4 a5 a6 m (nI i)) (fun _ _ => True) j 0 () (by omega) trivial
    (fun m _ _ => pk_le (n - 1) j (fun _ => H) (fun z => ⟨pk_in j 5 (by omega), br_t (by rw [nI_clamp (by omega)]; exact hO j hj) H⟩) (pk_sub (a := n) (b := 1) (by omega)))
    (fun m i _ hi _ hw => pk_le (n - 1) i (fun z => absurd z (by omega)) (fun z => ⟨pk_in i 5 (by omega), br_f (by
      have g1 := h5 i (by omega)
      have g2 := h5 j hj
      rw [nI_clamp (by omega), hO i (by omega), nI_eq (by omega) (by omega)]
      exact hne i hi) (nm_r (nI_1 i) (hw () trivial))⟩) (pk_sub (a := n) (b := 1) (by omega)))
theorem rd_moreUrgent {j : Nat} (hn : n ≤ 5) (hO : ∀ i, i < n → a4 i = nI (o i)) (h5 : ∀ i, i < n → o i < 5) (hj : j < n) (hne : ∀ i, i < j → o i ≠ o j) (H : post (nI (rd_U o j))) : wpX_moreUrgent post (f0, nI n, a1, a2, a3, a4, a5, a6) (nI (o j)) := by
  unfold wpX_moreUrgent
  refine rd_placeOf hn hO h5 hj hne ?_
  exact pk_loop (σ := Unit) (fun m i _ => wX_moreUrgent_11 post (nI j) f0 (nI n) a1 a2 a3 a4 a5 a6 m (nI (rd_U o i)) (nI i)) (fun _ _ => True) j 0 () (by omega) trivial
    (fun m _ _ => pk_le j j (fun _ => H) (fun z => absurd z (by omega)))
    (fun m i _ hi _ hw => pk_le j i (fun z => absurd z (by omega)) (fun _ => ⟨pk_in i 5 (by omega), nm_r (e' := nI (rd_U o (i + 1))) (by
      rw [nI_clamp (by omega), hO i (by omega), rd_or1 _ (rd_U_lt i (fun t ht => h5 t (by omega))) _ (h5 i (by omega)), rd_U_s]) (nm_r (nI_1 i) (hw () trivial))⟩))
/-- the task k is in time at its place -/
def rd_G (c d p : Nat → Nat) (n : Nat) (o : Nat → Nat) (k : Nat) : Prop := ∃ j, j < n ∧ o j = k ∧ rd_T c d p k (rd_U o j)
def rd_Good (c d p : Nat → Nat) (n : Nat) (o : Nat → Nat) : Prop := ∀ j, j < n → rd_T c d p (o j) (rd_U o j)
theorem rd_inTime (hA : rd_A c d p a1 a2 a3) (hP : P < 32) (hO : ∀ i, i < n → a4 i = nI (o i)) (hm : rd_perm P n o) (H : ∀ s, s < 32 → (∀ j, j < 5 → (s.testBit j = true ↔ P.testBit j = true ∧ rd_G c d p n o j)) → post (nI s)) : wpX_inTime post (nI P, nI n, a1, a2, a3, a4, a5, a6) := by
  have hn := rd_perm_n hP hm
  exact pk_loop (fun m i (s : Nat) => wX_inTime_4 post (nI P) (nI n) a1 a2 a3 a4 a5 a6 m (nI s) (nI i)) (fun i s => s < 32 ∧ ∀ j, j < 5 → (s.testBit j = true ↔ j < i ∧ (P.testBit j = true ∧ rd_G c d p n o j))) 5 0 0 (by omega) ⟨by omega, rd_acc_0⟩
    (fun m s h => pk_le 5 5 (fun _ => H s h.1 (rd_acc_5 h.2)) (fun z => absurd z (by omega)))
    (fun m i s hi h hw => by
      refine pk_le 5 i (fun z => absurd z (by omega)) (fun _ => rd_has hP hi (fun hb => br_f (by decide) ?_) (fun hb => br_t rfl (nm_r (nI_1 i) (hw s ⟨h.1, rd_acc_out h.2 (fun z => rd_tf z.1 hb)⟩))))
      obtain ⟨j, hj, ej⟩ := (hm.2.2 i hi).mp hb
      subst ej
      refine rd_moreUrgent hn hO hm.1 hj (fun t ht => hm.2.1 t j ht hj) ?_
      refine rd_itu hA hi (rd_U_lt j (fun t ht => hm.1 t (by omega))) (fun hT => br_f (by decide) (nm_r (rd_or1 s h.1 (o j) hi) (nm_r (nI_1 (o j)) (hw _ ⟨rd_orlt s h.1 (o j) hi, rd_acc_in h.1 hi h.2 ⟨hb, j, hj, rfl, hT⟩⟩)))) (fun hT => br_t rfl (nm_r (rd_or0 s h.1) (nm_r (nI_1 (o j)) (hw s ⟨h.1, rd_acc_out h.2 ?_⟩))))
      intro z
      obtain ⟨_, j', hj', e', hT'⟩ := z
      rw [rd_perm_inj hm hj' hj e'] at hT'
      exact hT hT')
theorem rd_inTime_eq (hP : P < 32) (hm : rd_perm P n o) (hs : s < 32) (h : ∀ j, j < 5 → (s.testBit j = true ↔ P.testBit j = true ∧ rd_G c d p n o j)) : s = P ↔ rd_Good c d p n o := by
  constructor
  · intro e j hj
    subst e
    obtain ⟨j', hj', e', hT⟩ := ((h (o j) (hm.1 j hj)).mp (rd_perm_in hm hj)).2
    rw [rd_perm_inj hm hj' hj e'] at hT
    exact hT
  · intro hg
    refine rd_ext s hs P hP (fun j hj => ?_)
    cases h2 : P.testBit j
    · exact rd_nt (fun z => rd_tf ((h j hj).mp z).1 h2)
    · obtain ⟨i, hi, e⟩ := (hm.2.2 j hj).mp h2
      refine (h j hj).mpr ⟨h2, i, hi, e, ?_⟩
      rw [← e]
      exact hg i hi
theorem rd_good (hA : rd_A c d p a1 a2 a3) (hP : P < 32) (hO : ∀ i, i < n → a4 i = nI (o i)) (hm : rd_perm P n o) (h1 : rd_Good c d p n o → post 1) (h0 : ¬ rd_Good c d p n o → post 0) : wpX_good post (nI P, nI n, a1, a2, a3, a4, a5, a6) := by
  unfold wpX_good
  refine rd_inTime hA hP hO hm (fun s hs h => ?_)
  exact pk_eq s P (fun e => h1 ((rd_inTime_eq hP hm hs h).mp e)) (fun e => h0 (fun g => e ((rd_inTime_eq hP hm hs h).mpr g)))
/-- response of a task that is not there -/
theorem rd_response0 (hP : P < 32) (hk : k < 5) (hb : P.testBit k = false) (H : post (-1)) : wpX_response post (nI P, f1, a1, a2, a3, a4, a5, a6) (nI k) := by
  unfold wpX_response
  exact rd_has hP hk (fun z => (rd_tf z hb).elim) (fun _ => br_t rfl H)
/-- response of the first task: its cost -/
theorem rd_response1 (hA : rd_A c d p a1 a2 a3) (hP : P < 32) (hO : ∀ i, i < n → a4 i = nI (o i)) (hm : rd_perm P n o) (h0 : 0 < n) (H : post (nI (c (o 0)))) : wpX_response post (nI P, nI n, a1, a2, a3, a4, a5, a6) (nI (o 0)) := by
  unfold wpX_response
  refine rd_has hP (hm.1 0 h0) (fun _ => br_f (by decide) ?_) (fun z => (rd_tf (rd_perm_in hm h0) z).elim)
  refine rd_moreUrgent (rd_perm_n hP hm) hO hm.1 h0 (fun i hi => absurd hi (by omega)) ?_
  refine rd_resp hA (hm.1 0 h0) (rd_U_lt 0 (fun i hi => absurd hi (by omega))) ?_
  have e : rd_R c p (o 0) (rd_U o 0) 16 (c (o 0)) = some (c (o 0)) := rd_R_1 (by
    show c (o 0) + rd_W c p 0 (c (o 0)) 5 = _
    rw [rd_W_0 5 (by omega)]
    rfl)
  rw [e]
  exact H
theorem rd_at {i : Nat} (hn : n ≤ 5) (hO : ∀ i, i < n → a4 i = nI (o i)) (hi : i < n) (H : post (nI (o i))) : wpX_at post (f0, nI n, a1, a2, a3, a4, a5, a6) (nI i) :=
  pk_lt i 0 (fun z => absurd z (by omega)) (fun _ => pk_lt i n (fun _ => ⟨pk_in i 5 (by omega), by rw [nI_clamp (by omega), hO i hi]; exact H⟩) (fun z => absurd z (by omega)))
theorem rd_at0 {i : Nat} (hi5 : i < 5) (hn : n ≤ 5) (hi : n ≤ i) (H : post (-1)) : wpX_at post (f0, nI n, a1, a2, a3, a4, a5, a6) (nI i) :=
  pk_lt i 0 (fun z => absurd z (by omega)) (fun _ => pk_lt i n (fun z => absurd z (by omega)) (fun _ => H))
/-! idle -/
theorem rd_idle4 {x : Nat} (hA : rd_A c d p a1 a2 a3) (hP : P < 32) (hx : x ≤ 61) (H : post (nI (rd_id (fun t => rd_W c p P t 5) (if x ≤ 60 then x else 60)))) : ∀ m t, t + m = (if x ≤ 60 then x else 60) → wX_idle_4 post (nI x) (nI P) f1 a1 a2 a3 a4 a5 a6 (m + 1) (nI (rd_id (fun t => rd_W c p P t 5) t)) (nI (t + 1))
  | 0, t, e => by
    have e2 : t = (if x ≤ 60 then x else 60) := by omega
    rw [← e2] at H
    have hx2 : t ≤ 60 := by rw [e2]; split <;> omega
    refine pk_lt x (t + 1) (fun _ => H) (fun z => pk_lt 60 (t + 1) (fun _ => H) (fun y => ?_))
    exfalso
    revert e2
    split <;> omega
  | m + 1, t, e => by
    have hb : t + 1 ≤ x ∧ t + 1 ≤ 60 := by revert e; split <;> omega
    have ih := rd_idle4 hA hP hx H m (t + 1) (by omega)
    have hW := rd_W15 (s := P) (t := t + 1) hA
    have hI := rd_id_le (fun t => rd_W c p P t 5) t
    refine pk_lt x (t + 1) (fun z => absurd z (by omega)) (fun _ => pk_lt 60 (t + 1) (fun z => absurd z (by omega)) (fun _ => rd_workIn hA hP (by omega) ?_))
    rw [rd_id_s] at ih
    by_cases g : rd_W c p P (t + 1) 5 ≤ t + 1
    · refine nm_r (pk_sub g) ?_
      refine pk_le (t + 1 - rd_W c p P (t + 1) 5) (rd_id (fun t => rd_W c p P t 5) t) (fun z => nm_r (nI_1 (t + 1)) ?_) (fun z => nm_r (nI_1 (t + 1)) ?_)
      · rw [if_pos z] at ih
        exact ih
      · rw [if_neg (by omega)] at ih
        exact ih
    · refine nm_e ?_
      rw [if_pos (by omega)] at ih
      refine br_t ?_ (nm_r (nI_1 (t + 1)) ih)
      rw [Int32.le_iff_toInt_le, pk_sub_toInt (by omega) (by omega), nI_toInt (by omega)]
      omega
theorem rd_idle {x : Nat} (hA : rd_A c d p a1 a2 a3) (hP : P < 32) (hx : x ≤ 61) (H : post (nI (rd_id (fun t => rd_W c p P t 5) (if x ≤ 60 then x else 60)))) : wpX_idle post (nI P, f1, a1, a2, a3, a4, a5, a6) (nI x) :=
  ⟨(if x ≤ 60 then x else 60) + 1, rd_idle4 hA hP hx H _ 0 (by omega)⟩
theorem rd_idle_m1 (H : post 0) : wpX_idle post (f0, f1, a1, a2, a3, a4, a5, a6) (-1) := ⟨1, br_t (by decide) H⟩
theorem rd_idles (hA : rd_A c d p a1 a2 a3) (hP : P < 32) (H : post 1) : wpL_idles post (nI P, f1, a1, a2, a3, a4, a5, a6) := by
  have key : ∀ m t, t + m = 60 → wL_idles_4 post (nI P) f1 a1 a2 a3 a4 a5 a6 (m + 1) (nI (rd_id (fun t => rd_W c p P t 5) t)) (nI (t + 1)) := by
    intro m
    induction m with
    | zero =>
      intro t e
      have e2 : t = 60 := by omega
      subst e2
      have hI := rd_id_le (fun t => rd_W c p P t 5) 60
      refine pk_lt 60 (60 + 1) (fun _ => ?_) (fun z => absurd z (by omega))
      refine rd_idle (x := 0) hA hP (by omega) (br_t rfl (rd_idle_m1 (br_t rfl ?_)))
      exact rd_idle (x := 61) hA hP (by omega) (br_t rfl H)
    | succ m ih =>
      intro t e
      have hI := rd_id_le (fun t => rd_W c p P t 5) t
      have hI2 := rd_id_le (fun t => rd_W c p P t 5) (t + 1)
      have hu := rd_id_up (fun t => rd_W c p P t 5) t
      have h1 := rd_id_1 (w := fun t => rd_W c p P t 5) (t := t) (rd_W_mono (by omega) 5 (fun _ _ z => z))
      refine pk_lt 60 (t + 1) (fun z => absurd z (by omega)) (fun _ => ?_)
      refine rd_idle (x := t + 1) hA hP (by omega) ?_
      rw [if_pos (show t + 1 ≤ 60 by omega)]
      refine pk_lt (rd_id (fun t => rd_W c p P t 5) (t + 1)) (rd_id (fun t => rd_W c p P t 5) t) (fun z => absurd z (by omega)) (fun _ => ?_)
      exact pk_le (rd_id (fun t => rd_W c p P t 5) (t + 1)) (rd_id (fun t => rd_W c p P t 5) t + 1) (fun _ => nm_r (nI_1 (t + 1)) (ih (t + 1) (by omega))) (fun z => absurd z (by omega)) rfl (nI_1 _)
  exact ⟨61, key 60 0 (by omega)⟩
end
end
section
/-! ===== fill: the two tables ===== -/
def rd_okB (T : Nat → Nat → Prop) (P : Nat) (a : Nat → Int32) (s : Nat) : Prop := ∃ v, v ≤ rd_cap s ∧ a s = nI v ∧ (0 < v ↔ rd_reach T P s)
def rd_okC (T : Nat → Nat → Prop) (P : Nat) (a : Nat → Int32) (s : Nat) : Prop := ∃ v, v ≤ rd_cap2 s ∧ a s = nI v ∧ (0 < v ↔ rd_amg T P s)
theorem rd_exOut {A : Prop} {C : Nat → Prop} {k v : Nat} (h : 0 < v ↔ A ∨ ∃ j, j < k ∧ C j) (hC : ¬ C k) : 0 < v ↔ A ∨ ∃ j, j < k + 1 ∧ C j := by
  rw [h]
  constructor
  · intro z
    rcases z with z | ⟨j, hj, z⟩
    · exact Or.inl z
    · exact Or.inr ⟨j, by omega, z⟩
  · intro z
    rcases z with z | ⟨j, hj, z⟩
    · exact Or.inl z
    · by_cases e : j = k
      · rw [e] at z; exact absurd z hC
      · exact Or.inr ⟨j, by omega, z⟩
theorem rd_exIn {A : Prop} {C : Nat → Prop} {k v u : Nat} (h : 0 < v ↔ A ∨ ∃ j, j < k ∧ C j) (hC : 0 < u ↔ C k) : 0 < v + u ↔ A ∨ ∃ j, j < k + 1 ∧ C j := by
  constructor
  · intro z
    by_cases e : 0 < v
    · rcases h.mp e with z | ⟨j, hj, z⟩
      · exact Or.inl z
      · exact Or.inr ⟨j, by omega, z⟩
    · exact Or.inr ⟨k, by omega, hC.mp (by omega)⟩
  · intro z
    rcases z with z | ⟨j, hj, z⟩
    · have := h.mpr (Or.inl z)
      omega
    · by_cases e : j = k
      · rw [e] at z
        have := hC.mpr z
        omega
      · have := h.mpr (Or.inr ⟨j, by omega, z⟩)
        omega
theorem rd_iffAnd {A B : Prop} {u : Nat} (h : 0 < u ↔ B) (a : A) : 0 < u ↔ A ∧ B := h.trans ⟨fun z => ⟨a, z⟩, fun z => z.2⟩
section
variable {post : St1 → Prop} {f1 : Int32} {a1 a2 a3 a4 a5 a6 : Nat → Int32} {c d p o : Nat → Nat} {P n s k : Nat}
theorem rd_f28 {J : Int32 → (Nat → Int32) → (Nat → Int32) → (Nat → Int32) → (Nat → Int32) → (Nat → Int32) → (Nat → Int32) → Prop} {v0 : Nat} (hA : rd_A c d p a1 a2 a3) (hP : P < 32) (hs : s < 32)
    (hB : ∀ x, s < x → x < 32 → rd_okB (rd_T c d p) P a5 x) (h0 : a5 s = nI v0) (hv : v0 ≤ 1) (hv0 : 0 < v0 ↔ s = P)
    (H : ∀ b5, (∀ x, s ≤ x → x < 32 → rd_okB (rd_T c d p) P b5 x) → J (nI s + (-1)) a1 a2 a3 a4 b5 a6) : ∃ m, wX_fill_28 post J (nI s) (nI P) f1 m 0 a1 a2 a3 a4 a5 a6 :=
  pk_loop (fun m k b => wX_fill_28 post J (nI s) (nI P) f1 m (nI k) a1 a2 a3 a4 b a6) (fun k b => (∀ x, s < x → x < 32 → rd_okB (rd_T c d p) P b x) ∧ ∃ v, 6 * v ≤ 6 + k * rd_cap s ∧ b s = nI v ∧ (0 < v ↔ s = P ∨ ∃ j, j < k ∧ (rd_st (rd_T c d p) P j s ∧ rd_reach (rd_T c d p) P (s ||| 2 ^ j)))) 5 0 a5 (by omega)
    ⟨hB, v0, by omega, h0, hv0.trans ⟨Or.inl, fun z => z.elim id (fun ⟨j, hj, _⟩ => absurd hj (by omega))⟩⟩
    (fun m b h => by
      obtain ⟨hb, v, h1, h2, h3⟩ := h
      refine pk_le 5 5 (fun _ => nm_e (H b (fun x hx hx2 => ?_))) (fun z => absurd z (by omega))
      by_cases e : x = s
      · subst e
        have g := rd_cap_b x hs
        exact ⟨v, by omega, h2, h3.trans rd_reach_iff.symm⟩
      · exact hb x (by omega) hx2)
    (fun m k b hk h hw => by
      obtain ⟨hb, v, h1, h2, h3⟩ := h
      have hcap := rd_cap_b s hs
      have hsucc : (k + 1) * rd_cap s = k * rd_cap s + rd_cap s := Nat.succ_mul k (rd_cap s)
      have out : ¬ (rd_st (rd_T c d p) P k s ∧ rd_reach (rd_T c d p) P (s ||| 2 ^ k)) → wX_fill_28 post J (nI s) (nI P) f1 m (nI (k + 1)) a1 a2 a3 a4 b a6 := fun hC => hw b ⟨hb, v, by omega, h2, rd_exOut h3 hC⟩
      refine pk_le 5 k (fun z => absurd z (by omega)) (fun _ => rd_inE (P &&& (31 - s)) (rd_diff P hP s hs) (rd_difflt P hP s hs) hk (fun hb1 => br_f (by decide) (ek_if (rd_subz s hs P hP) (fun hsub => rd_itu hA hk hs (fun hT => br_f (by decide) ?_) (fun hT => br_t rfl (nm_r (nI_1 k) (out (fun z => hT z.1.2.2.2.2))))) (fun hsub => nm_r (nI_1 k) (out (fun z => hsub z.1.2.2.2.1))))) (fun hb0 => br_t rfl (nm_r (nI_1 k) (out (fun z => ?_)))))
      · rw [rd_tdiff P hP s hs k hk, Bool.and_eq_true, Bool.not_eq_true'] at hb1
        obtain ⟨u, u1, u2, u3⟩ := hb (s ||| 2 ^ k) (rd_gt_or s hs k hk hb1.2) (rd_orlt s hs k hk)
        have ucap := rd_cap_or s hs k hk hb1.2
        have e1 : (nI s ||| ((1 : Int32) <<< (nI k &&& 31))).toNatClampNeg = s ||| 2 ^ k := by
          have := rd_orlt s hs k hk
          rw [rd_or1 s hs k hk, nI_clamp (by omega)]
        refine ⟨pk_in s 32 hs, pk_in (s ||| 2 ^ k) 32 (rd_orlt s hs k hk) (rd_or1 s hs k hk), pk_in s 32 hs, nm_r (e' := upd b s (nI (v + u))) ?_ (nm_r (nI_1 k) (hw _ ⟨fun x hx hx2 => ?_, v + u, by omega, pk_us, rd_exIn h3 (rd_iffAnd u3 ⟨hk, hb1.1, hb1.2, hsub, hT⟩)⟩))⟩
        · rw [e1, nI_clamp (by omega), h2, u2, nI_add]
        · obtain ⟨w, w1, w2, w3⟩ := hb x hx hx2
          exact ⟨w, w1, by rw [pk_un (by omega)]; exact w2, w3⟩
      · rw [rd_tdiff P hP s hs k hk, z.1.2.1, z.1.2.2.1] at hb0
        exact absurd hb0 (by decide))
theorem rd_f124 {J : Int32 → (Nat → Int32) → (Nat → Int32) → (Nat → Int32) → (Nat → Int32) → (Nat → Int32) → (Nat → Int32) → Prop} {v0 : Nat} (hA : rd_A c d p a1 a2 a3) (hP : P < 32) (hs : s < 32)
    (hB : ∀ x, x < s → rd_okC (rd_T c d p) P a6 x) (h0 : a6 s = nI v0) (hv : v0 ≤ 1) (hv0 : 0 < v0 ↔ s = 0)
    (H : ∀ b6, (∀ x, x < s + 1 → rd_okC (rd_T c d p) P b6 x) → J (nI (s + 1)) a1 a2 a3 a4 a5 b6) : ∃ m, wX_fill_124 post J (nI s) (nI P) f1 m 0 a1 a2 a3 a4 a5 a6 :=
  pk_loop (fun m k b => wX_fill_124 post J (nI s) (nI P) f1 m (nI k) a1 a2 a3 a4 a5 b) (fun k b => (∀ x, x < s → rd_okC (rd_T c d p) P b x) ∧ ∃ v, 6 * v ≤ 6 + k * rd_cap2 s ∧ b s = nI v ∧ (0 < v ↔ s = 0 ∨ ∃ j, j < k ∧ (rd_stA (rd_T c d p) P j s ∧ rd_amg (rd_T c d p) P (rd_del s j)))) 5 0 a6 (by omega)
    ⟨hB, v0, by omega, h0, hv0.trans ⟨Or.inl, fun z => z.elim id (fun ⟨j, hj, _⟩ => absurd hj (by omega))⟩⟩
    (fun m b h => by
      obtain ⟨hb, v, h1, h2, h3⟩ := h
      refine pk_le 5 5 (fun _ => nm_r (nI_1 s) (H b (fun x hx => ?_))) (fun z => absurd z (by omega))
      by_cases e : x = s
      · subst e
        have g := rd_cap2_b x hs
        exact ⟨v, by omega, h2, h3.trans rd_amg_iff.symm⟩
      · exact hb x (by omega))
    (fun m k b hk h hw => by
      obtain ⟨hb, v, h1, h2, h3⟩ := h
      have hcap := rd_cap2_b s hs
      have hsucc : (k + 1) * rd_cap2 s = k * rd_cap2 s + rd_cap2 s := Nat.succ_mul k (rd_cap2 s)
      have hd := rd_dellt s hs k hk
      have out : ¬ (rd_stA (rd_T c d p) P k s ∧ rd_amg (rd_T c d p) P (rd_del s k)) → wX_fill_124 post J (nI s) (nI P) f1 m (nI (k + 1)) a1 a2 a3 a4 a5 b := fun hC => hw b ⟨hb, v, by omega, h2, rd_exOut h3 hC⟩
      refine pk_le 5 k (fun z => absurd z (by omega)) (fun _ => nm_r (rd_del1 s hs k hk) (rd_inE (s &&& P) (rd_and s hs P hP) (rd_andlt s hs P hP) hk (fun hb1 => br_f (by decide) (rd_ituE (rd_del s k &&& P) (rd_and _ hd P hP) hA hk (rd_andlt _ hd P hP) (fun hT => br_f (by decide) ?_) (fun hT => br_t rfl (nm_r (nI_1 k) (out (fun z => hT z.1.2.2.2)))))) (fun hb0 => br_t rfl (nm_r (nI_1 k) (out (fun z => ?_))))))
      · rw [rd_tand s hs P hP k hk, Bool.and_eq_true] at hb1
        obtain ⟨u, u1, u2, u3⟩ := hb (rd_del s k) (rd_lt_del s hs k hk hb1.1)
        have ucap := rd_cap2_del s hs k hk hb1.1
        refine ⟨pk_in s 32 hs, pk_in (rd_del s k) 32 hd, pk_in s 32 hs, nm_r (e' := upd b s (nI (v + u))) ?_ (nm_r (nI_1 k) (hw _ ⟨fun x hx => ?_, v + u, by omega, pk_us, rd_exIn h3 (rd_iffAnd u3 ⟨hk, hb1.1, hb1.2, hT⟩)⟩))⟩
        · rw [nI_clamp (show rd_del s k < 2 ^ 31 by omega), nI_clamp (show s < 2 ^ 31 by omega), h2, u2, nI_add]
        · obtain ⟨w, w1, w2, w3⟩ := hb x hx
          exact ⟨w, w1, by rw [pk_un (by omega)]; exact w2, w3⟩
      · rw [rd_tand s hs P hP k hk, z.1.2.1, z.1.2.2.1] at hb0
        exact absurd hb0 (by decide))
theorem rd_f101 (hA : rd_A c d p a1 a2 a3) (hP : P < 32) (H : ∀ b6, (∀ x, x < 32 → rd_okC (rd_T c d p) P b6 x) → post (nI P, f1, a1, a2, a3, a4, a5, b6)) : ∃ m, wX_fill_101 post (nI P) f1 m 0 a1 a2 a3 a4 a5 a6 :=
  pk_loop (fun m i b => wX_fill_101 post (nI P) f1 m (nI i) a1 a2 a3 a4 a5 b) (fun i b => ∀ x, x < i → rd_okC (rd_T c d p) P b x) 32 0 a6 (by omega) (fun x hx => absurd hx (by omega))
    (fun m b h => pk_le 32 32 (fun _ => H b h) (fun z => absurd z (by omega)))
    (fun m i b hi h hw => by
      have keep : ∀ y x, x < i → rd_okC (rd_T c d p) P (upd b i y) x := by
        intro y x hx
        obtain ⟨w, w1, w2, w3⟩ := h x hx
        exact ⟨w, w1, by rw [pk_un (by omega)]; exact w2, w3⟩
      have ec : (nI i).toNatClampNeg = i := nI_clamp (by omega)
      refine pk_le 32 i (fun z => absurd z (by omega)) (fun _ => pk_eq i 0 (fun z => ⟨pk_in i 32 hi, nm_r (e' := upd b i (nI 1)) (by rw [ec]; rfl) ?_⟩) (fun z => ⟨pk_in i 32 hi, nm_r (e' := upd b i (nI 0)) (by rw [ec]; rfl) ?_⟩))
      · exact rd_f124 hA hP hi (keep _) pk_us (by omega) ⟨fun _ => z, fun _ => by omega⟩ (fun b6 hb6 => hw b6 hb6)
      · exact rd_f124 hA hP hi (keep _) pk_us (by omega) ⟨fun y => absurd y (by omega), fun y => absurd y z⟩ (fun b6 hb6 => hw b6 hb6))
theorem rd_fill (hA : rd_A c d p a1 a2 a3) (hP : P < 32) (H : ∀ b5 b6, (∀ x, x < 32 → rd_okB (rd_T c d p) P b5 x) → (∀ x, x < 32 → rd_okC (rd_T c d p) P b6 x) → post (nI P, f1, a1, a2, a3, a4, b5, b6)) : wpX_fill post (nI P, f1, a1, a2, a3, a4, a5, a6) := by
  unfold wpX_fill
  refine ⟨33, ?_⟩
  have e31 : (31 : Int32) = nI 32 + (-1) := by decide
  rw [e31]
  refine pk_loopD (fun m i b => wX_fill_3 post (nI P) f1 m (nI i + (-1)) a1 a2 a3 a4 b a6) (fun i b => i ≤ 32 ∧ ∀ x, i ≤ x → x < 32 → rd_okB (rd_T c d p) P b x) ?_ ?_ 32 a5 ⟨by omega, fun x h1 h2 => absurd h1 (by omega)⟩
  · intro m b h
    exact br_t (by decide) (rd_f101 hA hP (fun b6 h6 => H b b6 (fun x hx => h.2 x (by omega) hx) h6))
  · intro m i b h hw
    show wX_fill_3 post (nI P) f1 (m + 1) (nI (i + 1) + (-1)) a1 a2 a3 a4 b a6
    rw [pk_m1]
    have hi : i < 32 := h.1
    have keep : ∀ y x, i < x → x < 32 → rd_okB (rd_T c d p) P (upd b i y) x := by
      intro y x hx hx2
      obtain ⟨w, w1, w2, w3⟩ := h.2 x (by omega) hx2
      exact ⟨w, w1, by rw [pk_un (by omega)]; exact w2, w3⟩
    have ec : (nI i).toNatClampNeg = i := nI_clamp (by omega)
    refine br_f (nI_pos (by omega)) (pk_eq i P (fun z => ⟨pk_in i 32 hi, nm_r (e' := upd b i (nI 1)) (by rw [ec]; rfl) ?_⟩) (fun z => ⟨pk_in i 32 hi, nm_r (e' := upd b i (nI 0)) (by rw [ec]; rfl) ?_⟩))
    · exact rd_f28 hA hP hi (keep _) pk_us (by omega) ⟨fun _ => z, fun _ => by omega⟩ (fun b5 hb5 => hw b5 ⟨by omega, hb5⟩)
    · exact rd_f28 hA hP hi (keep _) pk_us (by omega) ⟨fun y => absurd y (by omega), fun y => absurd y z⟩ (fun b5 hb5 => hw b5 ⟨by omega, hb5⟩)
end
section
variable {post : Int32 → St1 → Prop} {f1 : Int32} {a1 a2 a3 a4 a5 a6 : Nat → Int32} {c d p o : Nat → Nat} {P n s k : Nat}
theorem rd_goodOrders (hA : rd_A c d p a1 a2 a3) (hP : P < 32) (H : ∀ v b5 b6, v ≤ 7776 → (0 < v ↔ rd_reach (rd_T c d p) P 0) → post (nI v) (nI P, f1, a1, a2, a3, a4, b5, b6)) : wpX_goodOrders post (nI P, f1, a1, a2, a3, a4, a5, a6) := by
  unfold wpX_goodOrders
  refine rd_fill hA hP (fun b5 b6 h5 h6 => ?_)
  obtain ⟨v, v1, v2, v3⟩ := h5 0 (by omega)
  have g := (rd_cap_b 0 (by omega)).1
  show post (b5 0) (nI P, f1, a1, a2, a3, a4, b5, b6)
  rw [v2]
  exact H v b5 b6 (by omega) v3
theorem rd_canFollow {post : Int32 → Prop} (hA : rd_A c d p a1 a2 a3) (hP : P < 32) (hs : s < 32) (hk : k < 5) (hB : ∀ x, x < 32 → rd_okB (rd_T c d p) P a5 x)
    (h1 : P.testBit k = true ∧ s.testBit k = false ∧ rd_T c d p k s ∧ rd_reach (rd_T c d p) P (s ||| 2 ^ k) → post 1)
    (h0 : ¬ (P.testBit k = true ∧ s.testBit k = false ∧ rd_T c d p k s ∧ rd_reach (rd_T c d p) P (s ||| 2 ^ k)) → post 0) : wpX_canFollow post (nI P, f1, a1, a2, a3, a4, a5, a6) (nI s) (nI k) := by
  unfold wpX_canFollow
  have hor := rd_orlt s hs k hk
  obtain ⟨v, v1, v2, v3⟩ := hB (s ||| 2 ^ k) hor
  have g := (rd_cap_b _ hor).1
  have e1 : a5 (nI s ||| ((1 : Int32) <<< (nI k &&& 31))).toNatClampNeg = nI v := by
    rw [rd_or1 s hs k hk, nI_clamp (by omega)]
    exact v2
  refine rd_inE (P &&& (31 - s)) (rd_diff P hP s hs) (rd_difflt P hP s hs) hk (fun hb1 => br_f (by decide) ⟨pk_in (s ||| 2 ^ k) 32 hor (rd_or1 s hs k hk), ?_⟩) (fun hb0 => br_t rfl (h0 (fun z => ?_)))
  · rw [rd_tdiff P hP s hs k hk, Bool.and_eq_true, Bool.not_eq_true'] at hb1
    exact pk_le v 0 (fun z => h0 (fun y => absurd (v3.mpr y.2.2.2) (by omega))) (fun z => rd_itu hA hk hs (fun hT => br_f (by decide) (h1 ⟨hb1.1, hb1.2, hT, v3.mp z⟩)) (fun hT => br_t rfl (h0 (fun y => hT y.2.2.1)))) e1
  · rw [rd_tdiff P hP s hs k hk, z.1, z.2.1] at hb0
    exact absurd hb0 (by decide)
theorem rd_a29 {J : Int32 → Int32 → (Nat → Int32) → (Nat → Int32) → (Nat → Int32) → (Nat → Int32) → (Nat → Int32) → (Nat → Int32) → Prop} {x2 : Int32} (hA : rd_A c d p a1 a2 a3) (hP : P < 32) (hs : s < 32) (hB : ∀ x, x < 32 → rd_okB (rd_T c d p) P a5 x)
    (hex : ∃ k, k < 5 ∧ (P.testBit k = true ∧ s.testBit k = false ∧ rd_T c d p k s ∧ rd_reach (rd_T c d p) P (s ||| 2 ^ k)))
    (H : ∀ k, k < 5 → (P.testBit k = true ∧ s.testBit k = false ∧ rd_T c d p k s ∧ rd_reach (rd_T c d p) P (s ||| 2 ^ k)) → wX_arrange_49 post J (nI s) x2 (nI k) (nI P) f1 a1 a2 a3 a4 a5 a6) :
    ∃ m, wX_arrange_29 post J (nI s) x2 (nI P) f1 a1 a2 a3 a4 a5 a6 m 0 := by
  obtain ⟨k, ⟨hk, hC⟩, hmin⟩ := pk_least _ hex
  exact pk_loop (σ := Unit) (fun m i _ => wX_arrange_29 post J (nI s) x2 (nI P) f1 a1 a2 a3 a4 a5 a6 m (nI i)) (fun _ _ => True) k 0 () (by omega) trivial
    (fun m _ _ => pk_le 4 k (fun _ => H k hk hC) (fun z => rd_canFollow hA hP hs hk hB (fun _ => br_f (by decide) (H k hk hC)) (fun z => absurd hC z)))
    (fun m i _ hi _ hw => pk_le 4 i (fun z => absurd z (by omega)) (fun z => rd_canFollow hA hP hs (by omega) hB (fun y => absurd ⟨by omega, y⟩ (hmin i hi)) (fun _ => br_t rfl (nm_r (nI_1 i) (hw () trivial)))))
theorem rd_arrange (hA : rd_A c d p a1 a2 a3) (hP : P < 32) (hn : rd_pc P 5 = n)
    (H0 : ¬ rd_reach (rd_T c d p) P 0 → ∀ b5 b6, post 0 (nI P, nI n, a1, a2, a3, a4, b5, b6))
    (H1 : rd_reach (rd_T c d p) P 0 → ∀ o b4 b5 b6, (∀ i, i < n → b4 i = nI (o i)) → rd_perm P n o → rd_Good c d p n o → post 1 (nI P, nI n, a1, a2, a3, b4, b5, b6)) : wpX_arrange post (nI P, nI n, a1, a2, a3, a4, a5, a6) := by
  unfold wpX_arrange
  have hn5 := rd_pc_le P hP
  refine rd_fill hA hP (fun b5 b6 h5 h6 => ?_)
  obtain ⟨v, v1, v2, v3⟩ := h5 0 (by omega)
  have g := (rd_cap_b 0 (by omega)).1
  refine pk_eq v 0 (fun z => H0 (fun y => absurd (v3.mpr y) (by omega)) b5 b6) (fun z => ?_) v2
  have hr := v3.mp (by omega)
  refine pk_loop (fun m i (q : (Nat → Int32) × (Nat → Nat)) => wX_arrange_19 post (nI P) (nI n) m (nI (rd_U q.2 i)) (nI i) a1 a2 a3 q.1 b5 b6)
    (fun i q => (∀ j, j < i → q.1 j = nI (q.2 j)) ∧ (∀ j, j < i → q.2 j < 5) ∧ (∀ j, j < i → (rd_U q.2 j).testBit (q.2 j) = false) ∧ (∀ j, j < i → rd_T c d p (q.2 j) (rd_U q.2 j)) ∧ rd_reach (rd_T c d p) P (rd_U q.2 i) ∧ rd_sub (rd_U q.2 i) P)
    n 0 (a4, fun _ => 0) (by omega) ⟨fun j hj => absurd hj (by omega), fun j hj => absurd hj (by omega), fun j hj => absurd hj (by omega), fun j hj => absurd hj (by omega), hr, fun j hj y => (rd_tf y (rd_z j hj)).elim⟩ ?_ ?_
  · intro m q h
    obtain ⟨i1, i2, i3, i4, i5, i6⟩ := h
    have hU : rd_U q.2 n = P := rd_pc_eq0 _ (rd_U_lt n i2) P hP i6 (by rw [rd_U_pc i2 i3 n (Nat.le_refl n), hn])
    exact pk_le n n (fun _ => H1 hr q.2 q.1 b5 b6 i1 (rd_perm_of i2 i3 hU) i4) (fun y => absurd y (by omega))
  · intro m i q hi h hw
    obtain ⟨i1, i2, i3, i4, i5, i6⟩ := h
    have hUl := rd_U_lt i i2
    have hne : rd_U q.2 i ≠ P := by
      intro e
      have e2 := rd_U_pc i2 i3 i (Nat.le_refl i)
      rw [e] at e2
      omega
    refine pk_le n i (fun y => absurd y (by omega)) (fun _ => rd_a29 hA hP hUl h5 ?_ (fun k hk hC => ?_))
    · rcases rd_reach_iff.mp i5 with y | ⟨k, hk, y1, y2⟩
      · exact absurd y hne
      · exact ⟨k, hk, y1.2.1, y1.2.2.1, y1.2.2.2.2, y2⟩
    · have hlow : ∀ j, j < i → rd_up q.2 i k j = q.2 j := fun j hj => rd_up_n (by omega)
      have hUc : ∀ j, j ≤ i → rd_U (rd_up q.2 i k) j = rd_U q.2 j := fun j hj => rd_U_congr j (fun t ht => hlow t (by omega))
      have hUs : rd_U (rd_up q.2 i k) (i + 1) = rd_U q.2 i ||| 2 ^ k := by rw [rd_U_s, hUc i (Nat.le_refl i), rd_up_s]
      have hw' : wX_arrange_19 post (nI P) (nI n) m (nI (rd_U (rd_up q.2 i k) (i + 1))) (nI (i + 1)) a1 a2 a3 (upd q.1 i (nI k)) b5 b6 := hw (upd q.1 i (nI k), rd_up q.2 i k) ?_
      · rw [hUs] at hw'
        refine ⟨pk_in i 5 (by omega), nm_r (e' := upd q.1 i (nI k)) (by rw [nI_clamp (by omega), rd_b8 k (by omega)]) (nm_r (rd_or1 _ hUl k hk) (nm_r (nI_1 i) hw'))⟩
      · refine ⟨fun j hj => ?_, fun j hj => ?_, fun j hj => ?_, fun j hj => ?_, ?_, ?_⟩
        · show upd q.1 i (nI k) j = nI (rd_up q.2 i k j)
          by_cases e : j = i
          · rw [e, pk_us, rd_up_s]
          · rw [pk_un e, rd_up_n e]
            exact i1 j (by omega)
        · show rd_up q.2 i k j < 5
          by_cases e : j = i
          · rw [e, rd_up_s]; exact hk
          · rw [rd_up_n e]; exact i2 j (by omega)
        · show (rd_U (rd_up q.2 i k) j).testBit (rd_up q.2 i k j) = false
          rw [hUc j (by omega)]
          by_cases e : j = i
          · rw [e, rd_up_s]; exact hC.2.1
          · rw [rd_up_n e]; exact i3 j (by omega)
        · show rd_T c d p (rd_up q.2 i k j) (rd_U (rd_up q.2 i k) j)
          rw [hUc j (by omega)]
          by_cases e : j = i
          · rw [e, rd_up_s]; exact hC.2.2.1
          · rw [rd_up_n e]; exact i4 j (by omega)
        · show rd_reach (rd_T c d p) P (rd_U (rd_up q.2 i k) (i + 1))
          rw [hUs]
          exact hC.2.2.2
        · show rd_sub (rd_U (rd_up q.2 i k) (i + 1)) P
          rw [hUs]
          intro j hj y
          rw [rd_tor _ hUl k hk j hj, Bool.or_eq_true, decide_eq_true_iff] at y
          rcases y with y | y
          · exact i6 j hj y
          · rw [y]; exact hC.1
theorem rd_arranged (hA : rd_A c d p a1 a2 a3) (hP : P < 32) (hO : ∀ i, i < n → a4 i = nI (o i)) (hm : rd_perm P n o)
    (H : ∀ o b4 b5 b6, (∀ i, i < n → b4 i = nI (o i)) → rd_perm P n o → post 1 (nI P, nI n, a1, a2, a3, b4, b5, b6)) : wpL_arranged post (nI P, nI n, a1, a2, a3, a4, a5, a6) := by
  unfold wpL_arranged
  refine rd_goodOrders hA hP (fun v b5 b6 hv hr => ?_)
  refine pk_le v 0 (fun z => ?_) (fun z => ?_)
  · unfold wL_arranged_12
    refine rd_arrange hA hP (rd_perm_pc hP hm) (fun _ b5 b6 => br_t rfl (br_t rfl (H o a4 b5 b6 hO hm))) (fun y => absurd (hr.mpr y) (by omega))
  · unfold wL_arranged_12
    refine rd_arrange hA hP (rd_perm_pc hP hm) (fun y => absurd (hr.mp z) y) (fun _ o' b4 b5 b6 hO' hm' hg => br_t rfl (br_f (by decide) (rd_good hA hP hO' hm' (fun _ => br_f (by decide) (H o' b4 b5 b6 hO' hm')) (fun y => absurd hg y))))
theorem rd_canBeLast (hA : rd_A c d p a1 a2 a3) (hP : P < 32)
    (H : ∀ s b5 b6, s < 32 → (∀ k, k < 5 → (s.testBit k = true ↔ P.testBit k = true ∧ rd_amg (rd_T c d p) P (rd_del P k) ∧ rd_T c d p k (rd_del P k))) → post (nI s) (nI P, f1, a1, a2, a3, a4, b5, b6)) : wpX_canBeLast post (nI P, f1, a1, a2, a3, a4, a5, a6) := by
  unfold wpX_canBeLast
  refine rd_fill hA hP (fun b5 b6 h5 h6 => ?_)
  exact pk_loop (fun m i (s : Nat) => wX_canBeLast_8 post (nI P) f1 a1 a2 a3 a4 b5 b6 m (nI s) (nI i)) (fun i s => s < 32 ∧ ∀ j, j < 5 → (s.testBit j = true ↔ j < i ∧ (P.testBit j = true ∧ rd_amg (rd_T c d p) P (rd_del P j) ∧ rd_T c d p j (rd_del P j)))) 5 0 0 (by omega) ⟨by omega, rd_acc_0⟩
    (fun m s h => pk_le 5 5 (fun _ => H s b5 b6 h.1 (rd_acc_5 h.2)) (fun z => absurd z (by omega)))
    (fun m i s hi h hw => by
      have hd := rd_dellt P hP i hi
      obtain ⟨v, v1, v2, v3⟩ := h6 (rd_del P i) hd
      have g := (rd_cap2_b _ hd).1
      have out : ¬ (P.testBit i = true ∧ rd_amg (rd_T c d p) P (rd_del P i) ∧ rd_T c d p i (rd_del P i)) → wX_canBeLast_8 post (nI P) f1 a1 a2 a3 a4 b5 b6 m (nI s) (nI (i + 1)) := fun hC => hw s ⟨h.1, rd_acc_out h.2 hC⟩
      refine pk_le 5 i (fun z => absurd z (by omega)) (fun _ => nm_r (rd_del1 P hP i hi) (rd_has hP hi (fun hb => br_f (by decide) ⟨pk_in (rd_del P i) 32 hd, ?_⟩) (fun hb => br_t rfl (nm_r (rd_or0 s h.1) (nm_r (nI_1 i) (out (fun z => rd_tf z.1 hb)))))))
      refine pk_le v 0 (fun z => nm_r (rd_or0 s h.1) (nm_r (nI_1 i) (out (fun y => absurd (v3.mpr y.2.1) (by omega))))) (fun z => rd_itu hA hi hd (fun hT => br_f (by decide) (nm_r (rd_or1 s h.1 i hi) (nm_r (nI_1 i) (hw _ ⟨rd_orlt s h.1 i hi, rd_acc_in h.1 hi h.2 ⟨hb, v3.mp z, hT⟩⟩)))) (fun hT => br_t rfl (nm_r (rd_or0 s h.1) (nm_r (nI_1 i) (out (fun y => hT y.2.2)))))) ?_
      rw [nI_clamp (by omega)]
      exact v2)
end
end
section
/-! ===== greatestCost, leastPeriod ===== -/
theorem rd_up_self {f : Nat → Nat} {k : Nat} : rd_up f k (f k) = f := by
  funext j
  unfold rd_up
  split
  · rename_i e
    rw [e]
  · rfl
section
variable {post : Int32 → St1 → Prop} {f1 : Int32} {a1 a2 a3 a4 a5 a6 : Nat → Int32} {c d p o : Nat → Nat} {P n s k : Nat}
theorem rd_A1 {b1 : Nat → Int32} {i : Nat} (hA : rd_A c d p a1 a2 a3) (hi : i ≤ 15) (hb : ∀ j, j < 5 → j ≠ k → b1 j = nI (c j)) : rd_A (rd_up c k i) d p (upd b1 k (nI i)) a2 a3 := by
  intro j hj
  obtain ⟨A1, A2, A3, A4, A5, A6⟩ := hA j hj
  by_cases e : j = k
  · subst e
    exact ⟨by rw [pk_us, rd_up_s], A2, A3, by rw [rd_up_s]; exact hi, A5, A6⟩
  · exact ⟨by rw [pk_un e, rd_up_n e]; exact hb j hj e, A2, A3, by rw [rd_up_n e]; exact A4, A5, A6⟩
theorem rd_A3 {b3 : Nat → Int32} {i : Nat} (hA : rd_A c d p a1 a2 a3) (hi : i ≤ 15) (hb : ∀ j, j < 5 → j ≠ k → b3 j = nI (p j)) : rd_A c d (rd_up p k i) a1 a2 (upd b3 k (nI i)) := by
  intro j hj
  obtain ⟨A1, A2, A3, A4, A5, A6⟩ := hA j hj
  by_cases e : j = k
  · subst e
    exact ⟨A1, A2, by rw [pk_us, rd_up_s], A4, A5, by rw [rd_up_s]; exact hi⟩
  · exact ⟨A1, A2, by rw [pk_un e, rd_up_n e]; exact hb j hj e, A4, A5, by rw [rd_up_n e]; exact A6⟩
theorem rd_greatest0 (hP : P < 32) (hk : k < 5) (hb : P.testBit k = false) (H : post (-1) (nI P, f1, a1, a2, a3, a4, a5, a6)) : wpX_greatestCost post (nI P, f1, a1, a2, a3, a4, a5, a6) (nI k) := by
  unfold wpX_greatestCost
  exact rd_has hP hk (fun z => (rd_tf z hb).elim) (fun _ => br_t rfl H)
theorem rd_least0 (hP : P < 32) (hk : k < 5) (hb : P.testBit k = false) (H : post (-1) (nI P, f1, a1, a2, a3, a4, a5, a6)) : wpX_leastPeriod post (nI P, f1, a1, a2, a3, a4, a5, a6) (nI k) := by
  unfold wpX_leastPeriod
  exact rd_has hP hk (fun z => (rd_tf z hb).elim) (fun _ => br_t rfl H)
theorem rd_greatest (hA : rd_A c d p a1 a2 a3) (hP : P < 32) (hO : ∀ i, i < n → a4 i = nI (o i)) (hm : rd_perm P n o) (hk : k < 5) (hb : P.testBit k = true) (hV : 1 ≤ c k ∧ c k ≤ d k)
    (H : ∀ b b1, b ≤ 15 → (rd_Good c d p n o → c k ≤ b) → rd_A c d p b1 a2 a3 → post (nI b) (nI P, nI n, b1, a2, a3, a4, a5, a6)) : wpX_greatestCost post (nI P, nI n, a1, a2, a3, a4, a5, a6) (nI k) := by
  unfold wpX_greatestCost
  obtain ⟨A1, A2, A3, A4, A5, A6⟩ := hA k hk
  have ec : (nI k).toNatClampNeg = k := nI_clamp (by omega)
  refine rd_has hP hk (fun _ => br_f (by decide) ⟨pk_in k 5 hk, nm_r (e' := nI (c k)) (by rw [ec]; exact A1) ?_⟩) (fun z => (rd_tf hb z).elim)
  refine pk_loop (fun m i (q : Nat × (Nat → Int32)) => wX_greatestCost_22 post (nI k) (nI (c k)) (nI P) (nI n) m (nI q.1) (nI i) q.2 a2 a3 a4 a5 a6) (fun i q => (∀ j, j < 5 → j ≠ k → q.2 j = nI (c j)) ∧ q.1 ≤ 15 ∧ (rd_Good c d p n o → c k < i → c k ≤ q.1)) (d k + 1) 1 (0, a1) (by omega) ⟨fun j hj _ => (hA j hj).1, by omega, fun _ z => absurd z (by omega)⟩ ?_ ?_
  · intro m q h
    obtain ⟨h1, h2, h3⟩ := h
    refine ⟨pk_in k 5 hk, pk_lt (d k) (d k + 1) (fun _ => ⟨pk_in k 5 hk, nm_r (e' := upd q.2 k (nI (c k))) (by rw [ec, rd_nb (by omega)]) (H q.1 _ h2 (fun g => h3 g (by omega)) ?_)⟩) (fun z => absurd z (by omega)) (by rw [ec]; exact A2)⟩
    have g := rd_A1 (k := k) hA A4 h1
    rw [rd_up_self] at g
    exact g
  · intro m i q hi h hw
    obtain ⟨h1, h2, h3⟩ := h
    have keep : ∀ j, j < 5 → j ≠ k → upd q.2 k (nI i) j = nI (c j) := fun j hj e => by rw [pk_un e]; exact h1 j hj e
    refine ⟨pk_in k 5 hk, pk_lt (d k) i (fun z => absurd z (by omega)) (fun _ => ⟨pk_in k 5 hk, nm_r (e' := upd q.2 k (nI i)) (by rw [ec, rd_b8 i (by omega)]) ?_⟩) (by rw [ec]; exact A2)⟩
    refine rd_good (rd_A1 hA (by omega) h1) hP hO hm (fun _ => br_f (by decide) (nm_r (nI_1 i) (hw (i, upd q.2 k (nI i)) ⟨keep, by show i ≤ 15; omega, fun _ z => by show c k ≤ i; omega⟩))) (fun hg => br_t rfl (nm_r (nI_1 i) (hw (q.1, upd q.2 k (nI i)) ⟨keep, h2, fun g z => ?_⟩)))
    by_cases e : i = c k
    · rw [e, rd_up_self] at hg
      exact absurd g hg
    · exact h3 g (by omega)
theorem rd_least (hA : rd_A c d p a1 a2 a3) (hP : P < 32) (hO : ∀ i, i < n → a4 i = nI (o i)) (hm : rd_perm P n o) (hk : k < 5) (hb : P.testBit k = true) (hV : 1 ≤ d k ∧ d k ≤ p k)
    (H : ∀ b b3, b ≤ 15 → (rd_Good c d p n o → 1 ≤ b ∧ b ≤ p k) → rd_A c d p a1 a2 b3 → post (nI b) (nI P, nI n, a1, a2, b3, a4, a5, a6)) : wpX_leastPeriod post (nI P, nI n, a1, a2, a3, a4, a5, a6) (nI k) := by
  unfold wpX_leastPeriod
  obtain ⟨A1, A2, A3, A4, A5, A6⟩ := hA k hk
  have ec : (nI k).toNatClampNeg = k := nI_clamp (by omega)
  refine rd_has hP hk (fun _ => br_f (by decide) ⟨pk_in k 5 hk, nm_r (e' := nI (p k)) (by rw [ec]; exact A3) ⟨16 - d k + 1, ?_⟩⟩) (fun z => (rd_tf hb z).elim)
  have e15 : (15 : Int32) = nI (d k - 1 + (16 - d k)) := by rw [show d k - 1 + (16 - d k) = 15 by omega]; rfl
  rw [e15]
  refine pk_loopD (fun m r (q : Nat × (Nat → Int32)) => wX_leastPeriod_23 post (nI k) (nI (p k)) (nI P) (nI n) m (nI q.1) (nI (d k - 1 + r)) a1 a2 q.2 a4 a5 a6) (fun r q => r ≤ 16 - d k ∧ (∀ j, j < 5 → j ≠ k → q.2 j = nI (p j)) ∧ q.1 ≤ 15 ∧ (rd_Good c d p n o → d k - 1 + r < p k → d k ≤ q.1 ∧ q.1 ≤ p k)) ?_ ?_ (16 - d k) (0, a3) ⟨Nat.le_refl _, fun j hj _ => (hA j hj).2.2.1, by omega, fun _ z => absurd z (by omega)⟩
  · intro m q h
    obtain ⟨h0, h1, h2, h3⟩ := h
    refine ⟨pk_in k 5 hk, pk_lt (d k - 1) (d k) (fun _ => ⟨pk_in k 5 hk, nm_r (e' := upd q.2 k (nI (p k))) (by rw [ec, rd_nb (by omega)]) (H q.1 _ h2 (fun g => ?_) ?_)⟩) (fun z => absurd z (by omega)) rfl (by rw [ec]; exact A2)⟩
    · have g2 := h3 g (by omega)
      exact ⟨by omega, g2.2⟩
    · have g := rd_A3 (k := k) hA A6 h1
      rw [rd_up_self] at g
      exact g
  · intro m r q h hw
    obtain ⟨h0, h1, h2, h3⟩ := h
    have keep : ∀ j, j < 5 → j ≠ k → upd q.2 k (nI (d k + r)) j = nI (p j) := fun j hj e => by rw [pk_un e]; exact h1 j hj e
    show wX_leastPeriod_23 post (nI k) (nI (p k)) (nI P) (nI n) (m + 1) (nI q.1) (nI (d k - 1 + (r + 1))) a1 a2 q.2 a4 a5 a6
    have em : nI (d k + r) + (-1) = nI (d k - 1 + r) := by
      rw [show d k + r = d k - 1 + r + 1 by omega]
      exact pk_m1 _
    rw [show d k - 1 + (r + 1) = d k + r by omega]
    refine ⟨pk_in k 5 hk, pk_lt (d k + r) (d k) (fun z => absurd z (by omega)) (fun _ => ⟨pk_in k 5 hk, nm_r (e' := upd q.2 k (nI (d k + r))) (by rw [ec, rd_b8 (d k + r) (by omega)]) ?_⟩) rfl (by rw [ec]; exact A2)⟩
    refine rd_good (rd_A3 hA (by omega) h1) hP hO hm (fun _ => br_f (by decide) (nm_r em (hw (d k + r, upd q.2 k (nI (d k + r))) ⟨by omega, keep, by show d k + r ≤ 15; omega, fun _ z => by show d k ≤ d k + r ∧ d k + r ≤ p k; omega⟩))) (fun hg => br_t rfl (nm_r em (hw (q.1, upd q.2 k (nI (d k + r))) ⟨by omega, keep, h2, fun g z => ?_⟩)))
    by_cases e : d k + r = p k
    · rw [e, rd_up_self] at hg
      exact absurd g hg
    · exact h3 g (by omega)
end
/-! ===== add, remove, place, fits ===== -/
section
variable {post : Int32 → St1 → Prop} {f1 : Int32} {a1 a2 a3 a4 a5 a6 : Nat → Int32} {c d p o : Nat → Nat} {P n s k : Nat}
theorem rd_numOk {q : Int32 → Prop} {x y z : Nat} (h1 : 1 ≤ x) (h2 : x ≤ y) (h3 : y ≤ z) (h4 : z ≤ 15) (H : q 1) : wpX_numbersOk q () (nI x) (nI y) (nI z) :=
  pk_lt x 1 (fun e => absurd e (by omega)) (fun _ => pk_lt y x (fun e => absurd e (by omega)) (fun _ => pk_lt z y (fun e => absurd e (by omega)) (fun _ => pk_lt 15 z (fun e => absurd e (by omega)) (fun _ => H))))
theorem rd_perm_add (hP : P < 32) (hm : rd_perm P n o) (hk : k < 5) (hb : P.testBit k = false) : rd_perm (P ||| 2 ^ k) (n + 1) (rd_up o n k) := by
  have hUc : ∀ j, j ≤ n → rd_U (rd_up o n k) j = rd_U o j := fun j hj => rd_U_congr j (fun t ht => rd_up_n (by omega))
  refine rd_perm_of (fun i hi => ?_) (fun i hi => ?_) ?_
  · by_cases e : i = n
    · rw [e, rd_up_s]; exact hk
    · rw [rd_up_n e]; exact hm.1 i (by omega)
  · rw [hUc i (by omega)]
    by_cases e : i = n
    · rw [e, rd_up_s, rd_perm_U hP hm]; exact hb
    · rw [rd_up_n e]; exact rd_perm_new hm (by omega)
  · rw [rd_U_s, hUc n (Nat.le_refl n), rd_perm_U hP hm, rd_up_s]
theorem rd_A_add {x y z : Nat} (hA : rd_A c d p a1 a2 a3) (hx : x ≤ 15) (hy : y ≤ 15) (hz : z ≤ 15) : rd_A (rd_up c k x) (rd_up d k y) (rd_up p k z) (upd a1 k (nI x)) (upd a2 k (nI y)) (upd a3 k (nI z)) := by
  intro j hj
  obtain ⟨A1, A2, A3, A4, A5, A6⟩ := hA j hj
  by_cases e : j = k
  · subst e
    rw [pk_us, pk_us, pk_us, rd_up_s, rd_up_s, rd_up_s]
    exact ⟨rfl, rfl, rfl, hx, hy, hz⟩
  · rw [pk_un e, pk_un e, pk_un e, rd_up_n e, rd_up_n e, rd_up_n e]
    exact ⟨A1, A2, A3, A4, A5, A6⟩
theorem rd_add {x y z : Nat} (hA : rd_A c d p a1 a2 a3) (hP : P < 32) (hO : ∀ i, i < n → a4 i = nI (o i)) (hm : rd_perm P n o) (h1 : 1 ≤ x) (h2 : x ≤ y) (h3 : y ≤ z) (h4 : z ≤ 15)
    (H0 : post (-2) (nI P, nI n, a1, a2, a3, a4, a5, a6))
    (H1 : ∀ k b1 b2 b3 b4, k < 5 → P.testBit k = false → n < 5 → rd_A (rd_up c k x) (rd_up d k y) (rd_up p k z) b1 b2 b3 → (∀ i, i < n + 1 → b4 i = nI (rd_up o n k i)) → rd_perm (P ||| 2 ^ k) (n + 1) (rd_up o n k) → post (nI k) (nI (P ||| 2 ^ k), nI (n + 1), b1, b2, b3, b4, a5, a6)) :
    wpX_add post (nI P, nI n, a1, a2, a3, a4, a5, a6) (nI x) (nI y) (nI z) := by
  unfold wpX_add
  refine rd_numOk h1 h2 h3 h4 (br_f (by decide) ?_)
  refine pk_loop (σ := Unit) (fun m i _ => wX_add_14 post (nI x) (nI y) (nI z) (nI P) (nI n) a1 a2 a3 a4 a5 a6 m (nI i)) (fun _ _ => True) 5 0 () (by omega) trivial (fun m _ _ => pk_le 5 5 (fun _ => H0) (fun e => absurd e (by omega))) ?_
  intro m i _ hi _ hw
  refine pk_le 5 i (fun e => absurd e (by omega)) (fun _ => rd_has hP hi (fun _ => br_f (by decide) (nm_r (nI_1 i) (hw () trivial))) (fun hb => br_t rfl ?_))
  have hn : n < 5 := by
    have e := rd_perm_pc hP hm
    have g := rd_pc_lt P hP i hi hb
    omega
  have ei : (nI i).toNatClampNeg = i := nI_clamp (by omega)
  have en : (nI n).toNatClampNeg = n := nI_clamp (by omega)
  refine nm_r (rd_or1 P hP i hi) ⟨pk_in i 5 hi, nm_r (e' := upd a1 i (nI x)) (by rw [ei, rd_b8 x (by omega)]) ⟨pk_in i 5 hi, nm_r (e' := upd a2 i (nI y)) (by rw [ei, rd_b8 y (by omega)]) ⟨pk_in i 5 hi, nm_r (e' := upd a3 i (nI z)) (by rw [ei, rd_b8 z (by omega)]) ⟨pk_in n 5 hn, nm_r (e' := upd a4 n (nI i)) (by rw [en, rd_b8 i (by omega)]) (nm_r (nI_1 n) (H1 i _ _ _ _ hi hb hn (rd_A_add hA (by omega) (by omega) h4) (fun t ht => ?_) (rd_perm_add hP hm hi hb)))⟩⟩⟩⟩
  by_cases e : t = n
  · rw [e, pk_us, rd_up_s]
  · rw [pk_un e, rd_up_n e]
    exact hO t (by omega)
/-- the places behind j move up -/
def rd_sg (j t : Nat) : Nat := if t < j then t else t + 1
theorem rd_perm_del (hP : P < 32) (hm : rd_perm P n o) {j : Nat} (hj : j < n) : rd_perm (rd_del P (o j)) (n - 1) (fun t => o (rd_sg j t)) := by
  have b1 : ∀ t, t < n - 1 → rd_sg j t < n ∧ rd_sg j t ≠ j := by
    intro t ht
    unfold rd_sg
    split <;> omega
  refine ⟨fun i hi => hm.1 _ (b1 i hi).1, fun i i' h hi' => hm.2.1 _ _ ?_ (b1 i' hi').1, fun k hk => ?_⟩
  · unfold rd_sg
    split <;> split <;> omega
  · rw [rd_tdel P hP (o j) (hm.1 j hj) k hk, Bool.and_eq_true, Bool.not_eq_true', decide_eq_false_iff_not, hm.2.2 k hk]
    constructor
    · intro z
      obtain ⟨⟨i, hi, e⟩, ne⟩ := z
      have hij : i ≠ j := fun g => ne (by rw [← e, g])
      refine ⟨if i < j then i else i - 1, by split <;> omega, ?_⟩
      show o (rd_sg j (if i < j then i else i - 1)) = k
      have es : rd_sg j (if i < j then i else i - 1) = i := by
        unfold rd_sg
        by_cases g : i < j
        · rw [if_pos g, if_pos g]
        · rw [if_neg g, if_neg (by omega)]
          omega
      rw [es]
      exact e
    · intro z
      obtain ⟨t, ht, e⟩ := z
      refine ⟨⟨rd_sg j t, (b1 t ht).1, e⟩, fun g => (b1 t ht).2 (rd_perm_inj hm (b1 t ht).1 hj ?_)⟩
      rw [← g]
      exact e
theorem rd_remove0 (hP : P < 32) (hk : k < 5) (hb : P.testBit k = false) (H : post 0 (nI P, f1, a1, a2, a3, a4, a5, a6)) : wpX_remove post (nI P, f1, a1, a2, a3, a4, a5, a6) (nI k) := by
  unfold wpX_remove
  exact rd_has hP hk (fun z => (rd_tf z hb).elim) (fun _ => br_t rfl H)
theorem rd_remove {j : Nat} (hP : P < 32) (hO : ∀ i, i < n → a4 i = nI (o i)) (hm : rd_perm P n o) (hj : j < n) (hk : o j = k)
    (H : ∀ o' b4, (∀ i, i < n - 1 → b4 i = nI (o' i)) → rd_perm (rd_del P k) (n - 1) o' → post 1 (nI (rd_del P k), nI (n - 1), a1, a2, a3, b4, a5, a6)) : wpX_remove post (nI P, nI n, a1, a2, a3, a4, a5, a6) (nI k) := by
  subst hk
  unfold wpX_remove
  have hn := rd_perm_n hP hm
  have hoj := hm.1 j hj
  refine rd_has hP hoj (fun _ => br_f (by decide) ?_) (fun z => (rd_tf (rd_perm_in hm hj) z).elim)
  refine rd_placeOf hn hO hm.1 hj (fun i hi => hm.2.1 i j hi hj) ?_
  refine nm_r (pk_sub (a := n) (b := 1) (by omega)) ?_
  refine pk_loop (fun m i b => wX_remove_28 post (nI (o j)) (nI P) (nI (n - 1)) m (nI i) a1 a2 a3 b a5 a6) (fun i b => j ≤ i ∧ ∀ t, t < n → b t = nI (if t < j then o t else if t < i then o (t + 1) else o t)) (n - 1) j a4 (by omega) ⟨Nat.le_refl j, fun t ht => ?_⟩ ?_ ?_
  · rw [hO t ht]
    by_cases e : t < j
    · rw [if_pos e]
    · rw [if_neg e, if_neg e]
  · intro m b h
    refine pk_le (n - 1) (n - 1) (fun _ => nm_r (rd_del1 P hP (o j) hoj) (H (fun t => o (rd_sg j t)) b (fun t ht => ?_) (rd_perm_del hP hm hj))) (fun z => absurd z (by omega))
    rw [h.2 t (by omega)]
    show _ = nI (o (rd_sg j t))
    unfold rd_sg
    by_cases e : t < j
    · rw [if_pos e, if_pos e]
    · rw [if_neg e, if_neg e, if_pos ht]
  · intro m i b hi h hw
    have e1 : b (i + 1) = nI (o (i + 1)) := by
      rw [h.2 (i + 1) (by omega), if_neg (by omega), if_neg (by omega)]
    have ho := hm.1 (i + 1) (by omega)
    refine pk_le (n - 1) i (fun z => absurd z (by omega)) (fun _ => ⟨pk_in (i + 1) 5 (by omega) (nI_1 i), pk_in i 5 (by omega), nm_r (e' := upd b i (nI (o (i + 1)))) (by rw [nI_1, nI_clamp (show i < 2 ^ 31 by omega), nI_clamp (show i + 1 < 2 ^ 31 by omega), e1, rd_nb (by omega)]) (nm_r (nI_1 i) (hw _ ⟨by omega, fun t ht => ?_⟩))⟩)
    by_cases e : t = i
    · rw [e, pk_us, if_neg (by omega), if_pos (by omega)]
    · rw [pk_un e, h.2 t ht]
      by_cases g : t < j
      · rw [if_pos g, if_pos g]
      · rw [if_neg g, if_neg g]
        by_cases g2 : t < i
        · rw [if_pos g2, if_pos (by omega)]
        · rw [if_neg g2, if_neg (by omega)]
/-! place -/
def rd_s1 (j i u : Nat) : Nat := if u < j then u else if u < i then u + 1 else if u = i then j else u
def rd_t1 (j i u : Nat) : Nat := if u < j then u else if u = j then i else if u ≤ i then u - 1 else u
def rd_s2 (j i u : Nat) : Nat := if u < i then u else if u = i then j else if u ≤ j then u - 1 else u
def rd_t2 (j i u : Nat) : Nat := if u < i then u else if u = j then i else if u < j then u + 1 else u
theorem rd_perm_s1 (hm : rd_perm P n o) {i j : Nat} (hi : i < n) (hj : j ≤ i) : rd_perm P n (fun u => o (rd_s1 j i u)) := by
  refine rd_perm_re hm (σ := rd_s1 j i) (τ := rd_t1 j i) (fun u hu => rfl) (fun u hu => ?_) (fun u hu => ?_)
  · unfold rd_s1 rd_t1
    by_cases h1 : u < j
    · simp only [if_pos h1]; exact ⟨hu, trivial⟩
    · by_cases h2 : u < i
      · simp only [if_neg h1, if_pos h2, if_neg (show ¬ u + 1 < j by omega), if_neg (show ¬ u + 1 = j by omega), if_pos (show u + 1 ≤ i by omega)]
        omega
      · by_cases h3 : u = i
        · simp only [if_neg h1, if_neg h2, if_pos h3, if_neg (show ¬ j < j by omega), if_true]
          omega
        · simp only [if_neg h1, if_neg h2, if_neg h3, if_neg (show ¬ u = j by omega), if_neg (show ¬ u ≤ i by omega)]
          exact ⟨hu, trivial⟩
  · unfold rd_s1 rd_t1
    by_cases h1 : u < j
    · simp only [if_pos h1]; exact ⟨hu, trivial⟩
    · by_cases h2 : u = j
      · simp only [if_neg h1, if_pos h2, if_neg (show ¬ i < j by omega), if_neg (show ¬ i < i by omega), if_true]
        omega
      · by_cases h3 : u ≤ i
        · simp only [if_neg h1, if_neg h2, if_pos h3, if_neg (show ¬ u - 1 < j by omega), if_pos (show u - 1 < i by omega)]
          omega
        · simp only [if_neg h1, if_neg h2, if_neg h3, if_neg (show ¬ u < i by omega), if_neg (show ¬ u = i by omega)]
          exact ⟨hu, trivial⟩
theorem rd_perm_s2 (hm : rd_perm P n o) {i j : Nat} (hj : j < n) (hi : i < j) : rd_perm P n (fun u => o (rd_s2 j i u)) := by
  refine rd_perm_re hm (σ := rd_s2 j i) (τ := rd_t2 j i) (fun u hu => rfl) (fun u hu => ?_) (fun u hu => ?_)
  · unfold rd_s2 rd_t2
    by_cases h1 : u < i
    · simp only [if_pos h1]; exact ⟨hu, trivial⟩
    · by_cases h2 : u = i
      · simp only [if_neg h1, if_pos h2, if_neg (show ¬ j < i by omega), if_true]
        omega
      · by_cases h3 : u ≤ j
        · simp only [if_neg h1, if_neg h2, if_pos h3, if_neg (show ¬ u - 1 < i by omega), if_neg (show ¬ u - 1 = j by omega), if_pos (show u - 1 < j by omega)]
          omega
        · simp only [if_neg h1, if_neg h2, if_neg h3, if_neg (show ¬ u = j by omega), if_neg (show ¬ u < j by omega)]
          exact ⟨hu, trivial⟩
  · unfold rd_s2 rd_t2
    by_cases h1 : u < i
    · simp only [if_pos h1]; exact ⟨hu, trivial⟩
    · by_cases h2 : u = j
      · simp only [if_neg h1, if_pos h2, if_neg (show ¬ i < i by omega), if_true]
        omega
      · by_cases h3 : u < j
        · simp only [if_neg h1, if_neg h2, if_pos h3, if_neg (show ¬ u + 1 < i by omega), if_neg (show ¬ u + 1 = i by omega), if_pos (show u + 1 ≤ j by omega)]
          omega
        · simp only [if_neg h1, if_neg h2, if_neg h3, if_neg (show ¬ u = i by omega), if_neg (show ¬ u ≤ j by omega)]
          exact ⟨hu, trivial⟩
theorem rd_p53 {b : Nat → Int32} {i j : Nat} (hk : k < 5) (hn : n ≤ 5) (hm : rd_perm P n o) (hj : j < n) (hi : i < j) (hkj : o j = k) (hO : ∀ u, u < n → b u = nI (o u))
    (H : ∀ b4, (∀ u, u < n → b4 u = nI (o (rd_s2 j i u))) → post 1 (nI P, nI n, a1, a2, a3, b4, a5, a6)) : ∃ m, wX_place_53 post (nI k) (nI i) (nI P) (nI n) m (nI j) a1 a2 a3 b a5 a6 := by
  refine ⟨j - i + 1, ?_⟩
  have ej : nI j = nI (i + (j - i)) := by rw [show i + (j - i) = j by omega]
  rw [ej]
  refine pk_loopD (fun m r q => wX_place_53 post (nI k) (nI i) (nI P) (nI n) m (nI (i + r)) a1 a2 a3 q a5 a6) (fun r q => i + r ≤ j ∧ ∀ u, u < n → q u = nI (if u ≤ i + r then o u else if u ≤ j then o (u - 1) else o u)) ?_ ?_ (j - i) b ⟨by omega, fun u hu => ?_⟩
  · intro m q h
    refine pk_le i i (fun _ => ⟨pk_in i 5 (by omega), nm_r (e' := upd q i (nI k)) (by rw [nI_clamp (by omega), rd_b8 k (by omega)]) (H _ (fun u hu => ?_))⟩) (fun z => absurd z (by omega))
    unfold rd_s2
    by_cases e : u = i
    · rw [e, pk_us, if_neg (by omega), if_pos rfl, hkj]
    · rw [pk_un e, h.2 u hu]
      by_cases g : u < i
      · rw [if_pos (by omega), if_pos g]
      · rw [if_neg (by omega), if_neg g, if_neg e]
        by_cases g2 : u ≤ j
        · rw [if_pos g2, if_pos g2]
        · rw [if_neg g2, if_neg g2]
  · intro m r q h hw
    show wX_place_53 post (nI k) (nI i) (nI P) (nI n) (m + 1) (nI (i + (r + 1))) a1 a2 a3 q a5 a6
    have hr := h.1
    have e1 : q (i + r) = nI (o (i + r)) := by
      rw [h.2 (i + r) (by omega), if_pos (by omega)]
    have ho := hm.1 (i + r) (by omega)
    have es : nI (i + (r + 1)) - 1 = nI (i + r) := pk_sub (a := i + (r + 1)) (b := 1) (by omega)
    refine pk_le (i + (r + 1)) i (fun z => absurd z (by omega)) (fun _ => ⟨pk_in (i + r) 5 (by omega) es, pk_in (i + (r + 1)) 5 (by omega), nm_r (e' := upd q (i + (r + 1)) (nI (o (i + r)))) (by rw [es, nI_clamp (show i + (r + 1) < 2 ^ 31 by omega), nI_clamp (show i + r < 2 ^ 31 by omega), e1, rd_nb (by omega)]) (nm_r (pk_m1 (i + r)) (hw _ ⟨by omega, fun u hu => ?_⟩))⟩)
    by_cases e : u = i + (r + 1)
    · rw [e, pk_us, if_neg (by omega), if_pos (by omega)]
      rfl
    · rw [pk_un e, h.2 u hu]
      by_cases g : u ≤ i + r
      · rw [if_pos (by omega), if_pos g]
      · rw [if_neg (by omega), if_neg g]
  · rw [hO u hu]
    by_cases g : u ≤ i + (j - i)
    · rw [if_pos g]
    · rw [if_neg g, if_neg (by omega)]
theorem rd_place {i : Nat} (hP : P < 32) (hO : ∀ i, i < n → a4 i = nI (o i)) (hm : rd_perm P n o) (hk : k < 5) (hi : i < 5)
    (H : ∀ r o' b4, (∀ i, i < n → b4 i = nI (o' i)) → rd_perm P n o' → post r (nI P, nI n, a1, a2, a3, b4, a5, a6)) : wpX_place post (nI P, nI n, a1, a2, a3, a4, a5, a6) (nI k) (nI i) := by
  unfold wpX_place
  have hn := rd_perm_n hP hm
  refine rd_has hP hk (fun hb => br_f (by decide) ?_) (fun hb => br_t rfl (H 0 o a4 hO hm))
  refine pk_lt i 0 (fun z => absurd z (by omega)) (fun _ => pk_lt i n (fun hin => ?_) (fun _ => H 0 o a4 hO hm))
  obtain ⟨j, hj, ej⟩ := (hm.2.2 k hk).mp hb
  subst ej
  refine rd_placeOf hn hO hm.1 hj (fun t ht => hm.2.1 t j ht hj) ?_
  by_cases hji : j ≤ i
  · refine pk_loop (fun m x b => wX_place_28 post (nI (o j)) (nI i) (nI P) (nI n) m (nI x) a1 a2 a3 b a5 a6) (fun x b => j ≤ x ∧ ∀ u, u < n → b u = nI (if u < j then o u else if u < x then o (u + 1) else o u)) i j a4 hji ⟨Nat.le_refl j, fun u hu => ?_⟩ ?_ ?_
    · rw [hO u hu]
      by_cases e : u < j
      · rw [if_pos e]
      · rw [if_neg e, if_neg e]
    · intro m b h
      refine pk_le i i (fun _ => ⟨1, pk_le i i (fun _ => ⟨pk_in i 5 hi, nm_r (e' := upd b i (nI (o j))) (by rw [nI_clamp (by omega), rd_b8 (o j) (by omega)]) (H 1 (fun u => o (rd_s1 j i u)) _ (fun u hu => ?_) (rd_perm_s1 hm hin hji))⟩) (fun z => absurd z (by omega))⟩) (fun z => absurd z (by omega))
      show upd b i (nI (o j)) u = nI (o (rd_s1 j i u))
      unfold rd_s1
      by_cases e : u = i
      · rw [e, pk_us, if_neg (by omega), if_neg (by omega), if_pos rfl]
      · rw [pk_un e, h.2 u hu]
        by_cases g : u < j
        · rw [if_pos g, if_pos g]
        · rw [if_neg g, if_neg g]
          by_cases g2 : u < i
          · rw [if_pos g2, if_pos g2]
          · rw [if_neg g2, if_neg g2, if_neg e]
    · intro m x b hx h hw
      have e1 : b (x + 1) = nI (o (x + 1)) := by
        rw [h.2 (x + 1) (by omega), if_neg (by omega), if_neg (by omega)]
      have ho := hm.1 (x + 1) (by omega)
      refine pk_le i x (fun z => absurd z (by omega)) (fun _ => ⟨pk_in (x + 1) 5 (by omega) (nI_1 x), pk_in x 5 (by omega), nm_r (e' := upd b x (nI (o (x + 1)))) (by rw [nI_1, nI_clamp (show x < 2 ^ 31 by omega), nI_clamp (show x + 1 < 2 ^ 31 by omega), e1, rd_nb (by omega)]) (nm_r (nI_1 x) (hw _ ⟨by omega, fun u hu => ?_⟩))⟩)
      by_cases e : u = x
      · rw [e, pk_us, if_neg (by omega), if_pos (by omega)]
      · rw [pk_un e, h.2 u hu]
        by_cases g : u < j
        · rw [if_pos g, if_pos g]
        · rw [if_neg g, if_neg g]
          by_cases g2 : u < x
          · rw [if_pos g2, if_pos (by omega)]
          · rw [if_neg g2, if_neg (by omega)]
  · exact ⟨1, pk_le i j (fun _ => rd_p53 (o := o) hk hn hm hj (by omega) rfl hO (fun b4 hb4 => H 1 (fun u => o (rd_s2 j i u)) b4 hb4 (rd_perm_s2 hm hj (by omega)))) (fun z => absurd z (by omega))⟩
/-- the numbers of the tasks that are there -/
def rd_V (c d p : Nat → Nat) (P : Nat) : Prop := ∀ k, k < 5 → P.testBit k = true → 1 ≤ c k ∧ c k ≤ d k ∧ d k ≤ p k
theorem rd_fits {x y z : Nat} (hA : rd_A c d p a1 a2 a3) (hP : P < 32) (hO : ∀ i, i < n → a4 i = nI (o i)) (hm : rd_perm P n o) (hV : rd_V c d p P) (h1 : 1 ≤ x) (h2 : x ≤ y) (h3 : y ≤ z) (h4 : z ≤ 15)
    (H : ∀ r c' d' p' o' b1 b2 b3 b4 b5 b6, rd_A c' d' p' b1 b2 b3 → (∀ k, k < 5 → P.testBit k = true → c' k = c k ∧ d' k = d k ∧ p' k = p k) → (∀ i, i < n → b4 i = nI (o' i)) → rd_perm P n o' → (¬ r = 0 → rd_reach (rd_T c' d' p') P 0) → post r (nI P, nI n, b1, b2, b3, b4, b5, b6)) :
    wpX_fits post (nI P, nI n, a1, a2, a3, a4, a5, a6) (nI x) (nI y) (nI z) := by
  unfold wpX_fits
  refine rd_add hA hP hO hm h1 h2 h3 h4 (br_f (by decide) (H 0 c d p o _ _ _ _ _ _ hA (fun _ _ _ => ⟨rfl, rfl, rfl⟩) hO hm (fun g => absurd rfl g))) (fun k b1 b2 b3 b4 hk hb hn hA' hO' hm' => ?_)
  refine br_t (nI_pos' (by omega)) ?_
  have hP' := rd_orlt P hP k hk
  refine rd_goodOrders hA' hP' (fun v b5 b6 hv hr => ?_)
  refine rd_remove (o := rd_up o n k) (j := n) hP' hO' hm' (by omega) (rd_up_s n k) (fun o' b4' hO2 hm2 => ?_)
  rw [rd_del_or P hP k hk hb] at hm2 ⊢
  have same : ∀ t, t < 5 → P.testBit t = true → rd_up c k x t = c t ∧ rd_up d k y t = d t ∧ rd_up p k z t = p t := by
    intro t ht hbt
    have e : t ≠ k := fun g => by rw [g] at hbt; exact rd_tf hbt hb
    exact ⟨rd_up_n e, rd_up_n e, rd_up_n e⟩
  refine pk_le v 0 (fun g => H 0 _ _ _ o' _ _ _ _ _ _ hA' same hO2 hm2 (fun g => absurd rfl g)) (fun g => H 1 _ _ _ o' _ _ _ _ _ _ hA' same hO2 hm2 (fun _ => ?_))
  refine rd_reach_less hP hk hb (fun t s s' ht hbt hs hT => rd_T_mono ?_ (hA' t ht).2.2.2.2.2 hs hT) (hr.mp g)
  by_cases e : t = k
  · rw [e, rd_up_s, rd_up_s]; exact h3
  · rw [rd_up_n e, rd_up_n e]
    rw [rd_tor P hP k hk t ht, Bool.or_eq_true, decide_eq_true_iff] at hbt
    exact (hV t ht (hbt.resolve_right e)).2.2
end
end
section
/-! ===== the packed long ===== -/
theorem rd_l15 : ∀ i, i < 64 → (15 : Int64).toBitVec.getLsbD i = decide (i < 4) := by decide +kernel
theorem rd_lm1 : ∀ i, i < 64 → (-1 : Int64).toBitVec.getLsbD i = true := by decide +kernel
theorem rd_sh0 : ∀ k, k < 5 → (((12 * nI k).toInt64 &&& 63).toBitVec.smod 64).toNat = 12 * k := by decide +kernel
theorem rd_sh8 : ∀ k, k < 5 → (((12 * nI k + 8).toInt64 &&& 63).toBitVec.smod 64).toNat = 12 * k + 8 := by decide +kernel
theorem rd_msk : ∀ k, k < 5 → ∀ j, j < 64 → ((4095 : Int64) <<< ((12 * nI k).toInt64 &&& 63)).toBitVec.getLsbD j = (decide (12 * k ≤ j) && decide (j < 12 * k + 12)) := by decide +kernel
/-- four bits of a long -/
theorem rd_nib {X S : Int64} {m v : Nat} (hS : (S.toBitVec.smod 64).toNat = m) (hm : m + 4 ≤ 64) (hv : v < 16) (h : ∀ i, i < 4 → X.toBitVec.getLsbD (m + i) = v.testBit i) : ((X >>> S) &&& 15).toInt32 = nI v := by
  apply Int32.toBitVec_inj.mp
  apply BitVec.eq_of_getLsbD_eq
  intro i hi
  have e1 : ((X >>> S) &&& 15).toInt32.toBitVec.getLsbD i = ((X >>> S) &&& 15).toBitVec.getLsbD i := by
    rw [Int64.toBitVec_toInt32, BitVec.getLsbD_signExtend]
    simp [hi, show i < 64 by omega]
  have e2 : (X >>> S).toBitVec.getLsbD i = (X.toBitVec.sshiftRight m).getLsbD i := by
    rw [← hS]
    rfl
  have e3 : (nI v).toBitVec.getLsbD i = v.testBit i := by
    show (BitVec.ofNat 32 v).getLsbD i = _
    rw [BitVec.getLsbD_ofNat]
    simp [hi]
  rw [e1, e3, Int64.toBitVec_and, BitVec.getLsbD_and, rd_l15 i (by omega), e2]
  by_cases h4 : i < 4
  · rw [← h i h4, BitVec.getLsbD_sshiftRight]
    simp [h4, show i < 64 by omega, show m + i < 64 by omega]
  · rw [decide_eq_false h4, Bool.and_false, Nat.testBit_lt_two_pow]
    exact Nat.lt_of_lt_of_le hv (Nat.pow_le_pow_right (n := 2) (i := 4) (by decide) (by omega))
/-- the long holds cost and period of the tasks that are there -/
def rd_S (sz : Int64) (c p : Nat → Nat) (P : Nat) : Prop := ∀ k, k < 5 → P.testBit k = true → ∀ i, i < 4 → sz.toBitVec.getLsbD (12 * k + i) = (c k).testBit i ∧ sz.toBitVec.getLsbD (12 * k + 8 + i) = (p k).testBit i
theorem rd_S_c {sz : Int64} {c p : Nat → Nat} {P k : Nat} (h : rd_S sz c p P) (hk : k < 5) (hb : P.testBit k = true) (hc : c k ≤ 15) : ((sz >>> ((12 * nI k).toInt64 &&& 63)) &&& 15).toInt32 = nI (c k) :=
  rd_nib (rd_sh0 k hk) (by omega) (by omega) (fun i hi => (h k hk hb i hi).1)
theorem rd_S_p {sz : Int64} {c p : Nat → Nat} {P k : Nat} (h : rd_S sz c p P) (hk : k < 5) (hb : P.testBit k = true) (hc : p k ≤ 15) : ((sz >>> ((12 * nI k + 8).toInt64 &&& 63)) &&& 15).toInt32 = nI (p k) :=
  rd_nib (rd_sh8 k hk) (by omega) (by omega) (fun i hi => (h k hk hb i hi).2)
theorem rd_S_0 {sz : Int64} {c p : Nat → Nat} : rd_S sz c p 0 := fun k hk z => (rd_tf z (rd_z k hk)).elim
theorem rd_S_congr {sz : Int64} {c p c' p' : Nat → Nat} {P : Nat} (h : rd_S sz c p P) (e : ∀ k, k < 5 → P.testBit k = true → c' k = c k ∧ p' k = p k) : rd_S sz c' p' P := by
  intro k hk hb i hi
  rw [(e k hk hb).1, (e k hk hb).2]
  exact h k hk hb i hi
theorem rd_S_del {sz : Int64} {c p : Nat → Nat} {P k : Nat} (h : rd_S sz c p P) (hP : P < 32) (hk : k < 5) : rd_S sz c p (rd_del P k) := by
  intro j hj hb
  rw [rd_tdel P hP k hk j hj, Bool.and_eq_true] at hb
  exact h j hj hb.1
/-- a bit of the new long -/
theorem rd_newbit {sz Y : Int64} {k j v : Nat} (hk : k < 5) (hj : j < 60) (hY : ∀ i, i < 64 → Y.toBitVec.getLsbD i = v.testBit i) (hv : v < 4096) :
    ((sz &&& (((4095 : Int64) <<< ((12 * nI k).toInt64 &&& 63)) ^^^ (-1))) ||| (Y <<< ((12 * nI k).toInt64 &&& 63))).toBitVec.getLsbD j = if 12 * k ≤ j ∧ j < 12 * k + 12 then v.testBit (j - 12 * k) else sz.toBitVec.getLsbD j := by
  have e2 : (Y <<< ((12 * nI k).toInt64 &&& 63)).toBitVec.getLsbD j = (Y.toBitVec <<< (12 * k)).getLsbD j := by
    rw [← rd_sh0 k hk]
    rfl
  rw [Int64.toBitVec_or, BitVec.getLsbD_or, Int64.toBitVec_and, BitVec.getLsbD_and, Int64.toBitVec_xor, BitVec.getLsbD_xor, rd_msk k hk j (by omega), rd_lm1 j (by omega), e2, BitVec.getLsbD_shiftLeft]
  by_cases h1 : 12 * k ≤ j
  · by_cases h2 : j < 12 * k + 12
    · rw [if_pos ⟨h1, h2⟩, hY (j - 12 * k) (by omega)]
      simp [h1, h2, show j < 64 by omega]
    · rw [if_neg (fun z => h2 z.2), hY (j - 12 * k) (by omega), Nat.testBit_lt_two_pow (Nat.lt_of_lt_of_le hv (Nat.pow_le_pow_right (n := 2) (i := 12) (by decide) (by omega)))]
      simp [h1, h2]
  · rw [if_neg (fun z => h1 z.1)]
    simp [h1, show j < 12 * k by omega]
theorem rd_S_add {sz : Int64} {c p : Nat → Nat} {P k x y z : Nat} (h : rd_S sz c p P) (hP : P < 32) (hk : k < 5) (hx : x ≤ 15) (hy : y ≤ 15) (hz : z ≤ 15) :
    rd_S ((sz &&& (((4095 : Int64) <<< ((12 * nI k).toInt64 &&& 63)) ^^^ (-1))) ||| ((((nI x + (16 * nI y)) + (256 * nI z)).toInt64) <<< ((12 * nI k).toInt64 &&& 63))) (rd_up c k x) (rd_up p k z) (P ||| 2 ^ k) := by
  have eY : ((nI x + (16 * nI y)) + (256 * nI z)).toInt64 = lN (x + 16 * y + 256 * z) := by
    rw [show (16 : Int32) = nI 16 from rfl, show (256 : Int32) = nI 256 from rfl, pk_mul, pk_mul, nI_add, nI_add, nI_l (by omega)]
  have hY : ∀ i, i < 64 → (lN (x + 16 * y + 256 * z)).toBitVec.getLsbD i = (x + 16 * y + 256 * z).testBit i := by
    intro i hi
    show (BitVec.ofNat 64 (x + 16 * y + 256 * z)).getLsbD i = _
    rw [BitVec.getLsbD_ofNat]
    simp [hi]
  rw [eY]
  intro j hj hb i hi
  rw [rd_newbit hk (by omega) hY (by omega), rd_newbit hk (by omega) hY (by omega)]
  by_cases e : j = k
  · subst e
    rw [if_pos ⟨by omega, by omega⟩, if_pos ⟨by omega, by omega⟩, rd_up_s, rd_up_s, show 12 * j + i - 12 * j = i by omega, show 12 * j + 8 + i - 12 * j = 8 + i by omega]
    constructor
    · have g : (x + 16 * y + 256 * z) % 2 ^ 4 = x := by omega
      have g2 := Nat.testBit_mod_two_pow (x + 16 * y + 256 * z) 4 i
      rw [g] at g2
      rw [g2, decide_eq_true hi, Bool.true_and]
    · have g : (x + 16 * y + 256 * z) / 2 ^ 8 = z := by omega
      have g2 := Nat.testBit_div_two_pow (n := 8) (x + 16 * y + 256 * z) i
      rw [g] at g2
      rw [g2, Nat.add_comm 8 i]
  · rw [if_neg (by omega), if_neg (by omega), rd_up_n e, rd_up_n e]
    rw [rd_tor P hP k hk j hj, Bool.or_eq_true, decide_eq_true_iff] at hb
    exact h j hj (hb.resolve_right e) i hi
/-! ===== held ===== -/
section
variable {post : Int32 → St1 → Prop} {J : Int32 → Int32 → Int32 → Int32 → (Nat → Int32) → (Nat → Int32) → (Nat → Int32) → (Nat → Int32) → (Nat → Int32) → (Nat → Int32) → Prop} {a1 a2 a3 a4 a5 a6 : Nat → Int32} {c d p o : Nat → Nat} {P n k : Nat} {x1 : Int64} {x3 x4 x5 x7 x8 x9 x10 x11 : Int32}
theorem rd_h195 (hA : rd_A c d p a1 a2 a3) (hP : P < 32) (hO : ∀ i, i < n → a4 i = nI (o i)) (hm : rd_perm P n o) (hk : k < 5) (h9 : ¬ x9 = 0) (h0 : 0 < n) (h7 : x7 = nI (c k))
    (H : J x5 (nI (k + 1)) (nI P) (nI n) a1 a2 a3 a4 a5 a6) : wL_held_195 post J x1 x3 x4 x5 (nI k) x7 x9 (nI P) (nI n) a1 a2 a3 a4 a5 a6 := by
  unfold wL_held_195
  have ho := hm.1 0 h0
  refine br_f h9 (rd_at (i := 0) (rd_perm_n hP hm) hO h0 ?_)
  refine pk_eq (o 0) k (fun e => ?_) (fun e => nm_r (nI_1 k) H)
  rw [← e] at h7 ⊢
  exact rd_response1 hA hP hO hm h0 (br_t h7.symm (nm_r (nI_1 (o 0)) (by rw [e]; exact H)))
theorem rd_hIn (hA : rd_A c d p a1 a2 a3) (hP : P < 32) (hO : ∀ i, i < n → a4 i = nI (o i)) (hm : rd_perm P n o) (hV : rd_V c d p P) (hk : k < 5) (hb : P.testBit k = true) (hG : ¬ x3 = 0 → rd_Good c d p n o) (h7 : x7 = nI (c k)) (h8 : x8 = nI (p k)) {w : Nat}
    (H : ∀ b1 b3, rd_A c d p b1 a2 b3 → J (nI (w + 1)) (nI (k + 1)) (nI P) (nI n) b1 a2 b3 a4 a5 a6) : wL_held_102 post J x1 x3 x4 (nI w) (nI k) x7 x8 1 (nI P) (nI n) a1 a2 a3 a4 a5 a6 := by
  obtain ⟨j, hj, _⟩ := (hm.2.2 k hk).mp hb
  have hv := hV k hk hb
  have hc := (hA k hk).2.2.2
  refine br_f (by decide) ?_
  unfold wL_held_116
  refine nm_r (nI_1 w) ?_
  refine rd_greatest hA hP hO hm hk hb ⟨hv.1, hv.2.1⟩ (fun b b1 hb15 hbg hA1 => ?_)
  refine rd_least hA1 hP hO hm hk hb ⟨by omega, hv.2.2⟩ (fun b' b3 hb15' hbg' hA3 => ?_)
  refine br_f (by decide) ?_
  have done : wL_held_195 post J x1 x3 x4 (nI (w + 1)) (nI k) x7 1 (nI P) (nI n) b1 a2 b3 a4 a5 a6 := rd_h195 hA3 hP hO hm hk (by decide) (by omega) h7 (H b1 b3 hA3)
  unfold wL_held_164
  refine br_f (by decide) (br_c (fun _ => done) (fun g => ?_))
  have g1 := hbg (hG g)
  have g2 := hbg' (hG g)
  exact pk_lt b (c k) (fun z => absurd z (by omega)) (fun _ => pk_lt b' 1 (fun z => absurd z (by omega)) (fun _ => pk_le b' (p k) (fun _ => done) (fun z => absurd z (by omega)) rfl h8)) rfl h7
theorem rd_hOut (hP : P < 32) (hk : k < 5) (hb : P.testBit k = false) {w : Nat}
    (H : J (nI w) (nI (k + 1)) (nI P) (nI n) a1 a2 a3 a4 a5 a6) : wL_held_102 post J x1 x3 x4 (nI w) (nI k) x7 x8 0 (nI P) (nI n) a1 a2 a3 a4 a5 a6 := by
  refine br_t rfl ?_
  unfold wL_held_116
  refine nm_r (e' := nI w) (Int32.add_zero _) ?_
  refine rd_greatest0 hP hk hb (rd_least0 hP hk hb (br_t rfl (br_t rfl (br_t rfl (rd_response0 hP hk hb (br_t rfl ?_))))))
  unfold wL_held_164
  refine br_t rfl ?_
  unfold wL_held_195
  exact br_t rfl (nm_r (nI_1 k) H)
theorem rd_h49 (hA : rd_A c d p a1 a2 a3) (hP : P < 32) (hO : ∀ i, i < n → a4 i = nI (o i)) (hm : rd_perm P n o) (hV : rd_V c d p P) (hS : rd_S x1 c p P) (hG : ¬ x3 = 0 → rd_Good c d p n o)
    (H : ∀ b1 b3 b5 b6, rd_A c d p b1 a2 b3 → post 1 (nI P, nI n, b1, a2, b3, a4, b5, b6)) : ∃ m, wL_held_49 post x1 x3 (nI P) m 0 0 (nI P) (nI n) a1 a2 a3 a4 a5 a6 := by
  have hn := rd_perm_n hP hm
  refine pk_loop (fun m k (q : (Nat → Int32) × (Nat → Int32)) => wL_held_49 post x1 x3 (nI P) m (nI (rd_pc P k)) (nI k) (nI P) (nI n) q.1 a2 q.2 a4 a5 a6) (fun k q => rd_A c d p q.1 a2 q.2) 5 0 (a1, a3) (by omega) hA ?_ ?_
  · intro m q h
    show wL_held_49 post x1 x3 (nI P) (m + 1) (nI (rd_pc P 5)) (nI 5) (nI P) (nI n) q.1 a2 q.2 a4 a5 a6
    rw [rd_perm_pc hP hm]
    refine pk_le 5 5 (fun _ => ?_) (fun z => absurd z (by omega))
    by_cases e : n = 0
    · subst e
      exact br_t (by decide) (br_t rfl (br_t rfl (H _ _ _ _ h)))
    · have es : nI n - 1 = nI (n - 1) := pk_sub (a := n) (b := 1) (by omega)
      rw [es]
      refine rd_at hn hO (by omega) ?_
      refine br_f (nI_ne0 (by omega) (by omega)) (br_c (fun _ => H _ _ _ _ h) (fun g => rd_canBeLast h hP (fun s b5 b6 hs hbits => br_t ?_ (H _ _ _ _ h))))
      have ho := hm.1 (n - 1) (by omega)
      refine (rd_bit1 s hs _ ho).mpr ((hbits _ ho).mpr ?_)
      have hU : rd_U o (n - 1) < 32 := rd_U_lt (n - 1) (fun t ht => hm.1 t (by omega))
      have eP : P = rd_U o (n - 1) ||| 2 ^ o (n - 1) := by
        rw [← rd_U_s, show n - 1 + 1 = n by omega]
        exact (rd_perm_U hP hm).symm
      have ed : rd_del P (o (n - 1)) = rd_U o (n - 1) := by
        have g2 := rd_del_or _ hU _ ho (rd_perm_new hm (i := n - 1) (by omega))
        rw [← eP] at g2
        exact g2
      refine ⟨rd_perm_in hm (by omega), ?_⟩
      rw [ed]
      exact ⟨rd_good_amg hP hm (hG g) (n - 1) (by omega), hG g (n - 1) (by omega)⟩
  · intro m k q hk h hw
    refine pk_le 5 k (fun z => absurd z (by omega)) (fun _ => ?_)
    intro x7 e7 x8 e8
    refine ek_if (rd_bit1 P hP k hk) (fun hb => ?_) (fun hb => ?_)
    · have e : rd_pc P (k + 1) = rd_pc P k + 1 := by
        show rd_pc P k + (if P.testBit k = true then 1 else 0) = _
        rw [if_pos hb]
      refine rd_hIn h hP hO hm hV hk hb hG (e7.trans (rd_S_c hS hk hb (h k hk).2.2.2.1)) (e8.trans (rd_S_p hS hk hb (h k hk).2.2.2.2.2)) (fun b1 b3 hA' => ?_)
      rw [← e]
      exact hw (b1, b3) hA'
    · have e : rd_pc P (k + 1) = rd_pc P k := by
        show rd_pc P k + (if P.testBit k = true then 1 else 0) = _
        rw [if_neg hb]
        rfl
      refine rd_hOut hP hk (rd_nt hb) ?_
      rw [← e]
      exact hw q h
theorem rd_held (hA : rd_A c d p a1 a2 a3) (hP : P < 32) (hO : ∀ i, i < n → a4 i = nI (o i)) (hm : rd_perm P n o) (hV : rd_V c d p P) (hS : rd_S x1 c p P)
    (H : ∀ b1 b3 b5 b6, rd_A c d p b1 a2 b3 → post 1 (nI P, nI n, b1, a2, b3, a4, b5, b6)) : wpL_held post (nI P, nI n, a1, a2, a3, a4, a5, a6) x1 := by
  unfold wpL_held
  refine rd_good hA hP hO hm (fun hg => ?_) (fun hg => ?_)
  · unfold wpX_tasks
    refine rd_inTime hA hP hO hm (fun s hs h => ?_)
    refine br_t ?_ ?_
    · show nI s = nI P
      rw [(rd_inTime_eq hP hm hs h).mpr hg]
    · unfold wL_held_29
      refine br_t rfl (br_f (by decide) (rd_goodOrders hA hP (fun v b5 b6 hv hr => ?_)))
      have hv0 := hr.mpr (rd_good_reach hP hm hg n 0 (by omega))
      exact pk_le 1 v (fun _ => rd_h49 hA hP hO hm hV hS (fun _ => hg) H) (fun z => absurd z (by omega))
  · unfold wpX_tasks
    refine rd_inTime hA hP hO hm (fun s hs h => ?_)
    refine br_f ?_ ?_
    · show ¬ nI s = nI P
      rw [nI_eq (by omega) (by omega)]
      exact fun e => hg ((rd_inTime_eq hP hm hs h).mp e)
    · unfold wL_held_29
      exact br_t rfl (br_t rfl (rd_h49 hA hP hO hm hV hS (fun z => absurd rfl z) H))
end
end
section
/-! ===== the law ===== -/
def rd_Inv (P n : Nat) (c d p o : Nat → Nat) (sz : Int64) (a1 a2 a3 a4 : Nat → Int32) : Prop := P < 32 ∧ rd_A c d p a1 a2 a3 ∧ (∀ i, i < n → a4 i = nI (o i)) ∧ rd_perm P n o ∧ rd_V c d p P ∧ rd_S sz c p P
theorem rd_pick {post : Int32 → Prop} {L i N : Nat} {xs : Nat → Int32} {x : Int32} (hx : x = nI i) (hL : L ≤ 260) (hi : i < 300) (hN : 1 ≤ N) (hN2 : N ≤ 15) (H : ∀ m, m < N → post (nI m)) : wpL_pick post L xs () x (nI N) := by
  subst hx
  have key : ∀ y : Int32, post ((y &&& 2147483647) - (y &&& 2147483647) / nI N * nI N) := by
    intro y
    rw [pk_and y 31 (by decide), pk_rem (Nat.mod_lt _ (by decide)) (by omega) (by omega)]
    exact H _ (Nat.mod_lt _ (by omega))
  exact pk_le L i (fun _ => ⟨nI_ne0 (by omega) (by omega), key 0⟩) (fun z => ⟨pk_in i L z, fun y _ => ⟨nI_ne0 (by omega) (by omega), key y⟩⟩)
section
variable {post : Int32 → St1 → Prop} {a1 a2 a3 a4 a5 a6 : Nat → Int32} {c d p o : Nat → Nat} {P n k : Nat} {sz : Int64}
theorem rd_removeL {x : Int32} (hx : x = nI k) (hk : k < 5) (hP : P < 32) (hO : ∀ i, i < n → a4 i = nI (o i)) (hm : rd_perm P n o)
    (H : ∀ r P' n' o' b4, P' < 32 → (∀ i, i < n' → b4 i = nI (o' i)) → rd_perm P' n' o' → rd_sub P' P → post r (nI P', nI n', a1, a2, a3, b4, a5, a6)) : wpX_remove post (nI P, nI n, a1, a2, a3, a4, a5, a6) x := by
  subst hx
  cases hb : P.testBit k
  · exact rd_remove0 hP hk hb (H 0 P n o a4 hP hO hm (fun _ _ z => z))
  · obtain ⟨j, hj, e⟩ := (hm.2.2 k hk).mp hb
    refine rd_remove hP hO hm hj e (fun o' b4 hO' hm' => H 1 (rd_del P k) (n - 1) o' b4 (rd_dellt P hP k hk) hO' hm' (fun t ht z => ?_))
    rw [rd_tdel P hP k hk t ht, Bool.and_eq_true] at z
    exact z.1
theorem rd_V_sub {P' : Nat} (h : rd_V c d p P) (hs : rd_sub P' P) : rd_V c d p P' := fun k hk hb => h k hk (hs k hk hb)
theorem rd_S_sub {P' : Nat} (h : rd_S sz c p P) (hs : rd_sub P' P) : rd_S sz c p P' := fun k hk hb => h k hk (hs k hk hb)
theorem rd_placeL {i : Nat} {x y : Int32} (hx : x = nI k) (hy : y = nI i) (hk : k < 5) (hi : i < 5) (hP : P < 32) (hO : ∀ i, i < n → a4 i = nI (o i)) (hm : rd_perm P n o)
    (H : ∀ r o' b4, (∀ i, i < n → b4 i = nI (o' i)) → rd_perm P n o' → post r (nI P, nI n, a1, a2, a3, b4, a5, a6)) : wpX_place post (nI P, nI n, a1, a2, a3, a4, a5, a6) x y := by
  subst hx hy
  exact rd_place hP hO hm hk hi H
end
section
variable {post : Int32 → Prop} {L : Nat} {xs : Nat → Int32} {J : Int64 → Int32 → Int32 → Int32 → (Nat → Int32) → (Nat → Int32) → (Nat → Int32) → (Nat → Int32) → (Nat → Int32) → (Nat → Int32) → Prop} {a1 a2 a3 a4 a5 a6 : Nat → Int32} {c d p o : Nat → Nat} {P n i x y z kc ks : Nat} {sz : Int64}
theorem rd_l219 (h : rd_Inv P n c d p o sz a1 a2 a3 a4) (h1 : 1 ≤ x) (h2 : x ≤ y) (h3 : y ≤ z) (h4 : z ≤ 15)
    (H : ∀ c d p o b1 b2 b3 b4 b5 b6, rd_Inv P n c d p o sz b1 b2 b3 b4 → J sz (nI (i + 4)) (nI P) (nI n) b1 b2 b3 b4 b5 b6) : wL_law_219 post L xs J sz (nI i) (nI z) (nI y) (nI x) kc ks (nI P) (nI n) a1 a2 a3 a4 a5 a6 := by
  obtain ⟨hP, hA, hO, hm, hV, hS⟩ := h
  unfold wL_law_219
  refine rd_held hA hP hO hm hV hS (fun b1 b3 b5 b6 hA1 => br_f (by decide) (rd_idles hA1 hP (br_f (by decide) ?_)))
  refine rd_fits hA1 hP hO hm hV h1 h2 h3 h4 (fun r c' d' p' o' e1 e2 e3 e4 e5 e6 hA2 same hO2 hm2 hr => ?_)
  have hV2 : rd_V c' d' p' P := by
    intro k hk hb
    rw [(same k hk hb).1, (same k hk hb).2.1, (same k hk hb).2.2]
    exact hV k hk hb
  have inv : rd_Inv P n c' d' p' o' sz e1 e2 e3 e4 := ⟨hP, hA2, hO2, hm2, hV2, rd_S_congr hS (fun k hk hb => ⟨(same k hk hb).1, (same k hk hb).2.2⟩)⟩
  refine br_c (fun _ => nm_r (nI_add i 4) (H _ _ _ _ _ _ _ _ _ _ inv)) (fun g => ?_)
  refine rd_goodOrders hA2 hP (fun v g5 g6 hv hvr => br_f (nI_ne0 (hvr.mpr (hr g)) (by omega)) (nm_r (nI_add i 4) (H _ _ _ _ _ _ _ _ _ _ inv)))
end
theorem rd_V_add {c d p : Nat → Nat} {P k x y z : Nat} (hV : rd_V c d p P) (hP : P < 32) (hk : k < 5) (h1 : 1 ≤ x) (h2 : x ≤ y) (h3 : y ≤ z) : rd_V (rd_up c k x) (rd_up d k y) (rd_up p k z) (P ||| 2 ^ k) := by
  intro j hj hb
  by_cases e : j = k
  · subst e
    rw [rd_up_s, rd_up_s, rd_up_s]
    exact ⟨h1, h2, h3⟩
  · rw [rd_up_n e, rd_up_n e, rd_up_n e]
    rw [rd_tor P hP k hk j hj, Bool.or_eq_true, decide_eq_true_iff] at hb
    exact hV j hj (hb.resolve_right e)
theorem rd_law13 {L kc ks : Nat} {xs : Nat → Int32} (hL : L ≤ 260) : ∀ m i sz P n c d p o a1 a2 a3 a4 a5 a6, i ≤ 264 → 1 ≤ m → L + 1 ≤ i + m → rd_Inv P n c d p o sz a1 a2 a3 a4 → wL_law_13 (fun r => r = 1) L xs kc ks m sz (nI i) (nI P) (nI n) a1 a2 a3 a4 a5 a6 := by
  intro m
  induction m with
  | zero =>
    intro i sz P n c d p o a1 a2 a3 a4 a5 a6 hi hm1 hm h
    exact absurd hm1 (by omega)
  | succ m ih =>
    intro i sz P n c d p o a1 a2 a3 a4 a5 a6 hi hm1 hm h
    have H : i < L → ∀ sz P n c d p o b1 b2 b3 b4 b5 b6, rd_Inv P n c d p o sz b1 b2 b3 b4 → wL_law_13 (fun r => r = 1) L xs kc ks m sz (nI (i + 4)) (nI P) (nI n) b1 b2 b3 b4 b5 b6 := fun hiL sz P n c d p o b1 b2 b3 b4 b5 b6 h => ih (i + 4) sz P n c d p o b1 b2 b3 b4 b5 b6 (by omega) (by omega) (by omega) h
    have h' := h
    obtain ⟨hP, hA, hO, hmm, hV, hS⟩ := h'
    refine pk_le L i (fun _ => rd_arranged hA hP hO hmm (fun _ _ _ _ _ _ => rfl)) (fun hiL => ?_)
    refine rd_pick (N := 8) rfl hL (by omega) (by omega) (by omega) (fun m0 h0 => ?_)
    refine rd_pick (N := 15) (nI_1 i) hL (by omega) (by omega) (by omega) (fun ma ha => ?_)
    refine rd_pick (N := 15) (nI_add i 2) hL (by omega) (by omega) (by omega) (fun mb hb => ?_)
    refine rd_pick (N := 15) (nI_add i 3) hL (by omega) (by omega) (by omega) (fun mc hc => ?_)
    obtain ⟨z, hz, hz8, hz15⟩ : ∃ z, z = 15 - ma / 2 ∧ 8 ≤ z ∧ z ≤ 15 := ⟨_, rfl, by omega, by omega⟩
    have hmz : mb % z < z := Nat.mod_lt _ (by omega)
    obtain ⟨y, hy, hy1, hyz⟩ : ∃ y, y = 1 + ((z - 1) - mb % z) ∧ 1 ≤ y ∧ y ≤ z := ⟨_, rfl, by omega, by omega⟩
    have hmy : mc % 4 % y < y := Nat.mod_lt _ (by omega)
    obtain ⟨x, hx, hx1, hxy⟩ : ∃ x, x = 1 + mc % 4 % y ∧ 1 ≤ x ∧ x ≤ y := ⟨_, rfl, by omega, by omega⟩
    have ez : (15 : Int32) - (nI ma / 2) = nI z := by
      rw [show (15 : Int32) = nI 15 from rfl, show (2 : Int32) = nI 2 from rfl, pk_div (by omega) (by omega) (by omega), pk_sub (by omega), hz]
    have ey : (1 : Int32) + ((nI z - 1) - (nI mb - nI mb / nI z * nI z)) = nI y := by
      rw [pk_rem (by omega) (by omega) (by omega), show (1 : Int32) = nI 1 from rfl, pk_sub (by omega), pk_sub (by omega), nI_add, hy]
    have ex : (1 : Int32) + ((nI mc - nI mc / 4 * 4) - (nI mc - nI mc / 4 * 4) / nI y * nI y) = nI x := by
      rw [show (4 : Int32) = nI 4 from rfl, pk_rem (by omega) (by omega) (by omega), pk_rem (by omega) (by omega) (by omega), show (1 : Int32) = nI 1 from rfl, nI_add, hx]
    refine ⟨by decide, nm_r ez ⟨nI_ne0 (by omega) (by omega), nm_r ey ⟨by decide, nI_ne0 (by omega) (by omega), nm_r ex ?_⟩⟩⟩
    refine pk_lt 3 m0 (fun g3 => pk_lt 5 m0 (fun g5 => pk_eq m0 6 (fun g6 => ⟨by decide, ?_⟩) (fun g6 => ?_)) (fun g5 => ⟨by decide, by decide, ?_⟩)) (fun g3 => ?_)
    · refine rd_removeL (k := ma % 5) (pk_rem (a := ma) (d := 5) (by omega) (by omega) (by omega)) (Nat.mod_lt _ (by omega)) hP hO hmm (fun r P' n' o' b4 hP' hO' hm' hs => ?_)
      exact rd_l219 ⟨hP', hA, hO', hm', rd_V_sub hV hs, rd_S_sub hS hs⟩ hx1 hxy hyz hz15 (fun c d p o b1 b2 b3 b4 b5 b6 h => H hiL _ _ _ _ _ _ _ _ _ _ _ _ _ h)
    · refine rd_arranged hA hP hO hmm (fun o' b4 b5 b6 hO' hm' => br_f (by decide) ?_)
      exact rd_l219 ⟨hP, hA, hO', hm', hV, hS⟩ hx1 hxy hyz hz15 (fun c d p o b1 b2 b3 b4 b5 b6 h => H hiL _ _ _ _ _ _ _ _ _ _ _ _ _ h)
    · refine rd_placeL (k := ma % 5) (i := mb % 5) (pk_rem (a := ma) (d := 5) (by omega) (by omega) (by omega)) (pk_rem (a := mb) (d := 5) (by omega) (by omega) (by omega)) (Nat.mod_lt _ (by omega)) (Nat.mod_lt _ (by omega)) hP hO hmm (fun r o' b4 hO' hm' => ?_)
      exact rd_l219 ⟨hP, hA, hO', hm', hV, hS⟩ hx1 hxy hyz hz15 (fun c d p o b1 b2 b3 b4 b5 b6 h => H hiL _ _ _ _ _ _ _ _ _ _ _ _ _ h)
    · refine rd_add hA hP hO hmm hx1 hxy hyz hz15 (br_f (by decide) ?_) (fun k b1 b2 b3 b4 hk hbk hn hA' hO' hm' => br_t (nI_pos' (by omega)) ?_)
      · unfold wL_law_165
        exact rd_l219 h hx1 hxy hyz hz15 (fun c d p o b1 b2 b3 b4 b5 b6 h => H hiL _ _ _ _ _ _ _ _ _ _ _ _ _ h)
      · unfold wL_law_165
        exact rd_l219 ⟨rd_orlt P hP k hk, hA', hO', hm', rd_V_add hV hP hk hx1 hxy hyz, rd_S_add hS hP hk (by omega) (by omega) hz15⟩ hx1 hxy hyz hz15 (fun c d p o b1 b2 b3 b4 b5 b6 h => H hiL _ _ _ _ _ _ _ _ _ _ _ _ _ h)
end
section
/-! ===== what is owed ===== -/
theorem rd_inv0 : rd_Inv 0 0 (fun _ => 0) (fun _ => 0) (fun _ => 0) (fun _ => 0) 0 (fun _ => 0) (fun _ => 0) (fun _ => 0) (fun _ => 0) := by
  refine ⟨by omega, fun k hk => ⟨rfl, rfl, rfl, Nat.zero_le 15, Nat.zero_le 15, Nat.zero_le 15⟩, fun i hi => absurd hi (by omega), ⟨fun i hi => absurd hi (by omega), fun i j _ hj => absurd hj (by omega), fun k hk => ⟨fun z => (rd_tf z (rd_z k hk)).elim, fun z => ?_⟩⟩, fun k hk z => (rd_tf z (rd_z k hk)).elim, rd_S_0⟩
  obtain ⟨j, hj, _⟩ := z
  exact absurd hj (by omega)
theorem i_vc (xs : Nat → Int32) (L : Nat) (hL : L ≤ 260) : wpL_law (fun r => r = 1) L xs := by
  refine ⟨6, 84, by omega, by omega, ?_⟩
  refine ⟨by omega, by omega, by omega, by omega, by omega, by omega, by omega, by omega, by omega, by omega, by omega, by omega, ?_⟩
  exact ⟨L + 1, rd_law13 hL (L + 1) 0 0 0 0 _ _ _ _ _ _ _ _ _ _ (by omega) (by omega) (by omega) rd_inv0⟩
end
