section
/-! bits of an Int32 (turned from kit/laws/BITS.to-paste, the family bt) -/
def sg_b (x : Int32) (i : Nat) : Bool := x.toBitVec.getLsbD i
theorem sg_bext {x y : Int32} (h : ∀ i, i < 32 → sg_b x i = sg_b y i) : x = y := Int32.toBitVec_inj.mp (BitVec.eq_of_getLsbD_eq (fun i hi => h i hi))
theorem sg_bor (x y : Int32) (i : Nat) : sg_b (x ||| y) i = (sg_b x i || sg_b y i) := by unfold sg_b; rw [Int32.toBitVec_or, BitVec.getLsbD_or]
theorem sg_band (x y : Int32) (i : Nat) : sg_b (x &&& y) i = (sg_b x i && sg_b y i) := by unfold sg_b; rw [Int32.toBitVec_and, BitVec.getLsbD_and]
theorem sg_bxor (x y : Int32) (i : Nat) : sg_b (x ^^^ y) i = (sg_b x i ^^ sg_b y i) := by unfold sg_b; rw [Int32.toBitVec_xor, BitVec.getLsbD_xor]
theorem sg_bbig {x : Int32} {i : Nat} (h : 32 ≤ i) : sg_b x i = false := BitVec.getLsbD_of_ge _ _ h
theorem sg_bm1 : ∀ i, i < 32 → sg_b (-1) i = true := by decide +kernel
theorem sg_b0 (i : Nat) : sg_b 0 i = false := BitVec.getLsbD_zero
theorem sg_sl : ∀ n, n < 32 → ((nI n &&& 31).toBitVec.smod 32).toNat = n := by decide +kernel
theorem sg_bsshr (n : Nat) (hn : n < 32) (x : Int32) {i : Nat} (hi : i < 32) : sg_b (x >>> (nI n &&& 31)) i = if n + i < 32 then sg_b x (n + i) else sg_b x 31 := by
  unfold sg_b
  rw [Int32.toBitVec_shiftRight]
  show (x.toBitVec.sshiftRight ((nI n &&& 31).toBitVec.smod 32).toNat).getLsbD i = _
  rw [sg_sl n hn, BitVec.getLsbD_sshiftRight, BitVec.msb_eq_getLsbD_last]
  simp [hi]
theorem sg_b1 : ∀ i, i < 32 → sg_b 1 i = decide (i = 0) := by decide +kernel
theorem sg_bit0 : ∀ n, n < 32 → ∀ i, i < 32 → sg_b ((1 : Int32) <<< (nI n &&& 31)) i = decide (i = n) := by decide +kernel
theorem sg_bit {n : Nat} (hn : n < 32) (i : Nat) : sg_b ((1 : Int32) <<< (nI n &&& 31)) i = decide (i = n) := by
  rcases Nat.lt_or_ge i 32 with h | h
  · exact sg_bit0 n hn i h
  · rw [sg_bbig h, decide_eq_false (by omega)]
/-- the bit test of the code -/
theorem sg_tst {n : Nat} (hn : n < 32) (x : Int32) : ((x >>> (nI n &&& 31)) &&& 1) = 0 ↔ sg_b x n = false := by
  constructor
  · intro h
    have e := sg_band (x >>> (nI n &&& 31)) 1 0
    rw [h, sg_b0, sg_bsshr n hn x (by omega), sg_b1 0 (by omega), if_pos (by omega)] at e
    simpa using e.symm
  · intro h
    apply sg_bext
    intro i hi
    rw [sg_band, sg_b0, sg_b1 i hi]
    by_cases e : i = 0
    · subst e
      rw [sg_bsshr n hn x (by omega), if_pos (by omega)]
      simpa using h
    · simp [e]
theorem sg_ntst {n : Nat} (hn : n < 32) (x : Int32) : ¬ ((x >>> (nI n &&& 31)) &&& 1) = 0 ↔ sg_b x n = true := by
  rw [sg_tst hn x]
  cases sg_b x n <;> simp
/-- the mask test of the code -/
theorem sg_msk {n : Nat} (hn : n < 32) (x : Int32) : (x &&& ((1 : Int32) <<< (nI n &&& 31))) = 0 ↔ sg_b x n = false := by
  constructor
  · intro h
    have e := sg_band x ((1 : Int32) <<< (nI n &&& 31)) n
    rw [h, sg_b0, sg_bit hn] at e
    simpa using e.symm
  · intro h
    apply sg_bext
    intro i hi
    rw [sg_band, sg_b0, sg_bit hn]
    by_cases e : i = n
    · subst e
      simpa using h
    · simp [e]
theorem sg_nmsk {n : Nat} (hn : n < 32) (x : Int32) : ¬ (x &&& ((1 : Int32) <<< (nI n &&& 31))) = 0 ↔ sg_b x n = true := by
  rw [sg_msk hn x]
  cases sg_b x n <;> simp
/-- a bit set, a bit cleared -/
theorem sg_set {n : Nat} (hn : n < 32) (x : Int32) (i : Nat) : sg_b (x ||| ((1 : Int32) <<< (nI n &&& 31))) i = (sg_b x i || decide (i = n)) := by rw [sg_bor, sg_bit hn]
theorem sg_clr {n : Nat} (hn : n < 32) (x : Int32) (i : Nat) : sg_b (x &&& (((1 : Int32) <<< (nI n &&& 31)) ^^^ (-1))) i = (sg_b x i && !decide (i = n)) := by
  rcases Nat.lt_or_ge i 32 with h | h
  · rw [sg_band, sg_bxor, sg_bit hn, sg_bm1 i h]
    simp
  · rw [sg_bbig h, sg_bbig h]
    simp
theorem sg_setn {n : Nat} (hn : n < 32) (x : Int32) : sg_b (x ||| ((1 : Int32) <<< (nI n &&& 31))) n = true := by rw [sg_set hn]; simp
theorem sg_seto {n : Nat} (hn : n < 32) (x : Int32) {i : Nat} (h : i ≠ n) : sg_b (x ||| ((1 : Int32) <<< (nI n &&& 31))) i = sg_b x i := by rw [sg_set hn]; simp [h]
theorem sg_clrn {n : Nat} (hn : n < 32) (x : Int32) : sg_b (x &&& (((1 : Int32) <<< (nI n &&& 31)) ^^^ (-1))) n = false := by rw [sg_clr hn]; simp
theorem sg_clro {n : Nat} (hn : n < 32) (x : Int32) {i : Nat} (h : i ≠ n) : sg_b (x &&& (((1 : Int32) <<< (nI n &&& 31)) ^^^ (-1))) i = sg_b x i := by rw [sg_clr hn]; simp [h]
theorem sg_ff {x : Bool} (h : ¬ x = true) : x = false := by cases x <;> simp_all
theorem sg_tt {x : Bool} (h : ¬ x = false) : x = true := by cases x <;> simp_all
/-- a set that grows is a number that grows -/
theorem sg_sub {x y : Int32} (h : ∀ i, sg_b x i = true → sg_b y i = true) : x.toBitVec.toNat ≤ y.toBitVec.toNat := by
  have e : x ||| y = y := by
    apply sg_bext
    intro i _
    rw [sg_bor]
    cases hx : sg_b x i
    · simp
    · simp [h i hx]
  have e2 : x.toBitVec ||| y.toBitVec = y.toBitVec := by rw [← Int32.toBitVec_or, e]
  have e3 : (x.toBitVec ||| y.toBitVec).toNat = y.toBitVec.toNat := by rw [e2]
  rw [BitVec.toNat_or] at e3
  rw [← e3]
  exact Nat.left_le_or
theorem sg_sub' {x y : Int32} (h : ∀ i, sg_b x i = true → sg_b y i = true) (hn : ¬ y = x) : x.toBitVec.toNat < y.toBitVec.toNat := by
  rcases Nat.lt_or_ge x.toBitVec.toNat y.toBitVec.toNat with z | z
  · exact z
  · exact absurd (Int32.toBitVec_inj.mp (BitVec.eq_of_toNat_eq (Nat.le_antisymm z (sg_sub h)))) hn
/-- sums -/
def sg_sm (t : Nat → Nat) : Nat → Nat
  | 0 => 0
  | n + 1 => sg_sm t n + t n
theorem sg_sm_le {t s : Nat → Nat} : ∀ {c : Nat}, (∀ n, n < c → t n ≤ s n) → sg_sm t c ≤ sg_sm s c
  | 0, _ => Nat.le_refl _
  | c + 1, h => Nat.add_le_add (sg_sm_le (fun n hn => h n (Nat.lt_succ_of_lt hn))) (h c (Nat.lt_succ_self c))
theorem sg_sm_lt {t s : Nat → Nat} {k : Nat} : ∀ {c : Nat}, k < c → (∀ n, n < c → t n ≤ s n) → t k < s k → sg_sm t c < sg_sm s c
  | 0, hk, _, _ => absurd hk (Nat.not_lt_zero k)
  | c + 1, hk, h, hs => by
    show sg_sm t c + t c < sg_sm s c + s c
    by_cases e : k = c
    · subst e
      have h1 := sg_sm_le (c := k) (fun n hn => h n (Nat.lt_succ_of_lt hn))
      omega
    · have h1 := sg_sm_lt (c := c) (k := k) (by omega) (fun n hn => h n (Nat.lt_succ_of_lt hn)) hs
      have h2 := h c (Nat.lt_succ_self c)
      omega
theorem sg_sm_k (b : Nat) : ∀ c, sg_sm (fun _ => b) c = c * b
  | 0 => by simp [sg_sm]
  | c + 1 => by
    show sg_sm (fun _ => b) c + b = (c + 1) * b
    rw [sg_sm_k b c, Nat.succ_mul]
/-- how many bits are set below n -/
def sg_ct (x : Int32) (n : Nat) : Nat := sg_sm (fun i => if sg_b x i = true then 1 else 0) n
theorem sg_ct_le (x : Int32) {n m : Nat} (h : n ≤ m) : sg_ct x n ≤ sg_ct x m := by
  induction m with
  | zero => rw [show n = 0 by omega]; exact Nat.le_refl _
  | succ m ih =>
    by_cases e : n = m + 1
    · rw [e]; exact Nat.le_refl _
    · exact Nat.le_trans (ih (by omega)) (Nat.le_add_right _ _)
theorem sg_ct_b (x : Int32) (n : Nat) : sg_ct x n ≤ n := by
  have h := sg_sm_le (t := fun i => if sg_b x i = true then 1 else 0) (s := fun _ => 1) (c := n) (fun i _ => by split <;> omega)
  rw [sg_sm_k] at h
  unfold sg_ct
  omega
theorem sg_ct_1 {x : Int32} {n : Nat} (h : sg_b x n = true) : sg_ct x (n + 1) = sg_ct x n + 1 := by
  show sg_ct x n + (if sg_b x n = true then 1 else 0) = _
  rw [if_pos h]
theorem sg_ct_0 {x : Int32} {n : Nat} (h : sg_b x n = false) : sg_ct x (n + 1) = sg_ct x n := by
  show sg_ct x n + (if sg_b x n = true then 1 else 0) = _
  rw [if_neg (by rw [h]; simp)]
  rfl
theorem sg_ct_k {x : Int32} {c n : Nat} (h : c ≤ n) (hb : ∀ i, c ≤ i → sg_b x i = false) : sg_ct x n = sg_ct x c := by
  induction n with
  | zero => rw [show c = 0 by omega]
  | succ n ih =>
    by_cases e : c = n + 1
    · rw [e]
    · rw [sg_ct_0 (hb n (by omega)), ih (by omega)]
/-- a rank may be pressed below the number of nodes -/
theorem sg_press (rk : Nat → Nat) (c : Nat) : ∃ r : Nat → Nat, (∀ n, n < c → r n < c) ∧ ∀ n m, m < c → rk m < rk n → r m < r n := by
  refine ⟨fun n => sg_sm (fun m => if rk m < rk n then 1 else 0) c, fun n hn => ?_, fun n m hm h => ?_⟩
  · have h := sg_sm_lt (t := fun m => if rk m < rk n then 1 else 0) (s := fun _ => 1) (k := n) (c := c) hn (fun i _ => by split <;> omega) (by rw [if_neg (Nat.lt_irrefl _)]; omega)
    rw [sg_sm_k] at h
    dsimp only
    omega
  · refine sg_sm_lt (k := m) hm (fun i _ => ?_) ?_
    · by_cases e : rk i < rk m
      · rw [if_pos e, if_pos (by omega)]; exact Nat.le_refl _
      · rw [if_neg e]; exact Nat.zero_le _
    · rw [if_neg (Nat.lt_irrefl _), if_pos h]
      exact Nat.zero_lt_one
end
section
/-! the small methods: what they answer -/
section
variable {c : Nat} {ar hv ch kt ov tc lv wt : Int32} {kd ox oy oz hg us vl nx kp tm : Nat → Int32}
abbrev sg_ck (k : Int32) : Prop := k = 4 ∨ k = 6 ∨ k = 13 ∨ k = 14
def sg_ev (c : Nat) (kd : Nat → Int32) (x : Int32) : Prop := ∃ j, j < c ∧ x = nI j ∧ ¬ sg_ck (kd j)
def sg_cl (c : Nat) (kd : Nat → Int32) (x : Int32) : Prop := ∃ j, j < c ∧ x = nI j ∧ sg_ck (kd j)
def sg_st (c : Nat) (kd : Nat → Int32) (k : Nat) : Int32 := if k < c then (if sg_ck (kd k) then 2 else 1) else -1
theorem sg_nj {a b : Nat} (ha : a < 2 ^ 31) (hb : b < 2 ^ 31) (h : nI a = nI b) : a = b := (nI_eq ha hb).mp h
theorem sg_isNode {post : Int32 → Prop} (hc : c ≤ 24) {p : Int32} (h1 : ∀ j, j < c → p = nI j → post 1) (h0 : (∀ j, j < c → p ≠ nI j) → post 0) : wpX_isNode post (nI c, ar, hv, ch, kt, ov, tc, lv, wt, kd, ox, oy, oz, hg, us, vl, nx, kp, tm) p := by
  unfold wpX_isNode
  dsimp only
  have hneg : p < 0 → ∀ j, j < c → p ≠ nI j := fun h j hj e => by
    rw [e] at h
    exact nI_pos (by omega) h
  rcases pk_ix p (n := c) (by omega) with h | h | ⟨j, hj, e⟩
  · exact br_t h (h0 (hneg h))
  · by_cases h' : p < 0
    · exact br_t h' (h0 (hneg h'))
    · refine br_f h' (br_t h (h0 (fun j hj e => ?_)))
      rw [e] at h
      exact nI_ge hj (by omega) h
  · have h1' := h1 j hj e
    subst e
    exact br_f (nI_pos (by omega)) (br_f (nI_ge hj (by omega)) h1')
theorem sg_isCK {nc : Int32} {post : Int32 → Prop} {k : Int32} (h1 : sg_ck k → post 1) (h0 : ¬ sg_ck k → post 0) : wpX_isCellKind post (nc, ar, hv, ch, kt, ov, tc, lv, wt, kd, ox, oy, oz, hg, us, vl, nx, kp, tm) k := by
  unfold wpX_isCellKind
  dsimp only
  refine br_c (fun h => h1 (Or.inl h)) (fun a => br_c (fun h => h1 (Or.inr (Or.inl h))) (fun b => br_c (fun h => h1 (Or.inr (Or.inr (Or.inl h)))) (fun d => br_c (fun h => h1 (Or.inr (Or.inr (Or.inr h)))) (fun e => h0 (fun z => ?_)))))
  rcases z with z | z | z | z <;> contradiction
theorem sg_isEv {post : Int32 → Prop} (hc : c ≤ 24) {p : Int32} (h1 : sg_ev c kd p → post 1) (h0 : ¬ sg_ev c kd p → post 0) : wpX_isEvent post (nI c, ar, hv, ch, kt, ov, tc, lv, wt, kd, ox, oy, oz, hg, us, vl, nx, kp, tm) p := by
  unfold wpX_isEvent
  dsimp only
  refine sg_isNode hc (fun j hj e => ?_) (fun hn => br_t rfl (h0 (fun ⟨j, hj, e, _⟩ => hn j hj e)))
  refine br_f (by decide) ⟨pk_in j 24 (by omega) e, ?_⟩
  rw [pk_cl j e]
  refine sg_isCK (fun hk => br_f (by decide) (h0 (fun ⟨i, hi, e', hk'⟩ => ?_))) (fun hk => br_t rfl (h1 ⟨j, hj, e, hk⟩))
  have := sg_nj (by omega) (by omega) (e.symm.trans e')
  subst this
  exact hk' hk
theorem sg_isCl {post : Int32 → Prop} (hc : c ≤ 24) {p : Int32} (h1 : sg_cl c kd p → post 1) (h0 : ¬ sg_cl c kd p → post 0) : wpX_isCell post (nI c, ar, hv, ch, kt, ov, tc, lv, wt, kd, ox, oy, oz, hg, us, vl, nx, kp, tm) p := by
  unfold wpX_isCell
  dsimp only
  refine sg_isNode hc (fun j hj e => ?_) (fun hn => br_t rfl (h0 (fun ⟨j, hj, e, _⟩ => hn j hj e)))
  refine br_f (by decide) ⟨pk_in j 24 (by omega) e, ?_⟩
  rw [pk_cl j e]
  refine sg_isCK (fun hk => br_f (by decide) (h1 ⟨j, hj, e, hk⟩)) (fun hk => br_t rfl (h0 (fun ⟨i, hi, e', hk'⟩ => ?_)))
  have := sg_nj (by omega) (by omega) (e.symm.trans e')
  subst this
  exact hk hk'
theorem sg_sort {post : Int32 → Prop} (hc : c ≤ 24) {k : Nat} (hk : k < 100) (hp : post (sg_st c kd k)) : wpX_sort post (nI c, ar, hv, ch, kt, ov, tc, lv, wt, kd, ox, oy, oz, hg, us, vl, nx, kp, tm) (nI k) := by
  unfold sg_st at hp
  unfold wpX_sort
  dsimp only
  refine sg_isNode hc (fun j hj e => ?_) (fun hn => br_t rfl ?_)
  · have := sg_nj (by omega) (by omega) e
    subst this
    rw [if_pos hj] at hp
    refine br_f (by decide) ⟨pk_in k 24 (by omega), ?_⟩
    rw [nI_clamp (by omega)]
    refine sg_isCK (fun h => br_f (by decide) ?_) (fun h => br_t rfl ?_)
    · rw [if_pos h] at hp
      exact hp
    · rw [if_neg h] at hp
      exact hp
  · rw [if_neg (fun h => hn k h rfl)] at hp
    exact hp
theorem sg_has {nc : Int32} {post : Int32 → Prop} {k : Nat} (hk : k < 32) (h1 : sg_b hv k = true → post 1) (h0 : sg_b hv k = false → post 0) : wpX_has post (nc, ar, hv, ch, kt, ov, tc, lv, wt, kd, ox, oy, oz, hg, us, vl, nx, kp, tm) (nI k) := by
  unfold wpX_has
  dsimp only
  exact br_c (fun h => h0 ((sg_tst hk hv).mp h)) (fun h => h1 ((sg_ntst hk hv).mp h))
/-- what had answers -/
theorem sg_had {post : Int32 → Prop} (hc : c ≤ 24) {k : Nat} (hk : k < 32) (h1 : k < c → ¬ sg_ck (kd k) → sg_b hv k = true → post 1) (h0 : ¬ (k < c ∧ ¬ sg_ck (kd k) ∧ sg_b hv k = true) → post 0) : wpX_had post (nI c, ar, hv, ch, kt, ov, tc, lv, wt, kd, ox, oy, oz, hg, us, vl, nx, kp, tm) (nI k) := by
  unfold wpX_had
  dsimp only
  refine sg_isEv hc (fun h => br_f (by decide) ?_) (fun h => br_t rfl (h0 (fun z => h ⟨k, z.1, rfl, z.2.1⟩)))
  obtain ⟨j, hj, e, hk'⟩ := h
  have := sg_nj (by omega) (by omega) e
  subst this
  exact sg_has hk (fun h => br_f (by decide) (h1 hj hk' h)) (fun h => br_t rfl (h0 (fun z => by rw [h] at z; exact absurd z.2.2 (by decide))))
/-- value answers one thing, whatever the fields that it doesn't look at -/
theorem sg_value (hc : c ≤ 24) {k : Nat} (hk : k < 32) : ∃ r, (k < c → sg_ck (kd k) → r = vl k) ∧ ∀ (post : Int32 → Prop) (lv wt : Int32) (hg us : Nat → Int32), post r → wpX_value post (nI c, ar, hv, ch, kt, ov, tc, lv, wt, kd, ox, oy, oz, hg, us, vl, nx, kp, tm) (nI k) := by
  by_cases h : k < c ∧ (sg_ck (kd k) ∨ sg_b hv k = true)
  · refine ⟨vl k, fun _ _ => rfl, fun post lv wt hg us hp => ?_⟩
    unfold wpX_value
    dsimp only
    refine sg_isNode hc (fun j hj e => br_f (by decide) ?_) (fun hn => absurd rfl (hn k h.1))
    refine sg_isEv hc (fun g => br_f (by decide) ?_) (fun g => br_t rfl ⟨pk_in k 24 (by omega), ?_⟩)
    · refine sg_has hk (fun g2 => br_f (by decide) ⟨pk_in k 24 (by omega), ?_⟩) (fun g2 => ?_)
      · rw [nI_clamp (by omega)]; exact hp
      · obtain ⟨i, hi, e', hk'⟩ := g
        have := sg_nj (by omega) (by omega) e'
        subst this
        rcases h.2 with z | z
        · exact absurd z hk'
        · rw [z] at g2
          exact absurd g2 (by decide)
    · rw [nI_clamp (by omega)]; exact hp
  · refine ⟨0, fun h1 h2 => absurd ⟨h1, Or.inl h2⟩ h, fun post lv wt hg us hp => ?_⟩
    unfold wpX_value
    dsimp only
    refine sg_isNode hc (fun j hj e => br_f (by decide) ?_) (fun hn => br_t rfl hp)
    have := sg_nj (by omega) (by omega) e
    subst this
    refine sg_isEv hc (fun g => br_f (by decide) ?_) (fun g => ?_)
    · exact sg_has hk (fun g2 => absurd ⟨hj, Or.inr g2⟩ h) (fun g2 => br_t rfl hp)
    · refine absurd ⟨k, hj, rfl, fun z => h ⟨hj, Or.inl z⟩⟩ g
theorem sg_times (hc : c ≤ 24) {k : Nat} (hk : k < 32) : ∃ r, ∀ (post : Int32 → Prop) (lv wt : Int32) (hg us : Nat → Int32), post r → wpX_times post (nI c, ar, hv, ch, kt, ov, tc, lv, wt, kd, ox, oy, oz, hg, us, vl, nx, kp, tm) (nI k) := by
  by_cases h : k < c
  · refine ⟨tm k, fun post lv wt hg us hp => ?_⟩
    unfold wpX_times
    dsimp only
    refine sg_isNode hc (fun j hj e => br_f (by decide) ⟨pk_in k 24 (by omega), ?_⟩) (fun hn => absurd rfl (hn k h))
    rw [nI_clamp (by omega)]; exact hp
  · refine ⟨-1, fun post lv wt hg us hp => ?_⟩
    unfold wpX_times
    dsimp only
    refine sg_isNode hc (fun j hj e => ?_) (fun hn => br_t rfl hp)
    have := sg_nj (by omega) (by omega) e
    subst this
    exact absurd hj h
/-- pick answers one thing -/
theorem sg_pick3 (hc : c ≤ 24) (h0 : 0 < c) (f : Nat) (hf : f < c) (s : Int32) : ∀ r, r ≤ c → ∃ a, ∀ (post : Int32 → Prop) (lv wt : Int32) (hg us : Nat → Int32), post a → ∃ fu, wL_pick_3 post (nI c) (nI f) s (nI c) ar hv ch kt ov tc lv wt kd ox oy oz hg us vl nx kp tm fu (nI (c - r)) := by
  intro r
  induction r with
  | zero =>
    intro _
    refine ⟨-1, fun post lv wt hg us hp => ⟨0 + 1, ?_⟩⟩
    rw [wL_pick_3]
    exact pk_le c (c - 0) (fun _ => hp) (fun z => absurd z (by omega))
  | succ r ih =>
    intro hr
    obtain ⟨a, ha⟩ := ih (by omega)
    have e1 : nI f + nI (c - (r + 1)) - (nI f + nI (c - (r + 1))) / nI c * nI c = nI ((f + (c - (r + 1))) % c) := by
      rw [nI_add, pk_rem (by omega) h0 (by omega)]
    have hl : (f + (c - (r + 1))) % c < c := Nat.mod_lt _ h0
    by_cases hs : sg_st c kd ((f + (c - (r + 1))) % c) = s
    · refine ⟨nI ((f + (c - (r + 1))) % c), fun post lv wt hg us hp => ⟨0 + 1, ?_⟩⟩
      rw [wL_pick_3]
      dsimp only
      rw [e1]
      exact pk_le c (c - (r + 1)) (fun z => absurd z (by omega)) (fun _ => ⟨nI_ne0 h0 (by omega), sg_sort hc (by omega) (br_t hs ⟨nI_ne0 h0 (by omega), hp⟩)⟩)
    · refine ⟨a, fun post lv wt hg us hp => ?_⟩
      obtain ⟨fu, hfu⟩ := ha post lv wt hg us hp
      refine ⟨fu + 1, ?_⟩
      rw [wL_pick_3]
      dsimp only
      rw [e1]
      refine pk_le c (c - (r + 1)) (fun z => absurd z (by omega)) (fun _ => ⟨nI_ne0 h0 (by omega), sg_sort hc (by omega) (br_f hs (nm_r ?_ hfu))⟩)
      rw [nI_1, show c - (r + 1) + 1 = c - r by omega]
theorem sg_pick (hc : c ≤ 24) (h0 : 0 < c) (f : Nat) (hf : f < c) (s : Int32) : ∃ a, ∀ (post : Int32 → Prop) (lv wt : Int32) (hg us : Nat → Int32), post a → wpL_pick post (nI c, ar, hv, ch, kt, ov, tc, lv, wt, kd, ox, oy, oz, hg, us, vl, nx, kp, tm) (nI c) (nI f) s := by
  obtain ⟨a, ha⟩ := sg_pick3 (ar := ar) (hv := hv) (ch := ch) (kt := kt) (ov := ov) (tc := tc) (kd := kd) (ox := ox) (oy := oy) (oz := oz) (vl := vl) (nx := nx) (kp := kp) (tm := tm) hc h0 f hf s c (Nat.le_refl c)
  rw [Nat.sub_self] at ha
  exact ⟨a, ha⟩
end
end
section
/-! the graph: parts, fit, and what stays true of it -/
section
variable {c : Nat} {ar hv ch kt ov tc lv wt : Int32} {kd ox oy oz hg us vl nx kp tm : Nat → Int32}
/-- the parts of a node, as the code computes them -/
def sg_pv (kd ox oy oz : Nat → Int32) (n : Nat) : Int32 :=
  if kd n = 0 then 0 else if kd n = 11 then 0 else
  if kd n = 4 then (if 0 ≤ ox n then (1 : Int32) <<< (ox n &&& 31) else 0) else
  if kd n = 10 then ((1 : Int32) <<< (oy n &&& 31)) ||| ((1 : Int32) <<< (oz n &&& 31)) else
  if kd n = 3 then ((1 : Int32) <<< (ox n &&& 31)) ||| ((1 : Int32) <<< (oy n &&& 31)) else
  if kd n = 6 then ((1 : Int32) <<< (ox n &&& 31)) ||| ((1 : Int32) <<< (oy n &&& 31)) else
  if kd n = 13 then ((1 : Int32) <<< (ox n &&& 31)) ||| (((1 : Int32) <<< (oy n &&& 31)) ||| ((1 : Int32) <<< (oz n &&& 31))) else
  (1 : Int32) <<< (ox n &&& 31)
theorem sg_partsOf {nc : Int32} {post : Int32 → Prop} {n : Nat} (hn : n < 24) (hp : post (sg_pv kd ox oy oz n)) : wpX_partsOf post (nc, ar, hv, ch, kt, ov, tc, lv, wt, kd, ox, oy, oz, hg, us, vl, nx, kp, tm) (nI n) := by
  unfold sg_pv at hp
  unfold wpX_partsOf
  dsimp only
  rw [nI_clamp (show n < 2 ^ 31 by omega)]
  refine ⟨pk_in n 24 hn, nm_e ?_⟩
  refine br_c (fun h0 => ?_) (fun h0 => br_c (fun h11 => ?_) (fun h11 => br_c (fun h4 => ⟨pk_in n 24 hn, ?_⟩) (fun h4 => br_c (fun h10 => ⟨pk_in n 24 hn, pk_in n 24 hn, ?_⟩) (fun h10 => ⟨pk_in n 24 hn, nm_e ?_⟩))))
  · rw [if_pos h0] at hp
    exact hp
  · rw [if_neg h0, if_pos h11] at hp
    exact hp
  · rw [if_neg h0, if_neg h11, if_pos h4] at hp
    refine br_c (fun hx => ⟨pk_in n 24 hn, ?_⟩) (fun hx => ?_)
    · rw [if_pos hx] at hp
      exact hp
    · rw [if_neg hx] at hp
      exact hp
  · rw [if_neg h0, if_neg h11, if_neg h4, if_pos h10] at hp
    exact hp
  · rw [if_neg h0, if_neg h11, if_neg h4, if_neg h10] at hp
    refine br_c (fun h3 => ?_) (fun h3 => br_c (fun h6 => ?_) (fun h6 => ?_))
    · rw [if_pos h3] at hp
      unfold wX_partsOf_90
      rw [nI_clamp (show n < 2 ^ 31 by omega)]
      refine ⟨pk_in n 24 hn, nm_e ?_⟩
      unfold wX_partsOf_101
      exact br_f (fun h => absurd (h3.symm.trans h) (by decide)) hp
    · rw [if_neg h3, if_pos h6] at hp
      unfold wX_partsOf_90
      rw [nI_clamp (show n < 2 ^ 31 by omega)]
      refine ⟨pk_in n 24 hn, nm_e ?_⟩
      unfold wX_partsOf_101
      exact br_f (fun h => absurd (h6.symm.trans h) (by decide)) hp
    · rw [if_neg h3, if_neg h6] at hp
      unfold wX_partsOf_101
      rw [nI_clamp (show n < 2 ^ 31 by omega)]
      refine br_c (fun h13 => ⟨pk_in n 24 hn, pk_in n 24 hn, nm_e ?_⟩) (fun h13 => ?_)
      · rw [if_pos h13] at hp
        exact hp
      · rw [if_neg h13] at hp
        exact hp
/-- what operandsFit asks -/
def sg_fit (c : Nat) (kd : Nat → Int32) (k x y z : Int32) : Prop :=
  (k = 4 → x = -1 ∨ sg_ev c kd x) ∧ (k = 3 → sg_ev c kd x ∧ sg_ev c kd y) ∧ (k = 5 → sg_ev c kd x ∧ sg_cl c kd y) ∧ (k = 7 → sg_ev c kd x ∧ sg_cl c kd y) ∧
  (k = 6 → sg_cl c kd x ∧ sg_cl c kd y) ∧ (k = 10 → sg_cl c kd x ∧ sg_ev c kd y ∧ sg_ev c kd z) ∧ (k = 13 → sg_cl c kd x ∧ sg_cl c kd y ∧ sg_cl c kd z) ∧
  (k = 9 → sg_cl c kd x) ∧ (k = 14 → sg_cl c kd x) ∧ (k ≠ 0 → k ≠ 4 → k ≠ 6 → k ≠ 10 → k ≠ 13 → k ≠ 9 → k ≠ 14 → sg_ev c kd x)
theorem sg_narB : ∀ r : Int32, r = 0 ∨ r = 1 → narrow .boolean (.int r) = .int r := by
  intro r h
  rcases h with h | h <;> subst h <;> rfl
theorem sg_opFit {post : Int32 → Prop} (hc : c ≤ 24) {k x y z : Int32} (h1 : sg_fit c kd k x y z → post 1) (h0 : ¬ sg_fit c kd k x y z → post 0) : wpX_operandsFit post (nI c, ar, hv, ch, kt, ov, tc, lv, wt, kd, ox, oy, oz, hg, us, vl, nx, kp, tm) k x y z := by
  unfold wpX_operandsFit
  dsimp only
  refine br_c (fun e => h1 ?_) (fun n0 => br_c (fun e => ?_) (fun n4 => br_c (fun e => ?_) (fun n3 => br_c (fun e => ?_) (fun n5 => br_c (fun e => ?_) (fun n7 => br_c (fun e => ?_) (fun n6 => br_c (fun e => ?_) (fun n10 => br_c (fun e => ?_) (fun n13 => br_c (fun e => ?_) (fun n9 => br_c (fun e => ?_) (fun n14 => ?_))))))))))
  · subst e
    exact ⟨fun h => absurd h (by decide), fun h => absurd h (by decide), fun h => absurd h (by decide), fun h => absurd h (by decide), fun h => absurd h (by decide), fun h => absurd h (by decide), fun h => absurd h (by decide), fun h => absurd h (by decide), fun h => absurd h (by decide), fun h => absurd rfl h⟩
  · subst e
    have F : (x = -1 ∨ sg_ev c kd x) → sg_fit c kd 4 x y z := fun g => ⟨fun _ => g, fun h => absurd h (by decide), fun h => absurd h (by decide), fun h => absurd h (by decide), fun h => absurd h (by decide), fun h => absurd h (by decide), fun h => absurd h (by decide), fun h => absurd h (by decide), fun h => absurd h (by decide), fun _ h => absurd rfl h⟩
    refine br_c (fun h => h1 (F (Or.inl h))) (fun h => ?_)
    exact sg_isEv hc (fun g => br_f (by decide) (h1 (F (Or.inr g)))) (fun g => br_t rfl (h0 (fun w => (w.1 rfl).elim h g)))
  · subst e
    have F : sg_ev c kd x ∧ sg_ev c kd y → sg_fit c kd 3 x y z := fun g => ⟨fun h => absurd h (by decide), fun _ => g, fun h => absurd h (by decide), fun h => absurd h (by decide), fun h => absurd h (by decide), fun h => absurd h (by decide), fun h => absurd h (by decide), fun h => absurd h (by decide), fun h => absurd h (by decide), fun _ _ _ _ _ _ _ => g.1⟩
    exact sg_isEv hc (fun g => br_f (by decide) (sg_isEv hc (fun g2 => br_f (by decide) (h1 (F ⟨g, g2⟩))) (fun g2 => br_t rfl (h0 (fun w => g2 (w.2.1 rfl).2))))) (fun g => br_t rfl (h0 (fun w => g (w.2.1 rfl).1)))
  · subst e
    have F : sg_ev c kd x ∧ sg_cl c kd y → sg_fit c kd 5 x y z := fun g => ⟨fun h => absurd h (by decide), fun h => absurd h (by decide), fun _ => g, fun h => absurd h (by decide), fun h => absurd h (by decide), fun h => absurd h (by decide), fun h => absurd h (by decide), fun h => absurd h (by decide), fun h => absurd h (by decide), fun _ _ _ _ _ _ _ => g.1⟩
    unfold wX_operandsFit_68
    exact sg_isEv hc (fun g => br_f (by decide) (sg_isCl hc (fun g2 => br_f (by decide) (h1 (F ⟨g, g2⟩))) (fun g2 => br_t rfl (h0 (fun w => g2 (w.2.2.1 rfl).2))))) (fun g => br_t rfl (h0 (fun w => g (w.2.2.1 rfl).1)))
  · subst e
    have F : sg_ev c kd x ∧ sg_cl c kd y → sg_fit c kd 7 x y z := fun g => ⟨fun h => absurd h (by decide), fun h => absurd h (by decide), fun h => absurd h (by decide), fun _ => g, fun h => absurd h (by decide), fun h => absurd h (by decide), fun h => absurd h (by decide), fun h => absurd h (by decide), fun h => absurd h (by decide), fun _ _ _ _ _ _ _ => g.1⟩
    unfold wX_operandsFit_68
    exact sg_isEv hc (fun g => br_f (by decide) (sg_isCl hc (fun g2 => br_f (by decide) (h1 (F ⟨g, g2⟩))) (fun g2 => br_t rfl (h0 (fun w => g2 (w.2.2.2.1 rfl).2))))) (fun g => br_t rfl (h0 (fun w => g (w.2.2.2.1 rfl).1)))
  · subst e
    have F : sg_cl c kd x ∧ sg_cl c kd y → sg_fit c kd 6 x y z := fun g => ⟨fun h => absurd h (by decide), fun h => absurd h (by decide), fun h => absurd h (by decide), fun h => absurd h (by decide), fun _ => g, fun h => absurd h (by decide), fun h => absurd h (by decide), fun h => absurd h (by decide), fun h => absurd h (by decide), fun _ _ h => absurd rfl h⟩
    exact sg_isCl hc (fun g => br_f (by decide) (sg_isCl hc (fun g2 => br_f (by decide) (h1 (F ⟨g, g2⟩))) (fun g2 => br_t rfl (h0 (fun w => g2 (w.2.2.2.2.1 rfl).2))))) (fun g => br_t rfl (h0 (fun w => g (w.2.2.2.2.1 rfl).1)))
  · subst e
    have F : sg_cl c kd x ∧ sg_ev c kd y ∧ sg_ev c kd z → sg_fit c kd 10 x y z := fun g => ⟨fun h => absurd h (by decide), fun h => absurd h (by decide), fun h => absurd h (by decide), fun h => absurd h (by decide), fun h => absurd h (by decide), fun _ => g, fun h => absurd h (by decide), fun h => absurd h (by decide), fun h => absurd h (by decide), fun _ _ _ h => absurd rfl h⟩
    exact sg_isCl hc (fun g => br_f (by decide) (sg_isEv hc (fun g2 => br_f (by decide) (sg_isEv hc (fun g3 => br_f (by decide) (h1 (F ⟨g, g2, g3⟩))) (fun g3 => br_t rfl (h0 (fun w => g3 (w.2.2.2.2.2.1 rfl).2.2))))) (fun g2 => br_t rfl (h0 (fun w => g2 (w.2.2.2.2.2.1 rfl).2.1))))) (fun g => br_t rfl (h0 (fun w => g (w.2.2.2.2.2.1 rfl).1)))
  · subst e
    have F : sg_cl c kd x ∧ sg_cl c kd y ∧ sg_cl c kd z → sg_fit c kd 13 x y z := fun g => ⟨fun h => absurd h (by decide), fun h => absurd h (by decide), fun h => absurd h (by decide), fun h => absurd h (by decide), fun h => absurd h (by decide), fun h => absurd h (by decide), fun _ => g, fun h => absurd h (by decide), fun h => absurd h (by decide), fun _ _ _ _ h => absurd rfl h⟩
    exact sg_isCl hc (fun g => br_f (by decide) (sg_isCl hc (fun g2 => br_f (by decide) (sg_isCl hc (fun g3 => br_f (by decide) (h1 (F ⟨g, g2, g3⟩))) (fun g3 => br_t rfl (h0 (fun w => g3 (w.2.2.2.2.2.2.1 rfl).2.2))))) (fun g2 => br_t rfl (h0 (fun w => g2 (w.2.2.2.2.2.2.1 rfl).2.1))))) (fun g => br_t rfl (h0 (fun w => g (w.2.2.2.2.2.2.1 rfl).1)))
  · subst e
    have F : sg_cl c kd x → sg_fit c kd 9 x y z := fun g => ⟨fun h => absurd h (by decide), fun h => absurd h (by decide), fun h => absurd h (by decide), fun h => absurd h (by decide), fun h => absurd h (by decide), fun h => absurd h (by decide), fun h => absurd h (by decide), fun _ => g, fun h => absurd h (by decide), fun _ _ _ _ _ h => absurd rfl h⟩
    unfold wX_operandsFit_204
    exact sg_isCl hc (fun g => ⟨sg_narB _ (Or.inr rfl), h1 (F g)⟩) (fun g => ⟨sg_narB _ (Or.inl rfl), h0 (fun w => g (w.2.2.2.2.2.2.2.1 rfl))⟩)
  · subst e
    have F : sg_cl c kd x → sg_fit c kd 14 x y z := fun g => ⟨fun h => absurd h (by decide), fun h => absurd h (by decide), fun h => absurd h (by decide), fun h => absurd h (by decide), fun h => absurd h (by decide), fun h => absurd h (by decide), fun h => absurd h (by decide), fun h => absurd h (by decide), fun _ => g, fun _ _ _ _ _ _ h => absurd rfl h⟩
    unfold wX_operandsFit_204
    exact sg_isCl hc (fun g => ⟨sg_narB _ (Or.inr rfl), h1 (F g)⟩) (fun g => ⟨sg_narB _ (Or.inl rfl), h0 (fun w => g (w.2.2.2.2.2.2.2.2.1 rfl))⟩)
  · have F : sg_ev c kd x → sg_fit c kd k x y z := fun g => ⟨fun h => absurd h n4, fun h => absurd h n3, fun h => absurd h n5, fun h => absurd h n7, fun h => absurd h n6, fun h => absurd h n10, fun h => absurd h n13, fun h => absurd h n9, fun h => absurd h n14, fun _ _ _ _ _ _ _ => g⟩
    exact sg_isEv hc (fun g => ⟨sg_narB _ (Or.inr rfl), h1 (F g)⟩) (fun g => ⟨sg_narB _ (Or.inl rfl), h0 (fun w => g (w.2.2.2.2.2.2.2.2.2 n0 n4 n6 n10 n13 n9 n14))⟩)
end
end
section
/-! what stays true of the graph (no program in sight) -/
section
variable {c : Nat} {ar hv ch kt ov tc lv wt : Int32} {kd ox oy oz hg us vl nx kp tm : Nat → Int32}
variable {kd' ox' oy' oz' w w' : Nat → Int32} {k x y z : Int32} {n m j b b' : Nat}
theorem sg_bitE (e : x = nI j) (hj : j < 24) : sg_b ((1 : Int32) <<< (x &&& 31)) m = decide (m = j) := by
  rw [e]
  exact sg_bit (by omega) m
theorem sg_bitT (e : x = nI j) (hj : j < 24) : sg_b ((1 : Int32) <<< (x &&& 31)) j = true := by
  rw [sg_bitE e hj]
  simp
theorem sg_ev_mono (hb : b ≤ b') (hk : ∀ j, j < b → kd' j = kd j) : sg_ev b kd x → sg_ev b' kd' x := fun ⟨j, hj, e, h⟩ => ⟨j, by omega, e, by rw [hk j hj]; exact h⟩
theorem sg_cl_mono (hb : b ≤ b') (hk : ∀ j, j < b → kd' j = kd j) : sg_cl b kd x → sg_cl b' kd' x := fun ⟨j, hj, e, h⟩ => ⟨j, by omega, e, by rw [hk j hj]; exact h⟩
theorem sg_fit_mono (hb : b ≤ b') (hk : ∀ j, j < b → kd' j = kd j) (h : sg_fit b kd k x y z) : sg_fit b' kd' k x y z := by
  obtain ⟨h1, h2, h3, h4, h5, h6, h7, h8, h9, h10⟩ := h
  exact ⟨fun e => (h1 e).imp id (sg_ev_mono hb hk), fun e => ⟨sg_ev_mono hb hk (h2 e).1, sg_ev_mono hb hk (h2 e).2⟩, fun e => ⟨sg_ev_mono hb hk (h3 e).1, sg_cl_mono hb hk (h3 e).2⟩, fun e => ⟨sg_ev_mono hb hk (h4 e).1, sg_cl_mono hb hk (h4 e).2⟩,
    fun e => ⟨sg_cl_mono hb hk (h5 e).1, sg_cl_mono hb hk (h5 e).2⟩, fun e => ⟨sg_cl_mono hb hk (h6 e).1, sg_ev_mono hb hk (h6 e).2.1, sg_ev_mono hb hk (h6 e).2.2⟩, fun e => ⟨sg_cl_mono hb hk (h7 e).1, sg_cl_mono hb hk (h7 e).2.1, sg_cl_mono hb hk (h7 e).2.2⟩,
    fun e => sg_cl_mono hb hk (h8 e), fun e => sg_cl_mono hb hk (h9 e), fun a1 a2 a3 a4 a5 a6 a7 => sg_ev_mono hb hk (h10 a1 a2 a3 a4 a5 a6 a7)⟩
def sg_at (b : Nat) (x : Int32) : Prop := ∃ j, j < b ∧ x = nI j
theorem sg_ev_at (h : sg_ev b kd x) : sg_at b x := by obtain ⟨j, hj, e, _⟩ := h; exact ⟨j, hj, e⟩
theorem sg_cl_at (h : sg_cl b kd x) : sg_at b x := by obtain ⟨j, hj, e, _⟩ := h; exact ⟨j, hj, e⟩
theorem sg_at_b (h : sg_at b x) (hb : b ≤ 24) (hm : sg_b ((1 : Int32) <<< (x &&& 31)) m = true) : m < b := by
  obtain ⟨j, hj, e⟩ := h
  rw [sg_bitE e (by omega)] at hm
  have := of_decide_eq_true hm
  omega
theorem sg_or_b {x y : Int32} (h : sg_b (x ||| y) m = true) : sg_b x m = true ∨ sg_b y m = true := by
  rw [sg_bor] at h
  simpa using h
theorem sg_orL {x y : Int32} (h : sg_b x m = true) : sg_b (x ||| y) m = true := by rw [sg_bor, h]; rfl
theorem sg_orR {x y : Int32} (h : sg_b y m = true) : sg_b (x ||| y) m = true := by rw [sg_bor, h]; simp
/-- an event's operand, for the kinds that have one there -/
theorem sg_fit_x (h : sg_fit b kd k x y z) (h0 : k ≠ 0) (h4 : k ≠ 4) : sg_at b x := by
  by_cases h6 : k = 6
  · exact sg_cl_at (h.2.2.2.2.1 h6).1
  by_cases h10 : k = 10
  · exact sg_cl_at (h.2.2.2.2.2.1 h10).1
  by_cases h13 : k = 13
  · exact sg_cl_at (h.2.2.2.2.2.2.1 h13).1
  by_cases h9 : k = 9
  · exact sg_cl_at (h.2.2.2.2.2.2.2.1 h9)
  by_cases h14 : k = 14
  · exact sg_cl_at (h.2.2.2.2.2.2.2.2.1 h14)
  exact sg_ev_at (h.2.2.2.2.2.2.2.2.2 h0 h4 h6 h10 h13 h9 h14)
/-- a part of a node that isn't a hold -/
theorem sg_pv_lt (hb : b ≤ 24) (h4 : kd n ≠ 4) (hf : sg_fit b kd (kd n) (ox n) (oy n) (oz n)) (hm : sg_b (sg_pv kd ox oy oz n) m = true) : m < b := by
  unfold sg_pv at hm
  by_cases h0 : kd n = 0
  · rw [if_pos h0, sg_b0] at hm
    exact absurd hm (by decide)
  have hx := sg_fit_x hf h0 h4
  by_cases h11 : kd n = 11
  · rw [if_neg h0, if_pos h11, sg_b0] at hm
    exact absurd hm (by decide)
  rw [if_neg h0, if_neg h11, if_neg h4] at hm
  by_cases h10 : kd n = 10
  · rw [if_pos h10] at hm
    have g := hf.2.2.2.2.2.1 h10
    exact (sg_or_b hm).elim (sg_at_b (sg_ev_at g.2.1) hb) (sg_at_b (sg_ev_at g.2.2) hb)
  rw [if_neg h10] at hm
  by_cases h3 : kd n = 3
  · rw [if_pos h3] at hm
    exact (sg_or_b hm).elim (sg_at_b hx hb) (sg_at_b (sg_ev_at (hf.2.1 h3).2) hb)
  rw [if_neg h3] at hm
  by_cases h6 : kd n = 6
  · rw [if_pos h6] at hm
    exact (sg_or_b hm).elim (sg_at_b hx hb) (sg_at_b (sg_cl_at (hf.2.2.2.2.1 h6).2) hb)
  rw [if_neg h6] at hm
  by_cases h13 : kd n = 13
  · rw [if_pos h13] at hm
    have g := hf.2.2.2.2.2.2.1 h13
    exact (sg_or_b hm).elim (sg_at_b hx hb) (fun q => (sg_or_b q).elim (sg_at_b (sg_cl_at g.2.1) hb) (sg_at_b (sg_cl_at g.2.2) hb))
  rw [if_neg h13] at hm
  exact sg_at_b hx hb hm
theorem sg_pv4 (h4 : kd n = 4) : sg_pv kd ox oy oz n = if 0 ≤ ox n then (1 : Int32) <<< (ox n &&& 31) else 0 := by
  unfold sg_pv
  rw [if_neg (fun h => absurd (h4.symm.trans h) (by decide)), if_neg (fun h => absurd (h4.symm.trans h) (by decide)), if_pos h4]
theorem sg_pv4_e (h4 : kd n = 4) (hb : b ≤ 24) (hf : ox n = -1 ∨ sg_ev b kd (ox n)) (hm : sg_b (sg_pv kd ox oy oz n) m = true) : m < b ∧ ox n = nI m := by
  rw [sg_pv4 h4] at hm
  rcases hf with e | ⟨j, hj, e, _⟩
  · rw [e, if_neg (by decide), sg_b0] at hm
    exact absurd hm (by decide)
  · rw [e, if_pos (nI_pos' (by omega)), sg_bit (by omega)] at hm
    have := of_decide_eq_true hm
    subst this
    exact ⟨hj, e⟩
theorem sg_pv4_i (h4 : kd n = 4) (hj : j < 24) (e : ox n = nI j) : sg_b (sg_pv kd ox oy oz n) j = true := by
  rw [sg_pv4 h4, e, if_pos (nI_pos' (by omega))]
  exact sg_bitT rfl hj
theorem sg_pvx (h0 : kd n ≠ 0) (h11 : kd n ≠ 11) (h4 : kd n ≠ 4) (h10 : kd n ≠ 10) (hj : j < 24) (e : ox n = nI j) : sg_b (sg_pv kd ox oy oz n) j = true := by
  unfold sg_pv
  rw [if_neg h0, if_neg h11, if_neg h4, if_neg h10]
  by_cases h3 : kd n = 3
  · rw [if_pos h3]
    exact sg_orL (sg_bitT e hj)
  rw [if_neg h3]
  by_cases h6 : kd n = 6
  · rw [if_pos h6]
    exact sg_orL (sg_bitT e hj)
  rw [if_neg h6]
  by_cases h13 : kd n = 13
  · rw [if_pos h13]
    exact sg_orL (sg_bitT e hj)
  rw [if_neg h13]
  exact sg_bitT e hj
theorem sg_pvy (h : kd n = 3 ∨ kd n = 6 ∨ kd n = 13 ∨ kd n = 10) (hj : j < 24) (e : oy n = nI j) : sg_b (sg_pv kd ox oy oz n) j = true := by
  unfold sg_pv
  rcases h with h | h | h | h
  · rw [h, if_neg (by decide), if_neg (by decide), if_neg (by decide), if_neg (by decide), if_pos rfl]
    exact sg_orR (sg_bitT e hj)
  · rw [h, if_neg (by decide), if_neg (by decide), if_neg (by decide), if_neg (by decide), if_neg (by decide), if_pos rfl]
    exact sg_orR (sg_bitT e hj)
  · rw [h, if_neg (by decide), if_neg (by decide), if_neg (by decide), if_neg (by decide), if_neg (by decide), if_neg (by decide), if_pos rfl]
    exact sg_orR (sg_orL (sg_bitT e hj))
  · rw [h, if_neg (by decide), if_neg (by decide), if_neg (by decide), if_pos rfl]
    exact sg_orL (sg_bitT e hj)
theorem sg_pvz (h : kd n = 13 ∨ kd n = 10) (hj : j < 24) (e : oz n = nI j) : sg_b (sg_pv kd ox oy oz n) j = true := by
  unfold sg_pv
  rcases h with h | h
  · rw [h, if_neg (by decide), if_neg (by decide), if_neg (by decide), if_neg (by decide), if_neg (by decide), if_neg (by decide), if_pos rfl]
    exact sg_orR (sg_orR (sg_bitT e hj))
  · rw [h, if_neg (by decide), if_neg (by decide), if_neg (by decide), if_pos rfl]
    exact sg_orR (sg_bitT e hj)
theorem sg_pv_at (h1 : kd' n = kd n) (h2 : ox' n = ox n) (h3 : oy' n = oy n) (h4 : oz' n = oz n) : sg_pv kd' ox' oy' oz' n = sg_pv kd ox oy oz n := by
  unfold sg_pv
  rw [h1, h2, h3, h4]
/-- the graph -/
def sg_G (c : Nat) (kd ox oy oz : Nat → Int32) : Prop :=
  c ≤ 24 ∧ (∀ n, n < c → kd n ≠ 4 → sg_fit n kd (kd n) (ox n) (oy n) (oz n)) ∧ (∀ n, n < c → kd n = 4 → ox n = -1 ∨ sg_ev c kd (ox n)) ∧
  ∃ rk : Nat → Nat, ∀ n, n < c → ∀ m, sg_b (sg_pv kd ox oy oz n) m = true → rk m < rk n
theorem sg_part_lt (hG : sg_G c kd ox oy oz) (hn : n < c) (hm : sg_b (sg_pv kd ox oy oz n) m = true) : m < c := by
  obtain ⟨hc, h1, h2, _⟩ := hG
  by_cases h4 : kd n = 4
  · exact (sg_pv4_e h4 hc (h2 n hn h4) hm).1
  · have := sg_pv_lt (b := n) (by omega) h4 (h1 n hn h4) hm
    omega
/-- ranks below the number of nodes -/
theorem sg_rank (hG : sg_G c kd ox oy oz) : ∃ rk : Nat → Nat, (∀ n, n < c → rk n < c) ∧ ∀ n, n < c → ∀ m, sg_b (sg_pv kd ox oy oz n) m = true → rk m < rk n := by
  have hG' := hG
  obtain ⟨hc, h1, h2, rk, h3⟩ := hG'
  obtain ⟨r, hr, hr2⟩ := sg_press rk c
  exact ⟨r, hr, fun n hn m hm => hr2 n m (sg_part_lt hG hn hm) (h3 n hn m hm)⟩
theorem sg_nodeG (hG : sg_G c kd ox oy oz) (hc : c < 24) (hf : sg_fit c kd k x y z) : sg_G (c + 1) (upd kd c k) (upd ox c x) (upd oy c y) (upd oz c z) := by
  obtain ⟨rk, hr, hr2⟩ := sg_rank hG
  have hpl : ∀ n, n < c → ∀ m, sg_b (sg_pv kd ox oy oz n) m = true → m < c := fun n hn m hm => sg_part_lt hG hn hm
  obtain ⟨_, h1, h2, _⟩ := hG
  have hkk : ∀ j, j < c → upd kd c k j = kd j := fun j hj => pk_un (by omega)
  refine ⟨by omega, fun n hn h4 => ?_, fun n hn h4 => ?_, fun n => if n = c then c else rk n, fun n hn m hm => ?_⟩
  · by_cases e : n = c
    · subst e
      rw [pk_us, pk_us, pk_us, pk_us]
      exact sg_fit_mono (Nat.le_refl _) hkk hf
    · rw [pk_un e] at h4
      rw [pk_un e, pk_un e, pk_un e, pk_un e]
      exact sg_fit_mono (Nat.le_refl _) (fun j hj => hkk j (by omega)) (h1 n (by omega) h4)
  · by_cases e : n = c
    · subst e
      rw [pk_us] at h4
      rw [pk_us]
      exact (hf.1 h4).imp id (sg_ev_mono (by omega) hkk)
    · rw [pk_un e] at h4
      rw [pk_un e]
      exact (h2 n (by omega) h4).imp id (sg_ev_mono (by omega) hkk)
  · by_cases e : n = c
    · subst e
      have hmc : m < n := by
        by_cases h4 : k = 4
        · have q := sg_pv4_e (b := n) (n := n) (kd := upd kd n k) (ox := upd ox n x) (oy := upd oy n y) (oz := upd oz n z) (m := m) (by rw [pk_us]; exact h4) (by omega) (by rw [pk_us]; exact (hf.1 h4).imp id (sg_ev_mono (by omega) hkk)) hm
          exact q.1
        · exact sg_pv_lt (b := n) (n := n) (kd := upd kd n k) (ox := upd ox n x) (oy := upd oy n y) (oz := upd oz n z) (by omega) (by rw [pk_us]; exact h4) (by rw [pk_us, pk_us, pk_us, pk_us]; exact sg_fit_mono (Nat.le_refl _) hkk hf) hm
      dsimp only
      rw [if_neg (by omega), if_pos rfl]
      exact hr m hmc
    · rw [sg_pv_at (pk_un e) (pk_un e) (pk_un e) (pk_un e)] at hm
      have hmc := hpl n (by omega) m hm
      dsimp only
      rw [if_neg (by omega), if_neg e]
      exact hr2 n (by omega) m hm
/-- a hold tied to an event out of a closed set that it isn't in -/
theorem sg_tieG {h e : Nat} (hG : sg_G c kd ox oy oz) (hh : h < c) (h4 : kd h = 4) (he : e < c) (hk : ¬ sg_ck (kd e)) (S : Nat → Prop) (hS : S e) (hS2 : ¬ S h) (hS3 : ∀ n, n < c → S n → ∀ m, sg_b (sg_pv kd ox oy oz n) m = true → S m) : sg_G c kd (upd ox h (nI e)) oy oz := by
  obtain ⟨hc, h1, h2, rk, h3⟩ := hG
  refine ⟨hc, fun n hn g4 => ?_, fun n hn g4 => ?_, ?_⟩
  · have e' : n ≠ h := fun z => g4 (z ▸ h4)
    rw [pk_un e']
    exact h1 n hn g4
  · by_cases e' : n = h
    · subst e'
      rw [pk_us]
      exact Or.inr ⟨e, he, rfl, hk⟩
    · rw [pk_un e']
      exact h2 n hn g4
  · refine Classical.byContradiction fun hno => ?_
    refine hno ⟨fun n => @ite Nat (S n) (Classical.propDecidable _) (rk n) (rk n + (rk e + 1)), fun n hn m hm => ?_⟩
    dsimp only
    by_cases e' : n = h
    · subst e'
      have q := sg_pv4_e (ox := upd ox n (nI e)) h4 hc (by rw [pk_us]; exact Or.inr ⟨e, he, rfl, hk⟩) hm
      have q2 := q.2
      rw [pk_us] at q2
      have := sg_nj (by omega) (by omega) q2
      subst this
      rw [if_pos hS, if_neg hS2]
      omega
    · rw [sg_pv_at (ox := ox) rfl (pk_un e') rfl rfl] at hm
      have q := h3 n hn m hm
      by_cases sn : S n
      · rw [if_pos sn, if_pos (hS3 n hn sn m hm)]
        exact q
      · rw [if_neg sn]
        by_cases sm : S m
        · rw [if_pos sm]
          omega
        · rw [if_neg sm]
          omega
/-- the last node is taken away -/
theorem sg_retG (hG : sg_G (c + 1) kd ox oy oz) (e1 : ∀ n, n < c → kd n = 4 → ox n = nI c → ox' n = -1) (e2 : ∀ n, n < c → ¬ (kd n = 4 ∧ ox n = nI c) → ox' n = ox n) : sg_G c kd ox' oy oz := by
  obtain ⟨hc, h1, h2, rk, h3⟩ := hG
  refine ⟨by omega, fun n hn g4 => ?_, fun n hn g4 => ?_, rk, fun n hn m hm => ?_⟩
  · rw [e2 n hn (fun z => g4 z.1)]
    exact h1 n (by omega) g4
  · by_cases q : ox n = nI c
    · exact Or.inl (e1 n hn g4 q)
    · rw [e2 n hn (fun z => q z.2)]
      rcases h2 n (by omega) g4 with e | ⟨j, hj, e, hk⟩
      · exact Or.inl e
      · refine Or.inr ⟨j, ?_, e, hk⟩
        have : j ≠ c := fun z => q (z ▸ e)
        omega
  · by_cases q : kd n = 4 ∧ ox n = nI c
    · rw [sg_pv4 q.1, e1 n hn q.1 q.2, if_neg (by decide), sg_b0] at hm
      exact absurd hm (by decide)
    · rw [sg_pv_at (ox := ox) rfl (e2 n hn q) rfl rfl] at hm
      exact h3 n (by omega) m hm
/-- what a combining cell computes -/
def sg_cb (kd ox oy oz w : Nat → Int32) (n : Nat) : Int32 :=
  if kd n = 14 then w (ox n).toNatClampNeg * oy n + oz n else if kd n = 6 then w (ox n).toNatClampNeg + w (oy n).toNatClampNeg else
  if w (ox n).toNatClampNeg = 0 then w (oz n).toNatClampNeg else w (oy n).toNatClampNeg
theorem sg_cl_cl (h : sg_cl b kd x) (hb : b ≤ 24) : x.toNatClampNeg < b ∧ sg_ck (kd x.toNatClampNeg) ∧ x = nI x.toNatClampNeg := by
  obtain ⟨j, hj, e, hk⟩ := h
  rw [e, nI_clamp (by omega)]
  exact ⟨hj, hk, rfl⟩
theorem sg_ev_ev (h : sg_ev b kd x) (hb : b ≤ 24) : x.toNatClampNeg < b ∧ ¬ sg_ck (kd x.toNatClampNeg) ∧ x = nI x.toNatClampNeg := by
  obtain ⟨j, hj, e, hk⟩ := h
  rw [e, nI_clamp (by omega)]
  exact ⟨hj, hk, rfl⟩
theorem sg_cb_at (h1 : kd' n = kd n) (h2 : ox' n = ox n) (h3 : oy' n = oy n) (h4 : oz' n = oz n) : sg_cb kd' ox' oy' oz' w n = sg_cb kd ox oy oz w n := by
  unfold sg_cb
  rw [h1, h2, h3, h4]
/-- a combining cell looks at cells alone, its parts -/
theorem sg_cb_w (hb : b ≤ 24) (hf : sg_fit b kd (kd n) (ox n) (oy n) (oz n)) (hk : sg_ck (kd n)) (h4 : kd n ≠ 4) (hw : ∀ j, j < b → sg_ck (kd j) → sg_b (sg_pv kd ox oy oz n) j = true → w j = w' j) : sg_cb kd ox oy oz w n = sg_cb kd ox oy oz w' n := by
  unfold sg_cb
  by_cases h14 : kd n = 14
  · rw [if_pos h14, if_pos h14]
    have a := sg_cl_cl (hf.2.2.2.2.2.2.2.2.1 h14) hb
    rw [hw _ a.1 a.2.1 (sg_pvx (fun z => absurd (h14.symm.trans z) (by decide)) (fun z => absurd (h14.symm.trans z) (by decide)) h4 (fun z => absurd (h14.symm.trans z) (by decide)) (by omega) a.2.2)]
  rw [if_neg h14, if_neg h14]
  by_cases h6 : kd n = 6
  · rw [if_pos h6, if_pos h6]
    have g := hf.2.2.2.2.1 h6
    have a := sg_cl_cl g.1 hb
    have d := sg_cl_cl g.2 hb
    rw [hw _ a.1 a.2.1 (sg_pvx (fun z => absurd (h6.symm.trans z) (by decide)) (fun z => absurd (h6.symm.trans z) (by decide)) h4 (fun z => absurd (h6.symm.trans z) (by decide)) (by omega) a.2.2), hw _ d.1 d.2.1 (sg_pvy (Or.inr (Or.inl h6)) (by omega) d.2.2)]
  rw [if_neg h6, if_neg h6]
  have h13 : kd n = 13 := by
    rcases hk with z | z | z | z
    · exact absurd z h4
    · exact absurd z h6
    · exact z
    · exact absurd z h14
  have g := hf.2.2.2.2.2.2.1 h13
  have a := sg_cl_cl g.1 hb
  have d := sg_cl_cl g.2.1 hb
  have f := sg_cl_cl g.2.2 hb
  rw [hw _ a.1 a.2.1 (sg_pvx (fun z => absurd (h13.symm.trans z) (by decide)) (fun z => absurd (h13.symm.trans z) (by decide)) h4 (fun z => absurd (h13.symm.trans z) (by decide)) (by omega) a.2.2), hw _ d.1 d.2.1 (sg_pvy (Or.inr (Or.inr (Or.inl h13))) (by omega) d.2.2), hw _ f.1 f.2.1 (sg_pvz (Or.inl h13) (by omega) f.2.2)]
/-- the combining cells hold what they compute -/
def sg_K (c : Nat) (kd ox oy oz vl : Nat → Int32) : Prop := ∀ n, n < c → sg_ck (kd n) → kd n ≠ 4 → vl n = sg_cb kd ox oy oz vl n
theorem sg_nodeK {vl' : Nat → Int32} (hG : sg_G c kd ox oy oz) (hK : sg_K c kd ox oy oz vl) (hf : sg_fit c kd k x y z) (hc : c < 24) (hv : ∀ n, n < c → vl' n = vl n) (hn : sg_ck k → k ≠ 4 → vl' c = sg_cb (upd kd c k) (upd ox c x) (upd oy c y) (upd oz c z) vl' c) : sg_K (c + 1) (upd kd c k) (upd ox c x) (upd oy c y) (upd oz c z) vl' := by
  intro n hn' hk h4
  by_cases e : n = c
  · subst e
    rw [pk_us] at hk h4
    exact hn hk h4
  · rw [pk_un e] at hk h4
    rw [sg_cb_at (pk_un e) (pk_un e) (pk_un e) (pk_un e), hv n (by omega), hK n (by omega) hk h4]
    exact (sg_cb_w (b := n) (by omega) (hG.2.1 n (by omega) h4) hk h4 (fun j hj _ _ => hv j (by omega))).symm
theorem sg_retK (hK : sg_K (c + 1) kd ox oy oz vl) (e2 : ∀ n, n < c → ¬ (kd n = 4 ∧ ox n = nI c) → ox' n = ox n) : sg_K c kd ox' oy oz vl := by
  intro n hn hk h4
  rw [sg_cb_at (ox := ox) rfl (e2 n hn (fun z => h4 z.1)) rfl rfl]
  exact hK n (by omega) hk h4
theorem sg_tieK {h : Nat} (hK : sg_K c kd ox oy oz vl) (h4 : kd h = 4) : sg_K c kd (upd ox h x) oy oz vl := by
  intro n hn hk g4
  have e : n ≠ h := fun z => g4 (z ▸ h4)
  rw [sg_cb_at (ox := ox) rfl (pk_un e) rfl rfl]
  exact hK n hn hk g4
/-- an arrangement: heights that grow from parts to nodes, and users that know them -/
def sg_ar (c : Nat) (kd ox oy oz hg us : Nat → Int32) : Prop := ∃ t : Nat → Nat, (∀ n, n < c → hg n = nI (t n) ∧ t n < 24) ∧ ∀ n, n < c → ∀ m, sg_b (sg_pv kd ox oy oz n) m = true → t m < t n ∧ sg_b (us m) n = true
end
end
section
/-! making, tying and taking away nodes -/
section
variable {c : Nat} {ar hv ch kt ov tc lv wt : Int32} {kd ox oy oz hg us vl nx kp tm : Nat → Int32}
variable {k x y z : Int32} {n m : Nat}
def sg_fg (x : Int32) (n : Nat) : Int32 := x &&& (((1 : Int32) <<< (nI n &&& 31)) ^^^ (-1))
theorem sg_forget {nc : Int32} {post : St1 → Prop} (hp : post (nc, ar, sg_fg hv n, sg_fg ch n, sg_fg kt n, sg_fg ov n, tc, lv, wt, kd, ox, oy, oz, hg, us, vl, nx, kp, tm)) : wpX_forget post (nc, ar, hv, ch, kt, ov, tc, lv, wt, kd, ox, oy, oz, hg, us, vl, nx, kp, tm) (nI n) := by
  unfold wpX_forget
  dsimp only
  exact nm_e (nm_e (nm_e (nm_e (nm_e hp))))
/-- a cell's value after the changes -/
def sg_w (ch : Int32) (vl nx : Nat → Int32) (m : Nat) : Int32 := if sg_b ch m = true then nx m else vl m
theorem sg_cval {nc p1 : Int32} {w : Nat → Int32} {post : Int32 → Prop} (hm : m < 24) (hw : (p1 = 0 ∧ w = vl) ∨ (p1 ≠ 0 ∧ w = sg_w ch vl nx)) (hp : post (w m)) : wpX_cellValue post (nc, ar, hv, ch, kt, ov, tc, lv, wt, kd, ox, oy, oz, hg, us, vl, nx, kp, tm) (nI m) p1 := by
  unfold wpX_cellValue
  dsimp only
  rw [nI_clamp (show m < 2 ^ 31 by omega)]
  rcases hw with ⟨h1, h2⟩ | ⟨h1, h2⟩
  · rw [h2] at hp
    exact br_t h1 ⟨pk_in m 24 hm, hp⟩
  · rw [h2] at hp
    unfold sg_w at hp
    refine br_f h1 (br_c (fun h => ⟨pk_in m 24 hm, ?_⟩) (fun h => ⟨pk_in m 24 hm, ?_⟩))
    · rw [if_neg (by rw [(sg_tst (by omega) ch).mp h]; decide)] at hp
      exact hp
    · rw [if_pos ((sg_ntst (by omega) ch).mp h)] at hp
      exact hp
theorem sg_comb {nc p1 : Int32} {w : Nat → Int32} {post : Int32 → Prop} (hn : n < 24) (hw : (p1 = 0 ∧ w = vl) ∨ (p1 ≠ 0 ∧ w = sg_w ch vl nx)) (hx : sg_at 24 (ox n)) (hy : kd n ≠ 14 → sg_at 24 (oy n)) (hz : kd n ≠ 14 → kd n ≠ 6 → sg_at 24 (oz n)) (hp : post (sg_cb kd ox oy oz w n)) : wpX_combined post (nc, ar, hv, ch, kt, ov, tc, lv, wt, kd, ox, oy, oz, hg, us, vl, nx, kp, tm) (nI n) p1 := by
  unfold wpX_combined
  dsimp only
  rw [nI_clamp (show n < 2 ^ 31 by omega)]
  unfold sg_cb at hp
  obtain ⟨i, hi, ei⟩ := hx
  rw [ei]
  rw [ei, nI_clamp (show i < 2 ^ 31 by omega)] at hp
  refine ⟨pk_in n 24 hn, nm_e ⟨pk_in n 24 hn, sg_cval hi hw ?_⟩⟩
  refine br_c (fun h14 => ⟨pk_in n 24 hn, pk_in n 24 hn, ?_⟩) (fun h14 => br_c (fun h6 => ⟨pk_in n 24 hn, ?_⟩) (fun h6 => br_c (fun h0 => ⟨pk_in n 24 hn, ?_⟩) (fun h0 => ⟨pk_in n 24 hn, ?_⟩)))
  · rw [if_pos h14] at hp
    exact hp
  · rw [if_neg h14, if_pos h6] at hp
    obtain ⟨j, hj, ej⟩ := hy h14
    rw [ej]
    rw [ej, nI_clamp (show j < 2 ^ 31 by omega)] at hp
    exact sg_cval hj hw hp
  · rw [if_neg h14, if_neg h6, if_pos h0] at hp
    obtain ⟨j, hj, ej⟩ := hz h14 h6
    rw [ej]
    rw [ej, nI_clamp (show j < 2 ^ 31 by omega)] at hp
    exact sg_cval hj hw hp
  · rw [if_neg h14, if_neg h6, if_neg h0] at hp
    obtain ⟨j, hj, ej⟩ := hy h14
    rw [ej]
    rw [ej, nI_clamp (show j < 2 ^ 31 by omega)] at hp
    exact sg_cval hj hw hp
theorem sg_at_mono {b b' : Nat} (h : b ≤ b') (hx : sg_at b x) : sg_at b' x := by
  obtain ⟨j, hj, e⟩ := hx
  exact ⟨j, by omega, e⟩
/-- the operands of a combining cell -/
theorem sg_cbop {b : Nat} (hb : b ≤ 24) (hf : sg_fit b kd k x y z) (hk : sg_ck k) (h4 : k ≠ 4) : sg_at 24 x ∧ (k ≠ 14 → sg_at 24 y) ∧ (k ≠ 14 → k ≠ 6 → sg_at 24 z) := by
  have h13 : k ≠ 14 → k ≠ 6 → k = 13 := fun a b => by
    rcases hk with q | q | q | q
    · exact absurd q h4
    · exact absurd q b
    · exact q
    · exact absurd q a
  refine ⟨sg_at_mono hb (sg_fit_x hf (fun q => ?_) h4), fun a => ?_, fun a c6 => sg_at_mono hb (sg_cl_at (hf.2.2.2.2.2.2.1 (h13 a c6)).2.2)⟩
  · rw [q] at hk
    exact absurd hk (by decide)
  · by_cases c6 : k = 6
    · exact sg_at_mono hb (sg_cl_at (hf.2.2.2.2.1 c6).2)
    · exact sg_at_mono hb (sg_cl_at (hf.2.2.2.2.2.2.1 (h13 a c6)).2.1)
theorem sg_k8 (h0 : ¬ k < 0) (h14 : ¬ 14 < k) : k.toInt8.toInt32 = k := by
  have h : k ≤ 14 := Int32.not_lt.mp h14
  obtain ⟨j, hj, e⟩ := nI_of2 (M := 14) (n := 14) (by decide) h0 h
  subst e
  exact (by decide : ∀ j, j < 15 → (nI j).toInt8.toInt32 = nI j) j (by omega)
/-- what a node's making gives -/
theorem sg_node (hG : sg_G c kd ox oy oz) (hK : sg_K c kd ox oy oz vl) (hc : c < 24) (hf : sg_fit c kd k x y z) (hk0 : ¬ k < 0) (hk14 : ¬ 14 < k) : ∃ vl', sg_K (c + 1) (upd kd c k) (upd ox c x) (upd oy c y) (upd oz c z) vl' ∧ ∀ (post : Int32 → St1 → Prop) (lv wt : Int32) (hg us : Nat → Int32), post (nI c) (nI (c + 1), 0, sg_fg hv c, sg_fg ch c, sg_fg kt c, sg_fg ov c, tc, lv, wt, upd kd c k, upd ox c x, upd oy c y, upd oz c z, hg, us, vl', nx, upd kp c 0, upd tm c 0) → wpX_node post (nI c, ar, hv, ch, kt, ov, tc, lv, wt, kd, ox, oy, oz, hg, us, vl, nx, kp, tm) k x y z := by
  have hf' : sg_fit c (upd kd c k) (upd kd c k c) (upd ox c x c) (upd oy c y c) (upd oz c z c) := by
    rw [pk_us, pk_us, pk_us, pk_us]
    exact sg_fit_mono (Nat.le_refl _) (fun j hj => pk_un (by omega)) hf
  -- the walk up to the label 118
  have W : ∀ (v : Int32) (post : Int32 → St1 → Prop) (lv wt : Int32) (hg us : Nat → Int32), ((k = 4 ∧ v = y) ∨ (k ≠ 4 ∧ v = 0)) → wX_node_118 post k (nI c) v (nI c) (nI (c + 1)) ar hv ch kt ov tc lv wt (upd kd c k) (upd ox c x) (upd oy c y) (upd oz c z) hg us vl nx (upd kp c 0) (upd tm c 0) → wpX_node post (nI c, ar, hv, ch, kt, ov, tc, lv, wt, kd, ox, oy, oz, hg, us, vl, nx, kp, tm) k x y z := by
    intro v post lv wt hg us hv' h
    unfold wpX_node
    dsimp only
    rw [nI_clamp (show c < 2 ^ 31 by omega), sg_k8 hk0 hk14]
    refine pk_lt c 24 (fun _ => ?_) (fun q => absurd q (by omega))
    refine br_f hk0 (br_f hk14 (sg_opFit (by omega) (fun _ => br_f (by decide) ?_) (fun q => absurd hf q)))
    refine nm_r (nI_1 c) ⟨pk_in c 24 hc, nm_e ⟨pk_in c 24 hc, nm_e ⟨pk_in c 24 hc, nm_e ⟨pk_in c 24 hc, nm_e ⟨pk_in c 24 hc, nm_e ⟨pk_in c 24 hc, nm_e ?_⟩⟩⟩⟩⟩⟩
    rcases hv' with ⟨e, e'⟩ | ⟨e, e'⟩
    · subst e'
      exact br_t e h
    · subst e'
      exact br_f e h
  by_cases hk : sg_ck k ∧ k ≠ 4
  · have op := sg_cbop (by omega : c ≤ 24) hf hk.1 hk.2
    refine ⟨upd (upd vl c 0) c (sg_cb (upd kd c k) (upd ox c x) (upd oy c y) (upd oz c z) (upd vl c 0) c), ?_, fun post lv wt hg us hp => W 0 post lv wt hg us (Or.inr ⟨hk.2, rfl⟩) ?_⟩
    · refine sg_nodeK hG hK hf hc (fun n hn => by rw [pk_un (by omega), pk_un (by omega)]) (fun _ _ => ?_)
      rw [pk_us]
      refine sg_cb_w (b := c) (by omega) hf' (by rw [pk_us]; exact hk.1) (by rw [pk_us]; exact hk.2) (fun j hj _ _ => ?_)
      rw [pk_un (show j ≠ c by omega), pk_un (show j ≠ c by omega), pk_un (show j ≠ c by omega)]
    · unfold wX_node_118
      rw [nI_clamp (show c < 2 ^ 31 by omega)]
      refine ⟨pk_in c 24 hc, nm_e (sg_forget ?_)⟩
      refine sg_isCK (fun _ => br_f (by decide) (br_f hk.2 ?_)) (fun q => absurd hk.1 q)
      refine sg_comb hc (Or.inl ⟨rfl, rfl⟩) (by rw [pk_us]; exact op.1) (by rw [pk_us, pk_us]; exact op.2.1) (by rw [pk_us, pk_us]; exact op.2.2) ⟨pk_in c 24 hc, nm_e hp⟩
  · have hk' : ¬ sg_ck k ∨ k = 4 := by
      by_cases q : sg_ck k
      · exact Or.inr (Classical.byContradiction fun r => hk ⟨q, r⟩)
      · exact Or.inl q
    refine ⟨upd vl c (if k = 4 then y else 0), ?_, fun post lv wt hg us hp => W (if k = 4 then y else 0) post lv wt hg us ?_ ?_⟩
    · exact sg_nodeK hG hK hf hc (fun n hn => by rw [pk_un (by omega)]) (fun a b => absurd ⟨a, b⟩ hk)
    · by_cases q : k = 4
      · rw [if_pos q]
        exact Or.inl ⟨q, rfl⟩
      · rw [if_neg q]
        exact Or.inr ⟨q, rfl⟩
    · unfold wX_node_118
      rw [nI_clamp (show c < 2 ^ 31 by omega)]
      refine ⟨pk_in c 24 hc, nm_e (sg_forget ?_)⟩
      refine sg_isCK (fun q => br_f (by decide) (br_t (hk'.resolve_left (fun r => r q)) hp)) (fun q => br_t rfl hp)
theorem sg_nodeF (hG : sg_G c kd ox oy oz) (h : ¬ (c < 24 ∧ ¬ k < 0 ∧ ¬ 14 < k ∧ sg_fit c kd k x y z)) : ∃ r, r < 0 ∧ ∀ (post : Int32 → St1 → Prop) (lv wt : Int32) (hg us : Nat → Int32), post r (nI c, ar, hv, ch, kt, ov, tc, lv, wt, kd, ox, oy, oz, hg, us, vl, nx, kp, tm) → wpX_node post (nI c, ar, hv, ch, kt, ov, tc, lv, wt, kd, ox, oy, oz, hg, us, vl, nx, kp, tm) k x y z := by
  have hc := hG.1
  by_cases h24 : c < 24
  · refine ⟨-1, by decide, fun post lv wt hg us hp => ?_⟩
    unfold wpX_node
    dsimp only
    refine pk_lt c 24 (fun _ => ?_) (fun q => absurd q (by omega))
    refine br_c (fun _ => hp) (fun a => br_c (fun _ => hp) (fun b => sg_opFit hc (fun f => absurd ⟨h24, a, b, f⟩ h) (fun _ => br_t rfl hp)))
  · refine ⟨-2, by decide, fun post lv wt hg us hp => ?_⟩
    unfold wpX_node
    dsimp only
    exact pk_lt c 24 (fun q => absurd q h24) (fun _ => hp)
end
end
section
/-! made, retract, fire, below, leads, tie -/
section
variable {c : Nat} {ar hv ch kt ov tc lv wt : Int32} {kd ox oy oz hg us vl nx kp tm : Nat → Int32}
variable {n m : Nat}
theorem sg_made209 (x3 x5 x8 x9 x10 x11 x12 x13 : Int32) : ∃ k x y z, ∀ (post : Int32 → St1 → Prop) (lv wt : Int32) (hg us : Nat → Int32), wpX_node post (nI c, ar, hv, ch, kt, ov, tc, lv, wt, kd, ox, oy, oz, hg, us, vl, nx, kp, tm) k x y z → wL_made_209 post x3 x5 x8 x9 x10 x11 x12 x13 (nI c) ar hv ch kt ov tc lv wt kd ox oy oz hg us vl nx kp tm := by
  by_cases h3 : x5 = 3
  · exact ⟨3, x9, x10, 0, fun post lv wt hg us h => br_t h3 h⟩
  by_cases h4 : x5 = 4
  · by_cases h8 : (x8 &&& 3) = 0
    · exact ⟨4, -1, x3 - x3 / 10 * 10, 0, fun post lv wt hg us h => br_f h3 (br_t h4 (br_t h8 ⟨by decide, h⟩))⟩
    · exact ⟨4, x9, x3 - x3 / 10 * 10, 0, fun post lv wt hg us h => br_f h3 (br_t h4 (br_f h8 ⟨by decide, h⟩))⟩
  by_cases h5 : x5 = 5
  · exact ⟨x5, x9, x12, 0, fun post lv wt hg us h => br_f h3 (br_f h4 (br_t h5 h))⟩
  by_cases h7 : x5 = 7
  · exact ⟨x5, x9, x12, 0, fun post lv wt hg us h => br_f h3 (br_f h4 (br_f h5 (br_t h7 h)))⟩
  by_cases h6 : x5 = 6
  · exact ⟨x5, x11, x12, x13, fun post lv wt hg us h => br_f h3 (br_f h4 (br_f h5 (br_f h7 (br_t h6 h))))⟩
  by_cases h9 : x5 = 9
  · exact ⟨x5, x11, x12, x13, fun post lv wt hg us h => br_f h3 (br_f h4 (br_f h5 (br_f h7 (br_f h6 (br_t h9 h)))))⟩
  by_cases h13 : x5 = 13
  · exact ⟨x5, x11, x12, x13, fun post lv wt hg us h => br_f h3 (br_f h4 (br_f h5 (br_f h7 (br_f h6 (br_f h9 (br_t h13 h))))))⟩
  by_cases h10 : x5 = 10
  · exact ⟨10, x11, x10, x9, fun post lv wt hg us h => br_f h3 (br_f h4 (br_f h5 (br_f h7 (br_f h6 (br_f h9 (br_f h13 (br_t h10 h)))))))⟩
  by_cases h14 : x5 = 14
  · exact ⟨14, x11, x3 - x3 / 5 * 5, (x3 >>> ((8 : Int32) &&& 31)) &&& 7, fun post lv wt hg us h => br_f h3 (br_f h4 (br_f h5 (br_f h7 (br_f h6 (br_f h9 (br_f h13 (br_f h10 (br_t h14 ⟨by decide, h⟩))))))))⟩
  · exact ⟨x5, x9, x3 - x3 / 5 * 5, (x3 >>> ((8 : Int32) &&& 31)) &&& 7, fun post lv wt hg us h => br_f h3 (br_f h4 (br_f h5 (br_f h7 (br_f h6 (br_f h9 (br_f h13 (br_f h10 (br_f h14 ⟨by decide, h⟩))))))))⟩
theorem sg_made160 (x3 x5 x8 x9 x10 x11 x12 x13 : Int32) : ∃ k x y z, ∀ (post : Int32 → St1 → Prop) (lv wt : Int32) (hg us : Nat → Int32), wpX_node post (nI c, ar, hv, ch, kt, ov, tc, lv, wt, kd, ox, oy, oz, hg, us, vl, nx, kp, tm) k x y z → wL_made_160 post x3 x5 x8 x9 x10 x11 x12 x13 (nI c) ar hv ch kt ov tc lv wt kd ox oy oz hg us vl nx kp tm := by
  obtain ⟨k, x, y, z, H⟩ := sg_made209 (c := c) (ar := ar) (hv := hv) (ch := ch) (kt := kt) (ov := ov) (tc := tc) (kd := kd) (ox := ox) (oy := oy) (oz := oz) (vl := vl) (nx := nx) (kp := kp) (tm := tm) x3 x5 x8 x9 x10 x11 x12 x13
  obtain ⟨k', x', y', z', H'⟩ := sg_made209 (c := c) (ar := ar) (hv := hv) (ch := ch) (kt := kt) (ov := ov) (tc := tc) (kd := kd) (ox := ox) (oy := oy) (oz := oz) (vl := vl) (nx := nx) (kp := kp) (tm := tm) x3 4 x8 x9 x10 x11 x12 x13
  by_cases h : 0 ≤ x11
  · exact ⟨k, x, y, z, fun post lv wt hg us q => br_t h (H post lv wt hg us q)⟩
  by_cases h5 : x5 = 5
  · exact ⟨k', x', y', z', fun post lv wt hg us q => br_f h (br_t h5 (H' post lv wt hg us q))⟩
  by_cases h6 : x5 = 6
  · exact ⟨k', x', y', z', fun post lv wt hg us q => br_f h (br_f h5 (br_t h6 (H' post lv wt hg us q)))⟩
  by_cases h7 : x5 = 7
  · exact ⟨k', x', y', z', fun post lv wt hg us q => br_f h (br_f h5 (br_f h6 (br_t h7 (H' post lv wt hg us q))))⟩
  by_cases h9 : x5 = 9
  · exact ⟨k', x', y', z', fun post lv wt hg us q => br_f h (br_f h5 (br_f h6 (br_f h7 (br_t h9 (H' post lv wt hg us q)))))⟩
  by_cases h10 : x5 = 10
  · exact ⟨k', x', y', z', fun post lv wt hg us q => br_f h (br_f h5 (br_f h6 (br_f h7 (br_f h9 (br_t h10 (H' post lv wt hg us q))))))⟩
  by_cases h12 : x5 ≤ 12
  · exact ⟨k, x, y, z, fun post lv wt hg us q => br_f h (br_f h5 (br_f h6 (br_f h7 (br_f h9 (br_f h10 (br_t h12 (H post lv wt hg us q)))))))⟩
  · exact ⟨k', x', y', z', fun post lv wt hg us q => br_f h (br_f h5 (br_f h6 (br_f h7 (br_f h9 (br_f h10 (br_f h12 (H' post lv wt hg us q)))))))⟩
theorem sg_made150 (x3 x5 x8 x9 x10 x11 x12 z0 : Int32) : ∃ k x y z, ∀ (post : Int32 → St1 → Prop) (lv wt : Int32) (hg us : Nat → Int32), wpX_node post (nI c, ar, hv, ch, kt, ov, tc, lv, wt, kd, ox, oy, oz, hg, us, vl, nx, kp, tm) k x y z → wL_made_150 post x3 x5 x8 x9 x10 x11 x12 z0 (nI c) ar hv ch kt ov tc lv wt kd ox oy oz hg us vl nx kp tm := by
  by_cases h : 0 ≤ x9
  · obtain ⟨k, x, y, z, H⟩ := sg_made160 (c := c) (ar := ar) (hv := hv) (ch := ch) (kt := kt) (ov := ov) (tc := tc) (kd := kd) (ox := ox) (oy := oy) (oz := oz) (vl := vl) (nx := nx) (kp := kp) (tm := tm) x3 x5 x8 x9 x10 x11 x12 z0
    exact ⟨k, x, y, z, fun post lv wt hg us q => br_t h (H post lv wt hg us q)⟩
  · obtain ⟨k, x, y, z, H⟩ := sg_made160 (c := c) (ar := ar) (hv := hv) (ch := ch) (kt := kt) (ov := ov) (tc := tc) (kd := kd) (ox := ox) (oy := oy) (oz := oz) (vl := vl) (nx := nx) (kp := kp) (tm := tm) x3 0 x8 x9 x10 x11 x12 z0
    exact ⟨k, x, y, z, fun post lv wt hg us q => br_f h (H post lv wt hg us q)⟩
/-- a masked number's remainder -/
theorem sg_rem (a : Int32) (h0 : 0 < n) (hn : n ≤ 24) : ∃ f, f < n ∧ (a &&& 255) - (a &&& 255) / nI n * nI n = nI f := by
  obtain ⟨j, hj, e⟩ := pk_andE a (m := 255) 8 (by decide)
  refine ⟨j % n, Nat.mod_lt _ h0, ?_⟩
  rw [e, pk_rem (by omega) h0 (by omega)]
/-- made makes one node -/
theorem sg_made (hc : c ≤ 24) (w a b : Int32) : ∃ k x y z, ∀ (post : Int32 → St1 → Prop) (lv wt : Int32) (hg us : Nat → Int32), wpX_node post (nI c, ar, hv, ch, kt, ov, tc, lv, wt, kd, ox, oy, oz, hg, us, vl, nx, kp, tm) k x y z → wpL_made post (nI c, ar, hv, ch, kt, ov, tc, lv, wt, kd, ox, oy, oz, hg, us, vl, nx, kp, tm) w a b (nI c) := by
  by_cases h0 : c = 0
  · subst h0
    obtain ⟨k, x, y, z, H⟩ := sg_made150 (c := 0) (ar := ar) (hv := hv) (ch := ch) (kt := kt) (ov := ov) (tc := tc) (kd := kd) (ox := ox) (oy := oy) (oz := oz) (vl := vl) (nx := nx) (kp := kp) (tm := tm) b ((w &&& 255) - (w &&& 255) / 15 * 15) ((a >>> ((16 : Int32) &&& 31)) &&& 255) (-1) (-1) (-1) (-1) (-1)
    refine ⟨k, x, y, z, fun post lv wt hg us q => ?_⟩
    exact ⟨by decide, nm_e (nm_e (nm_e (nm_e (br_t rfl (br_t rfl (br_t rfl (br_t rfl (br_t rfl (H post lv wt hg us q)))))))))⟩
  · have hp : 0 < c := by omega
    have hz : ¬ nI c = 0 := nI_ne0 hp (by omega)
    obtain ⟨f1, l1, e1⟩ := sg_rem (n := c) a hp hc
    obtain ⟨f2, l2, e2⟩ := sg_rem (n := c) (a >>> ((8 : Int32) &&& 31)) hp hc
    obtain ⟨f3, l3, e3⟩ := sg_rem (n := c) (a >>> ((16 : Int32) &&& 31)) hp hc
    obtain ⟨r1, H1⟩ := sg_pick (ar := ar) (hv := hv) (ch := ch) (kt := kt) (ov := ov) (tc := tc) (kd := kd) (ox := ox) (oy := oy) (oz := oz) (vl := vl) (nx := nx) (kp := kp) (tm := tm) hc hp f1 l1 1
    obtain ⟨r2, H2⟩ := sg_pick (ar := ar) (hv := hv) (ch := ch) (kt := kt) (ov := ov) (tc := tc) (kd := kd) (ox := ox) (oy := oy) (oz := oz) (vl := vl) (nx := nx) (kp := kp) (tm := tm) hc hp f2 l2 1
    obtain ⟨r3, H3⟩ := sg_pick (ar := ar) (hv := hv) (ch := ch) (kt := kt) (ov := ov) (tc := tc) (kd := kd) (ox := ox) (oy := oy) (oz := oz) (vl := vl) (nx := nx) (kp := kp) (tm := tm) hc hp f1 l1 2
    obtain ⟨r4, H4⟩ := sg_pick (ar := ar) (hv := hv) (ch := ch) (kt := kt) (ov := ov) (tc := tc) (kd := kd) (ox := ox) (oy := oy) (oz := oz) (vl := vl) (nx := nx) (kp := kp) (tm := tm) hc hp f2 l2 2
    obtain ⟨r5, H5⟩ := sg_pick (ar := ar) (hv := hv) (ch := ch) (kt := kt) (ov := ov) (tc := tc) (kd := kd) (ox := ox) (oy := oy) (oz := oz) (vl := vl) (nx := nx) (kp := kp) (tm := tm) hc hp f3 l3 2
    obtain ⟨k, x, y, z, H⟩ := sg_made150 (c := c) (ar := ar) (hv := hv) (ch := ch) (kt := kt) (ov := ov) (tc := tc) (kd := kd) (ox := ox) (oy := oy) (oz := oz) (vl := vl) (nx := nx) (kp := kp) (tm := tm) b ((w &&& 255) - (w &&& 255) / 15 * 15) ((a >>> ((16 : Int32) &&& 31)) &&& 255) r1 r2 r3 r4 r5
    refine ⟨k, x, y, z, fun post lv wt hg us q => ?_⟩
    unfold wpL_made
    dsimp only
    refine ⟨by decide, nm_e (nm_e (nm_e (nm_e (br_f hz ⟨hz, ?_⟩))))⟩
    rw [e1]
    refine H1 _ lv wt hg us ?_
    unfold wL_made_58
    rw [e2]
    refine br_f hz ⟨hz, H2 _ lv wt hg us ?_⟩
    unfold wL_made_81
    rw [e1]
    refine br_f hz ⟨hz, H3 _ lv wt hg us ?_⟩
    unfold wL_made_104
    rw [e2]
    refine br_f hz ⟨hz, H4 _ lv wt hg us ?_⟩
    unfold wL_made_127
    rw [e3]
    exact br_f hz ⟨hz, H5 _ lv wt hg us (H post lv wt hg us q)⟩
/-- fire -/
theorem sg_fire (hc : c ≤ 24) {s : Nat} (hs : s < 100) (v : Int32) : ∃ r kt' kp', ∀ (post : Int32 → St1 → Prop) (lv wt : Int32) (hg us : Nat → Int32), post r (nI c, ar, hv, ch, kt', ov, tc, lv, wt, kd, ox, oy, oz, hg, us, vl, nx, kp', tm) → wpX_fire post (nI c, ar, hv, ch, kt, ov, tc, lv, wt, kd, ox, oy, oz, hg, us, vl, nx, kp, tm) (nI s) v := by
  by_cases h : s < c ∧ kd s = 0
  · refine ⟨1, kt ||| ((1 : Int32) <<< (nI s &&& 31)), upd kp s v, fun post lv wt hg us hp => ?_⟩
    unfold wpX_fire
    dsimp only
    rw [nI_clamp (show s < 2 ^ 31 by omega)]
    refine sg_isNode hc (fun j hj e => br_f (by decide) ⟨pk_in s 24 (by omega), br_t h.2 ⟨pk_in s 24 (by omega), nm_e (nm_e hp)⟩⟩) (fun hn => absurd rfl (hn s h.1))
  · refine ⟨0, kt, kp, fun post lv wt hg us hp => ?_⟩
    unfold wpX_fire
    dsimp only
    rw [nI_clamp (show s < 2 ^ 31 by omega)]
    refine sg_isNode hc (fun j hj e => br_f (by decide) ?_) (fun hn => br_t rfl hp)
    have := sg_nj (by omega) (by omega) e
    subst this
    exact ⟨pk_in s 24 (by omega), br_f (fun z => h ⟨hj, z⟩) hp⟩
/-- retract: c is the new number of nodes -/
theorem sg_ret21 (hc : c < 24) : ∀ (r i : Nat), i + r = c → ∀ ox : Nat → Int32, ∃ ox' : Nat → Int32, (∀ n, n < c → ox' n = if i ≤ n ∧ kd n = 4 ∧ ox n = nI c then -1 else ox n) ∧ ∀ (post : Int32 → St1 → Prop) (lv wt : Int32) (hg us : Nat → Int32), post (nI c) (nI c, 0, sg_fg hv c, sg_fg ch c, sg_fg kt c, sg_fg ov c, tc, lv, wt, kd, ox', oy, oz, hg, us, vl, nx, kp, tm) → ∃ fu, wX_retract_21 post (nI c) ar hv ch kt ov tc lv wt fu (nI i) kd ox oy oz hg us vl nx kp tm := by
  intro r
  induction r with
  | zero =>
    intro i hi ox
    refine ⟨ox, fun n hn => by rw [if_neg (by omega)], fun post lv wt hg us hp => ⟨0 + 1, ?_⟩⟩
    rw [wX_retract_21]
    dsimp only
    exact pk_le c i (fun _ => sg_forget hp) (fun q => absurd q (by omega))
  | succ r ih =>
    intro i hi ox
    by_cases h : kd i = 4 ∧ ox i = nI c
    · obtain ⟨ox', h1, h2⟩ := ih (i + 1) (by omega) (upd ox i (-1))
      refine ⟨ox', fun n hn => ?_, fun post lv wt hg us hp => ?_⟩
      · rw [h1 n hn]
        by_cases e : n = i
        · subst e
          rw [if_neg (by omega), pk_us, if_pos ⟨Nat.le_refl _, h⟩]
        · rw [pk_un e]
          by_cases q : i ≤ n ∧ kd n = 4 ∧ ox n = nI c
          · rw [if_pos q, if_pos ⟨by omega, q.2⟩]
          · rw [if_neg q, if_neg (fun z => q ⟨by omega, z.2⟩)]
      · obtain ⟨fu, hfu⟩ := h2 post lv wt hg us hp
        refine ⟨fu + 1, ?_⟩
        rw [wX_retract_21]
        dsimp only
        rw [nI_clamp (show i < 2 ^ 31 by omega)]
        exact pk_le c i (fun q => absurd q (by omega)) (fun _ => ⟨pk_in i 24 (by omega), br_t h.1 ⟨pk_in i 24 (by omega), br_t h.2 ⟨pk_in i 24 (by omega), nm_e (nm_r (nI_1 i) hfu)⟩⟩⟩)
    · obtain ⟨ox', h1, h2⟩ := ih (i + 1) (by omega) ox
      refine ⟨ox', fun n hn => ?_, fun post lv wt hg us hp => ?_⟩
      · rw [h1 n hn]
        by_cases e : n = i
        · subst e
          rw [if_neg (by omega), if_neg (fun z => h z.2)]
        · by_cases q : i ≤ n ∧ kd n = 4 ∧ ox n = nI c
          · rw [if_pos q, if_pos ⟨by omega, q.2⟩]
          · rw [if_neg q, if_neg (fun z => q ⟨by omega, z.2⟩)]
      · obtain ⟨fu, hfu⟩ := h2 post lv wt hg us hp
        refine ⟨fu + 1, ?_⟩
        rw [wX_retract_21]
        dsimp only
        rw [nI_clamp (show i < 2 ^ 31 by omega)]
        exact pk_le c i (fun q => absurd q (by omega)) (fun _ => ⟨pk_in i 24 (by omega), br_c (fun a => ⟨pk_in i 24 (by omega), br_f (fun b => h ⟨a, b⟩) (nm_r (nI_1 i) hfu)⟩) (fun a => nm_r (nI_1 i) hfu)⟩)
theorem sg_retract (hG : sg_G (c + 1) kd ox oy oz) (hK : sg_K (c + 1) kd ox oy oz vl) : ∃ ox', sg_G c kd ox' oy oz ∧ sg_K c kd ox' oy oz vl ∧ ∀ (post : Int32 → St1 → Prop) (lv wt : Int32) (hg us : Nat → Int32), post (nI c) (nI c, 0, sg_fg hv c, sg_fg ch c, sg_fg kt c, sg_fg ov c, tc, lv, wt, kd, ox', oy, oz, hg, us, vl, nx, kp, tm) → wpX_retract post (nI (c + 1), ar, hv, ch, kt, ov, tc, lv, wt, kd, ox, oy, oz, hg, us, vl, nx, kp, tm) := by
  have hc := hG.1
  obtain ⟨ox', h1, h2⟩ := sg_ret21 (c := c) (ar := ar) (hv := hv) (ch := ch) (kt := kt) (ov := ov) (tc := tc) (kd := kd) (oy := oy) (oz := oz) (vl := vl) (nx := nx) (kp := kp) (tm := tm) (by omega) c 0 (by omega) ox
  have e1 : ∀ n, n < c → kd n = 4 → ox n = nI c → ox' n = -1 := fun n hn a b => by rw [h1 n hn, if_pos ⟨Nat.zero_le _, a, b⟩]
  have e2 : ∀ n, n < c → ¬ (kd n = 4 ∧ ox n = nI c) → ox' n = ox n := fun n hn a => by rw [h1 n hn, if_neg (fun z => a z.2)]
  refine ⟨ox', sg_retG hG e1 e2, sg_retK hK e2, fun post lv wt hg us hp => ?_⟩
  unfold wpX_retract
  dsimp only
  exact br_f (nI_ne0 (by omega) (by omega)) (nm_r (nI_pred c) (h2 post lv wt hg us hp))
end
end
section
/-! below, leads, tie -/
section
variable {c : Nat} {ar hv ch kt ov tc lv wt : Int32} {kd ox oy oz hg us vl nx kp tm : Nat → Int32}
variable {n m : Nat}
theorem sg_below18 (hc : c ≤ 24) : ∀ (r i : Nat), i + r = c → ∀ set : Int32, ∃ out : Int32, (∀ m, sg_b set m = true → sg_b out m = true) ∧ (∀ m, i ≤ m → m < c → sg_b set m = true → ∀ q, sg_b (sg_pv kd ox oy oz m) q = true → sg_b out q = true) ∧
    (∀ Q : Nat → Prop, (∀ m, sg_b set m = true → Q m) → (∀ m, m < c → Q m → ∀ q, sg_b (sg_pv kd ox oy oz m) q = true → Q q) → ∀ m, sg_b out m = true → Q m) ∧
    ∀ (post : Int32 → Prop) (J8 : Int32 → Int32 → Prop) (x3 lv wt : Int32) (hg us : Nat → Int32), J8 out x3 → ∃ fu, wX_below_18 post J8 x3 (nI c) ar hv ch kt ov tc lv wt kd ox oy oz hg us vl nx kp tm fu set (nI i) := by
  intro r
  induction r with
  | zero =>
    intro i hi set
    refine ⟨set, fun m h => h, fun m h1 h2 => absurd h1 (by omega), fun Q h _ => h, fun post J8 x3 lv wt hg us hJ => ⟨0 + 1, ?_⟩⟩
    rw [wX_below_18]
    exact pk_le c i (fun _ => hJ) (fun q => absurd q (by omega))
  | succ r ih =>
    intro i hi set
    cases h : sg_b set i
    · obtain ⟨out, h1, h2, h3, h4⟩ := ih (i + 1) (by omega) set
      refine ⟨out, h1, fun m a b s => ?_, h3, fun post J8 x3 lv wt hg us hJ => ?_⟩
      · by_cases e : m = i
        · subst e
          rw [h] at s
          exact absurd s (by decide)
        · exact h2 m (by omega) b s
      · obtain ⟨fu, hfu⟩ := h4 post J8 x3 lv wt hg us hJ
        refine ⟨fu + 1, ?_⟩
        rw [wX_below_18]
        exact pk_le c i (fun q => absurd q (by omega)) (fun _ => br_t ((sg_tst (by omega) set).mpr h) (nm_r (nI_1 i) hfu))
    · obtain ⟨out, h1, h2, h3, h4⟩ := ih (i + 1) (by omega) (set ||| sg_pv kd ox oy oz i)
      refine ⟨out, fun m s => h1 m (sg_orL s), fun m a b s q hq => ?_, fun Q a b => h3 Q (fun m s => ?_) b, fun post J8 x3 lv wt hg us hJ => ?_⟩
      · by_cases e : m = i
        · subst e
          exact h1 q (sg_orR hq)
        · exact h2 m (by omega) b (sg_orL s) q hq
      · exact (sg_or_b s).elim (a m) (fun z => b i (by omega) (a i h) m z)
      · obtain ⟨fu, hfu⟩ := h4 post J8 x3 lv wt hg us hJ
        refine ⟨fu + 1, ?_⟩
        rw [wX_below_18]
        exact pk_le c i (fun q => absurd q (by omega)) (fun _ => br_f (fun z => by rw [(sg_tst (by omega) set).mp z] at h; exact absurd h (by decide)) (sg_partsOf (by omega) (nm_e (nm_r (nI_1 i) hfu))))
theorem sg_below8 (hc : c ≤ 24) : ∀ (μ : Nat) (set bef : Int32), 4294967296 - bef.toBitVec.toNat ≤ μ → (∀ m, sg_b bef m = true → sg_b set m = true) → (∀ m, m < c → sg_b bef m = true → ∀ q, sg_b (sg_pv kd ox oy oz m) q = true → sg_b set q = true) →
    ∃ out : Int32, (∀ m, sg_b set m = true → sg_b out m = true) ∧ (∀ m, m < c → sg_b out m = true → ∀ q, sg_b (sg_pv kd ox oy oz m) q = true → sg_b out q = true) ∧
    (∀ Q : Nat → Prop, (∀ m, sg_b set m = true → Q m) → (∀ m, m < c → Q m → ∀ q, sg_b (sg_pv kd ox oy oz m) q = true → Q q) → ∀ m, sg_b out m = true → Q m) ∧
    ∀ (post : Int32 → Prop) (lv wt : Int32) (hg us : Nat → Int32), post out → ∃ fu, wX_below_8 post (nI c) ar hv ch kt ov tc lv wt kd ox oy oz hg us vl nx kp tm fu set bef := by
  intro μ
  induction μ with
  | zero =>
    intro set bef hμ
    have := bef.toBitVec.isLt
    exact absurd hμ (by omega)
  | succ μ ih =>
    intro set bef hμ hs hb
    by_cases e : set = bef
    · refine ⟨set, fun m h => h, fun m hm h => hb m hm (by rw [← e]; exact h), fun Q h _ => h, fun post lv wt hg us hp => ⟨0 + 1, ?_⟩⟩
      rw [wX_below_8]
      exact br_t e hp
    · have hlt := sg_sub' hs e
      obtain ⟨o1, a1, a2, a3, a4⟩ := sg_below18 (c := c) (ar := ar) (hv := hv) (ch := ch) (kt := kt) (ov := ov) (tc := tc) (kd := kd) (ox := ox) (oy := oy) (oz := oz) (vl := vl) (nx := nx) (kp := kp) (tm := tm) hc c 0 (by omega) set
      obtain ⟨out, h1, h2, h3, h4⟩ := ih o1 set (by omega) a1 (fun m hm h => a2 m (Nat.zero_le _) hm h)
      refine ⟨out, fun m h => h1 m (a1 m h), h2, fun Q p q => h3 Q (a3 Q p q) q, fun post lv wt hg us hp => ?_⟩
      obtain ⟨fu, hfu⟩ := h4 post lv wt hg us hp
      refine ⟨fu + 1, ?_⟩
      rw [wX_below_8]
      exact br_f e (a4 post _ set lv wt hg us hfu)
theorem sg_below (hc : c ≤ 24) (hn : n < 24) : ∃ out : Int32, (∀ m, sg_b (sg_pv kd ox oy oz n) m = true → sg_b out m = true) ∧ (∀ m, m < c → sg_b out m = true → ∀ q, sg_b (sg_pv kd ox oy oz m) q = true → sg_b out q = true) ∧
    (∀ Q : Nat → Prop, (∀ m, sg_b (sg_pv kd ox oy oz n) m = true → Q m) → (∀ m, m < c → Q m → ∀ q, sg_b (sg_pv kd ox oy oz m) q = true → Q q) → ∀ m, sg_b out m = true → Q m) ∧
    ∀ (post : Int32 → Prop) (lv wt : Int32) (hg us : Nat → Int32), post out → wpX_below post (nI c, ar, hv, ch, kt, ov, tc, lv, wt, kd, ox, oy, oz, hg, us, vl, nx, kp, tm) (nI n) := by
  obtain ⟨out, h1, h2, h3, h4⟩ := sg_below8 (c := c) (ar := ar) (hv := hv) (ch := ch) (kt := kt) (ov := ov) (tc := tc) (kd := kd) (ox := ox) (oy := oy) (oz := oz) (vl := vl) (nx := nx) (kp := kp) (tm := tm) hc 4294967296 (sg_pv kd ox oy oz n) 0 (by omega) (fun m h => by rw [sg_b0] at h; exact absurd h (by decide)) (fun m _ h => by rw [sg_b0] at h; exact absurd h (by decide))
  refine ⟨out, h1, h2, h3, fun post lv wt hg us hp => ?_⟩
  unfold wpX_below
  dsimp only
  exact sg_partsOf hn (h4 post lv wt hg us hp)
/-- no node leads to itself -/
theorem sg_leads (hG : sg_G c kd ox oy oz) {v : Nat} (hv' : v < c) {post : Int32 → Prop} (hp : post 0) : wpX_leads post (nI c, ar, hv, ch, kt, ov, tc, lv, wt, kd, ox, oy, oz, hg, us, vl, nx, kp, tm) (nI v) (nI v) := by
  have hc := hG.1
  obtain ⟨out, h1, h2, h3, h4⟩ := sg_below (c := c) (n := v) (ar := ar) (hv := hv) (ch := ch) (kt := kt) (ov := ov) (tc := tc) (kd := kd) (ox := ox) (oy := oy) (oz := oz) (vl := vl) (nx := nx) (kp := kp) (tm := tm) hc (by omega)
  unfold wpX_leads
  dsimp only
  refine sg_isNode hc (fun j hj e => br_f (by decide) (sg_isNode hc (fun j' hj' e' => br_f (by decide) (h4 _ lv wt hg us (br_t ?_ hp))) (fun hn => br_t rfl hp))) (fun hn => br_t rfl hp)
  rw [sg_tst (by omega) out]
  obtain ⟨rk, hr⟩ := hG.2.2.2
  refine sg_ff (fun z => ?_)
  have q := h3 (fun m => rk m < rk v) (fun m hm => hr v hv' m hm) (fun m hm a q hq => Nat.lt_trans (hr m hm q hq) a) v z
  exact absurd q (Nat.lt_irrefl _)
/-- tie -/
theorem sg_tie (hG : sg_G c kd ox oy oz) (hK : sg_K c kd ox oy oz vl) {h e : Nat} (hh : h < c) (he : e < c) : ∃ r ar' ox', sg_G c kd ox' oy oz ∧ sg_K c kd ox' oy oz vl ∧ (ar' ≠ 0 → ar' = ar ∧ ox' = ox) ∧ ∀ (post : Int32 → St1 → Prop) (lv wt : Int32) (hg us : Nat → Int32), post r (nI c, ar', hv, ch, kt, ov, tc, lv, wt, kd, ox', oy, oz, hg, us, vl, nx, kp, tm) → wpX_tie post (nI c, ar, hv, ch, kt, ov, tc, lv, wt, kd, ox, oy, oz, hg, us, vl, nx, kp, tm) (nI h) (nI e) := by
  have hc := hG.1
  by_cases h4 : kd h = 4
  · by_cases hk : sg_ck (kd e)
    · refine ⟨0, ar, ox, hG, hK, fun _ => ⟨rfl, rfl⟩, fun post lv wt hg us hp => ?_⟩
      unfold wpX_tie
      dsimp only
      rw [nI_clamp (show h < 2 ^ 31 by omega)]
      refine sg_isNode hc (fun j hj e' => br_f (by decide) ⟨pk_in h 24 (by omega), br_t h4 (br_f ?_ (sg_isEv hc (fun q => ?_) (fun _ => br_t rfl hp)))⟩) (fun hn => br_t rfl hp)
      · exact fun z => absurd (z ▸ nI_pos' (n := e) (by omega)) (by decide)
      · obtain ⟨i, hi, e', hk'⟩ := q
        have := sg_nj (by omega) (by omega) e'
        subst this
        exact absurd hk hk'
    · obtain ⟨out, h1, h2, h3, h4'⟩ := sg_below (c := c) (n := e) (ar := ar) (hv := hv) (ch := ch) (kt := kt) (ov := ov) (tc := tc) (kd := kd) (ox := ox) (oy := oy) (oz := oz) (vl := vl) (nx := nx) (kp := kp) (tm := tm) hc (by omega)
      have hne : e ≠ h := fun z => hk (by rw [z]; exact Or.inl h4)
      cases hb : sg_b out h
      · refine ⟨1, 0, upd ox h (nI e), ?_, sg_tieK hK h4, fun z => absurd rfl z, fun post lv wt hg us hp => ?_⟩
        · refine sg_tieG hG hh h4 he hk (fun m => m = e ∨ sg_b out m = true) (Or.inl rfl) (fun z => ?_) (fun n hn hS m hm => Or.inr ?_)
          · rcases z with z | z
            · exact hne z.symm
            · rw [hb] at z
              exact absurd z (by decide)
          · rcases hS with z | z
            · subst z
              exact h1 m hm
            · exact h2 n hn z m hm
        · unfold wpX_tie
          dsimp only
          refine sg_isNode hc (fun j hj e' => br_f (by decide) ⟨pk_in h 24 (by omega), br_t ?_ (br_f ?_ (sg_isEv hc (fun q => br_f (by decide) ?_) (fun q => absurd ⟨e, he, rfl, hk⟩ q)))⟩) (fun hn => absurd rfl (hn h hh))
          · rw [nI_clamp (show h < 2 ^ 31 by omega)]
            exact h4
          · exact fun z => absurd (z ▸ nI_pos' (n := e) (by omega)) (by decide)
          · unfold wpX_reaches
            dsimp only
            refine br_f (fun z => hne (sg_nj (by omega) (by omega) z)) (h4' _ lv wt hg us (br_t ((sg_tst (by omega) out).mpr hb) (br_t rfl ?_)))
            unfold wX_tie_44
            rw [nI_clamp (show h < 2 ^ 31 by omega)]
            exact ⟨pk_in h 24 (by omega), nm_e hp⟩
      · refine ⟨0, ar, ox, hG, hK, fun _ => ⟨rfl, rfl⟩, fun post lv wt hg us hp => ?_⟩
        unfold wpX_tie
        dsimp only
        refine sg_isNode hc (fun j hj e' => br_f (by decide) ⟨pk_in h 24 (by omega), br_t ?_ (br_f ?_ (sg_isEv hc (fun q => br_f (by decide) ?_) (fun q => br_t rfl hp)))⟩) (fun hn => br_t rfl hp)
        · rw [nI_clamp (show h < 2 ^ 31 by omega)]
          exact h4
        · exact fun z => absurd (z ▸ nI_pos' (n := e) (by omega)) (by decide)
        · unfold wpX_reaches
          dsimp only
          exact br_f (fun z => hne (sg_nj (by omega) (by omega) z)) (h4' _ lv wt hg us (br_f ((sg_ntst (by omega) out).mpr hb) (br_f (by decide) hp)))
  · refine ⟨0, ar, ox, hG, hK, fun _ => ⟨rfl, rfl⟩, fun post lv wt hg us hp => ?_⟩
    unfold wpX_tie
    dsimp only
    rw [nI_clamp (show h < 2 ^ 31 by omega)]
    exact sg_isNode hc (fun j hj e' => br_f (by decide) ⟨pk_in h 24 (by omega), br_f h4 hp⟩) (fun hn => br_t rfl hp)
end
end
section
/-! arrange: heights and users -/
section
variable {c : Nat} {ar hv ch kt ov tc lv wt : Int32} {kd ox oy oz hg us vl nx kp tm : Nat → Int32}
variable {n m : Nat}
theorem sg_i8 : ∀ j, j < 128 → (nI j).toInt8.toInt32 = nI j := by decide +kernel
theorem sg_raise11 (hc : c ≤ 24) (p : Int32) (t : Nat → Nat) (ht : ∀ m, m < c → hg m = nI (t m) ∧ t m < 24) : ∀ (r i : Nat), i + r = c → ∀ M0 : Nat, M0 ≤ 24 → ∃ M, M ≤ 24 ∧ M0 ≤ M ∧ (∀ m, i ≤ m → m < c → sg_b p m = true → t m + 1 ≤ M) ∧ (M = M0 ∨ ∃ m, m < c ∧ sg_b p m = true ∧ M = t m + 1) ∧
    ∀ (post : Int32 → St1 → Prop) (x1 : Int32), (vp_in x1 24 ∧ (nI M ≤ hg x1.toNatClampNeg → wX_raise_71 post x1 (nI M) 0 (nI c) ar hv ch kt ov tc lv wt kd ox oy oz hg us vl nx kp tm) ∧ (¬ nI M ≤ hg x1.toNatClampNeg → wX_raise_71 post x1 (nI M) 1 (nI c) ar hv ch kt ov tc lv wt kd ox oy oz hg us vl nx kp tm)) → ∃ fu, wX_raise_11 post x1 p (nI c) ar hv ch kt ov tc lv wt kd ox oy oz hg us vl nx kp tm fu (nI M0) (nI i) := by
  intro r
  induction r with
  | zero =>
    intro i hi M0 h0
    refine ⟨M0, h0, Nat.le_refl _, fun m a b => absurd a (by omega), Or.inl rfl, fun post x1 h => ⟨0 + 1, ?_⟩⟩
    rw [wX_raise_11]
    exact pk_le c i (fun _ => h) (fun q => absurd q (by omega))
  | succ r ih =>
    intro i hi M0 h0
    have hti := ht i (by omega)
    cases hb : sg_b p i
    · obtain ⟨M, a0, a1, a2, a3, a4⟩ := ih (i + 1) (by omega) M0 h0
      refine ⟨M, a0, a1, fun m x y s => ?_, a3, fun post x1 h => ?_⟩
      · by_cases e : m = i
        · subst e
          rw [hb] at s
          exact absurd s (by decide)
        · exact a2 m (by omega) y s
      · obtain ⟨fu, hfu⟩ := a4 post x1 h
        refine ⟨fu + 1, ?_⟩
        rw [wX_raise_11]
        exact pk_le c i (fun q => absurd q (by omega)) (fun _ => br_t ((sg_tst (by omega) p).mpr hb) (nm_r (nI_1 i) hfu))
    · by_cases hlt : t i < M0
      · obtain ⟨M, a0, a1, a2, a3, a4⟩ := ih (i + 1) (by omega) M0 h0
        refine ⟨M, a0, a1, fun m x y s => ?_, a3, fun post x1 h => ?_⟩
        · by_cases e : m = i
          · subst e
            omega
          · exact a2 m (by omega) y s
        · obtain ⟨fu, hfu⟩ := a4 post x1 h
          refine ⟨fu + 1, ?_⟩
          rw [wX_raise_11]
          dsimp only
          rw [nI_clamp (show i < 2 ^ 31 by omega), hti.1]
          exact pk_le c i (fun q => absurd q (by omega)) (fun _ => br_f ((sg_ntst (by omega) p).mpr hb) ⟨pk_in i 24 (by omega), pk_lt (t i) M0 (fun _ => nm_r (nI_1 i) hfu) (fun q => absurd q (by omega))⟩)
      · obtain ⟨M, a0, a1, a2, a3, a4⟩ := ih (i + 1) (by omega) (t i + 1) (by omega)
        refine ⟨M, a0, by omega, fun m x y s => ?_, ?_, fun post x1 h => ?_⟩
        · by_cases e : m = i
          · subst e
            exact a1
          · exact a2 m (by omega) y s
        · rcases a3 with q | q
          · exact Or.inr ⟨i, by omega, hb, q⟩
          · exact Or.inr q
        · obtain ⟨fu, hfu⟩ := a4 post x1 h
          refine ⟨fu + 1, ?_⟩
          rw [wX_raise_11]
          dsimp only
          rw [nI_clamp (show i < 2 ^ 31 by omega), hti.1]
          exact pk_le c i (fun q => absurd q (by omega)) (fun _ => br_f ((sg_ntst (by omega) p).mpr hb) ⟨pk_in i 24 (by omega), pk_lt (t i) M0 (fun q => absurd q hlt) (fun _ => ⟨pk_in i 24 (by omega), nm_r (nI_1 (t i)) (nm_r (nI_1 i) hfu)⟩)⟩)
theorem sg_raise (hc : c ≤ 24) (t : Nat → Nat) (ht : ∀ m, m < c → hg m = nI (t m) ∧ t m < 24) (hn : n < c) (hpl : ∀ m, sg_b (sg_pv kd ox oy oz n) m = true → m < c) : ∃ M, M ≤ 24 ∧ (∀ m, sg_b (sg_pv kd ox oy oz n) m = true → t m + 1 ≤ M) ∧ (M = 0 ∨ ∃ m, sg_b (sg_pv kd ox oy oz n) m = true ∧ M = t m + 1) ∧
    ∀ post : Int32 → St1 → Prop, post (if M ≤ t n then 0 else 1) (nI c, ar, hv, ch, kt, ov, tc, lv, wt, kd, ox, oy, oz, upd hg n (nI M), us, vl, nx, kp, tm) → wpX_raise post (nI c, ar, hv, ch, kt, ov, tc, lv, wt, kd, ox, oy, oz, hg, us, vl, nx, kp, tm) (nI n) := by
  obtain ⟨M, a0, a1, a2, a3, a4⟩ := sg_raise11 (ar := ar) (hv := hv) (ch := ch) (kt := kt) (ov := ov) (tc := tc) (lv := lv) (wt := wt) (kd := kd) (ox := ox) (oy := oy) (oz := oz) (us := us) (vl := vl) (nx := nx) (kp := kp) (tm := tm) hc (sg_pv kd ox oy oz n) t ht c 0 (by omega) 0 (by omega)
  refine ⟨M, a0, fun m hm => a2 m (Nat.zero_le _) (hpl m hm) hm, ?_, fun post hp => ?_⟩
  · rcases a3 with q | ⟨m, _, q, q'⟩
    · exact Or.inl q
    · exact Or.inr ⟨m, q, q'⟩
  · have htn := ht n hn
    unfold wpX_raise
    dsimp only
    refine sg_partsOf (by omega) (a4 post (nI n) ⟨pk_in n 24 (by omega), ?_⟩)
    rw [nI_clamp (show n < 2 ^ 31 by omega), htn.1]
    unfold wX_raise_71
    rw [nI_clamp (show n < 2 ^ 31 by omega), sg_i8 M (by omega)]
    refine pk_le M (t n) (fun q => ⟨pk_in n 24 (by omega), nm_e ⟨sg_narB _ (Or.inl rfl), ?_⟩⟩) (fun q => ⟨pk_in n 24 (by omega), nm_e ⟨sg_narB _ (Or.inr rfl), ?_⟩⟩)
    · rw [if_pos q] at hp
      exact hp
    · rw [if_neg (by omega)] at hp
      exact hp
/-- heights that haven't grown too far -/
def sg_hi (c : Nat) (kd ox oy oz : Nat → Int32) (rk t : Nat → Nat) : Prop := ∀ n, n < c → t n ≤ rk n ∧ (t n = 0 ∨ ∃ m, sg_b (sg_pv kd ox oy oz n) m = true ∧ t n ≤ t m + 1)
theorem sg_arr53 (hc : c ≤ 24) (rk : Nat → Nat) (hr1 : ∀ n, n < c → rk n < c) (hr2 : ∀ n, n < c → ∀ m, sg_b (sg_pv kd ox oy oz n) m = true → rk m < rk n) (hpl : ∀ n, n < c → ∀ m, sg_b (sg_pv kd ox oy oz n) m = true → m < c) :
    ∀ (r i : Nat), i + r = c → ∀ (g : Int32) (hg : Nat → Int32) (t : Nat → Nat), (∀ n, n < c → hg n = nI (t n)) → sg_hi c kd ox oy oz rk t →
    ∃ (g' : Int32) (hg' : Nat → Int32) (t' : Nat → Nat), (∀ n, n < c → hg' n = nI (t' n)) ∧ sg_hi c kd ox oy oz rk t' ∧ (∀ n, n < c → t n ≤ t' n) ∧
      (g' = 0 → g = 0 ∧ (∀ n, n < c → t' n = t n) ∧ ∀ n, i ≤ n → n < c → ∀ m, sg_b (sg_pv kd ox oy oz n) m = true → t m < t n) ∧ (g' ≠ 0 → g ≠ 0 ∨ ∃ n, n < c ∧ t n < t' n) ∧
      ∀ (post : St1 → Prop) (J45 : Int32 → Int32 → Int32 → Int32 → Int32 → Int32 → Int32 → Int32 → Int32 → Int32 → (Nat → Int32) → (Nat → Int32) → (Nat → Int32) → (Nat → Int32) → (Nat → Int32) → (Nat → Int32) → (Nat → Int32) → (Nat → Int32) → (Nat → Int32) → (Nat → Int32) → Prop), J45 g' (nI c) ar hv ch kt ov tc lv wt kd ox oy oz hg' us vl nx kp tm → ∃ fu, wX_arrange_53 post J45 fu g (nI i) (nI c) ar hv ch kt ov tc lv wt kd ox oy oz hg us vl nx kp tm := by
  intro r
  induction r with
  | zero =>
    intro i hi g hg t ht h1
    refine ⟨g, hg, t, ht, h1, fun n _ => Nat.le_refl _, fun e => ⟨e, fun _ _ => rfl, fun n a b => absurd a (by omega)⟩, fun e => Or.inl e, fun post J45 h => ⟨0 + 1, ?_⟩⟩
    rw [wX_arrange_53]
    exact pk_le c i (fun _ => h) (fun q => absurd q (by omega))
  | succ r ih =>
    intro i hi g hg t ht h1
    have hic : i < c := by omega
    obtain ⟨M, m0, m1, m2, m3⟩ := sg_raise (ar := ar) (hv := hv) (ch := ch) (kt := kt) (ov := ov) (tc := tc) (lv := lv) (wt := wt) (kd := kd) (ox := ox) (oy := oy) (oz := oz) (us := us) (vl := vl) (nx := nx) (kp := kp) (tm := tm) hc t (fun m hm => ⟨ht m hm, by have := (h1 m hm).1; have := hr1 m hm; omega⟩) hic (hpl i hic)
    have hle : t i ≤ M := by
      rcases (h1 i hic).2 with q | ⟨m, q, q'⟩
      · omega
      · have := m1 m q
        omega
    obtain ⟨t1, hti, hto⟩ : ∃ t1 : Nat → Nat, t1 i = M ∧ ∀ n, n ≠ i → t1 n = t n := ⟨fun k => if k = i then M else t k, if_pos rfl, fun n h => if_neg h⟩
    have T1 : ∀ n, t n ≤ t1 n := fun n => by
      by_cases e : n = i
      · rw [e, hti]
        exact hle
      · rw [hto n e]
        exact Nat.le_refl _
    have ht1 : ∀ n, n < c → upd hg i (nI M) n = nI (t1 n) := fun n hn => by
      by_cases e : n = i
      · rw [e, pk_us, hti]
      · rw [hto n e, pk_un e]
        exact ht n hn
    have h11 : sg_hi c kd ox oy oz rk t1 := fun n hn => by
      by_cases e : n = i
      · subst e
        rw [hti]
        rcases m2 with q | ⟨m, q, q'⟩
        · exact ⟨by omega, Or.inl q⟩
        · have a := hr2 n hn m q
          have b := (h1 m (hpl n hn m q)).1
          refine ⟨by omega, Or.inr ⟨m, q, ?_⟩⟩
          rw [hto m (fun z => by rw [z] at a; exact absurd a (Nat.lt_irrefl _))]
          omega
      · have b := h1 n hn
        rw [hto n e]
        refine ⟨b.1, ?_⟩
        rcases b.2 with q | ⟨m, q, q'⟩
        · exact Or.inl q
        · have := T1 m
          exact Or.inr ⟨m, q, by omega⟩
    by_cases hM : M ≤ t i
    · have hMe : M = t i := by omega
      have hsame : ∀ n, t1 n = t n := fun n => by
        by_cases e : n = i
        · rw [e, hti, hMe]
        · exact hto n e
      obtain ⟨g', hg', t', b1, b2, b3, b4, b5, b6⟩ := ih (i + 1) (by omega) g (upd hg i (nI M)) t1 ht1 h11
      refine ⟨g', hg', t', b1, b2, fun n hn => ?_, fun e => ?_, fun e => ?_, fun post J45 h => ?_⟩
      · have := b3 n hn
        rw [hsame] at this
        exact this
      · obtain ⟨c1, c2, c3⟩ := b4 e
        refine ⟨c1, fun n hn => by rw [c2 n hn, hsame], fun n a b m hm => ?_⟩
        by_cases e' : n = i
        · subst e'
          have := m1 m hm
          omega
        · have := c3 n (by omega) b m hm
          rw [hsame, hsame] at this
          exact this
      · rcases b5 e with q | ⟨n, hn, q⟩
        · exact Or.inl q
        · rw [hsame] at q
          exact Or.inr ⟨n, hn, q⟩
      · obtain ⟨fu, hfu⟩ := b6 post J45 h
        rw [if_pos hM] at m3
        refine ⟨fu + 1, ?_⟩
        rw [wX_arrange_53]
        exact pk_le c i (fun q => absurd q (by omega)) (fun _ => m3 _ (br_t rfl (nm_r (nI_1 i) hfu)))
    · obtain ⟨g', hg', t', b1, b2, b3, b4, b5, b6⟩ := ih (i + 1) (by omega) 1 (upd hg i (nI M)) t1 ht1 h11
      refine ⟨g', hg', t', b1, b2, fun n hn => Nat.le_trans (T1 n) (b3 n hn), fun e => absurd (b4 e).1 (by decide), fun e => Or.inr ⟨i, hic, ?_⟩, fun post J45 h => ?_⟩
      · have := b3 i hic
        rw [hti] at this
        omega
      · obtain ⟨fu, hfu⟩ := b6 post J45 h
        rw [if_neg hM] at m3
        refine ⟨fu + 1, ?_⟩
        rw [wX_arrange_53]
        exact pk_le c i (fun q => absurd q (by omega)) (fun _ => m3 _ (br_f (by decide) (nm_r (nI_1 i) hfu)))
theorem sg_arr45 (hc : c ≤ 24) (rk : Nat → Nat) (hr1 : ∀ n, n < c → rk n < c) (hr2 : ∀ n, n < c → ∀ m, sg_b (sg_pv kd ox oy oz n) m = true → rk m < rk n) (hpl : ∀ n, n < c → ∀ m, sg_b (sg_pv kd ox oy oz n) m = true → m < c) :
    ∀ (μ : Nat) (hg : Nat → Int32) (t : Nat → Nat), (∀ n, n < c → hg n = nI (t n)) → sg_hi c kd ox oy oz rk t → 577 - sg_sm t c ≤ μ →
    ∃ (hg' : Nat → Int32) (t' : Nat → Nat), (∀ n, n < c → hg' n = nI (t' n) ∧ t' n < 24) ∧ (∀ n, n < c → ∀ m, sg_b (sg_pv kd ox oy oz n) m = true → t' m < t' n) ∧
      ∀ post : St1 → Prop, (∃ fu, wX_arrange_82 post (nI c) ar hv ch kt ov tc lv wt fu 0 kd ox oy oz hg' us vl nx kp tm) → ∃ fu, wX_arrange_45 post fu 1 (nI c) ar hv ch kt ov tc lv wt kd ox oy oz hg us vl nx kp tm := by
  intro μ
  induction μ with
  | zero =>
    intro hg t ht h1 hμ
    have a := sg_sm_le (t := t) (s := fun _ => 24) (c := c) (fun n hn => by have := (h1 n hn).1; have := hr1 n hn; omega)
    rw [sg_sm_k] at a
    exact absurd hμ (by omega)
  | succ μ ih =>
    intro hg t ht h1 hμ
    obtain ⟨g', hg', t', b1, b2, b3, b4, b5, b6⟩ := sg_arr53 (ar := ar) (hv := hv) (ch := ch) (kt := kt) (ov := ov) (tc := tc) (lv := lv) (wt := wt) (kd := kd) (ox := ox) (oy := oy) (oz := oz) (us := us) (vl := vl) (nx := nx) (kp := kp) (tm := tm) hc rk hr1 hr2 hpl c 0 (by omega) 0 hg t ht h1
    by_cases e : g' = 0
    · obtain ⟨_, c2, c3⟩ := b4 e
      refine ⟨hg', t', fun n hn => ⟨b1 n hn, by have := (b2 n hn).1; have := hr1 n hn; omega⟩, fun n hn m hm => ?_, fun post h => ?_⟩
      · rw [c2 n hn, c2 m (hpl n hn m hm)]
        exact c3 n (Nat.zero_le _) hn m hm
      · have X : wX_arrange_45 post (0 + 1) g' (nI c) ar hv ch kt ov tc lv wt kd ox oy oz hg' us vl nx kp tm := by
          rw [wX_arrange_45]
          exact br_t e h
        refine ⟨(0 + 1) + 1, ?_⟩
        rw [wX_arrange_45]
        exact br_f (by decide) (b6 post _ X)
    · have hs : sg_sm t c < sg_sm t' c := by
        rcases b5 e with q | ⟨n, hn, q⟩
        · exact absurd rfl q
        · exact sg_sm_lt hn b3 q
      have hg1 : g' = 1 ∨ g' ≠ 1 := Classical.em _
      obtain ⟨hg2, t2, d1, d2, d3⟩ := ih hg' t' b1 b2 (by omega)
      refine ⟨hg2, t2, d1, d2, fun post h => ?_⟩
      obtain ⟨fu, hfu⟩ := d3 post h
      cases fu with
      | zero => exact absurd hfu (by rw [wX_arrange_45]; exact id)
      | succ fu =>
        have X : wX_arrange_45 post (fu + 1) g' (nI c) ar hv ch kt ov tc lv wt kd ox oy oz hg' us vl nx kp tm := by
          rw [wX_arrange_45] at hfu ⊢
          exact br_f e (hfu.2 (by decide))
        refine ⟨(fu + 1) + 1, ?_⟩
        rw [wX_arrange_45]
        exact br_f (by decide) (b6 post _ X)
theorem sg_arr99 (hc : c ≤ 24) (hn : n < c) (p : Int32) : ∀ (r i : Nat), i + r = c → ∀ us : Nat → Int32, ∃ us' : Nat → Int32, (∀ m q, sg_b (us m) q = true → sg_b (us' m) q = true) ∧ (∀ m, i ≤ m → m < c → sg_b p m = true → sg_b (us' m) n = true) ∧
    ∀ (post : St1 → Prop) (J82 : Int32 → (Nat → Int32) → (Nat → Int32) → (Nat → Int32) → (Nat → Int32) → (Nat → Int32) → (Nat → Int32) → (Nat → Int32) → (Nat → Int32) → (Nat → Int32) → (Nat → Int32) → Prop), J82 (nI (n + 1)) kd ox oy oz hg us' vl nx kp tm → ∃ fu, wX_arrange_99 post J82 (nI n) p (nI c) ar hv ch kt ov tc lv wt fu (nI i) kd ox oy oz hg us vl nx kp tm := by
  intro r
  induction r with
  | zero =>
    intro i hi us
    refine ⟨us, fun m q h => h, fun m a b => absurd a (by omega), fun post J82 h => ⟨0 + 1, ?_⟩⟩
    rw [wX_arrange_99]
    exact pk_le c i (fun _ => nm_r (nI_1 n) h) (fun q => absurd q (by omega))
  | succ r ih =>
    intro i hi us
    cases hb : sg_b p i
    · obtain ⟨us', h1, h2, h3⟩ := ih (i + 1) (by omega) us
      refine ⟨us', h1, fun m a b s => ?_, fun post J82 h => ?_⟩
      · by_cases e : m = i
        · subst e
          rw [hb] at s
          exact absurd s (by decide)
        · exact h2 m (by omega) b s
      · obtain ⟨fu, hfu⟩ := h3 post J82 h
        refine ⟨fu + 1, ?_⟩
        rw [wX_arrange_99]
        exact pk_le c i (fun q => absurd q (by omega)) (fun _ => br_t ((sg_tst (by omega) p).mpr hb) (nm_r (nI_1 i) hfu))
    · obtain ⟨us', h1, h2, h3⟩ := ih (i + 1) (by omega) (upd us i (us i ||| ((1 : Int32) <<< (nI n &&& 31))))
      have hup : ∀ m q, sg_b (us m) q = true → sg_b (upd us i (us i ||| ((1 : Int32) <<< (nI n &&& 31))) m) q = true := fun m q h => by
        by_cases e : m = i
        · subst e
          rw [pk_us]
          exact sg_orL h
        · rw [pk_un e]
          exact h
      refine ⟨us', fun m q h => h1 m q (hup m q h), fun m a b s => ?_, fun post J82 h => ?_⟩
      · by_cases e : m = i
        · subst e
          refine h1 m n ?_
          rw [pk_us]
          exact sg_setn (by omega) _
        · exact h2 m (by omega) b s
      · obtain ⟨fu, hfu⟩ := h3 post J82 h
        refine ⟨fu + 1, ?_⟩
        rw [wX_arrange_99]
        dsimp only
        rw [nI_clamp (show i < 2 ^ 31 by omega)]
        exact pk_le c i (fun q => absurd q (by omega)) (fun _ => br_f ((sg_ntst (by omega) p).mpr hb) ⟨pk_in i 24 (by omega), pk_in i 24 (by omega), nm_e (nm_r (nI_1 i) hfu)⟩)
theorem sg_arr82 (hc : c ≤ 24) (hpl : ∀ n, n < c → ∀ m, sg_b (sg_pv kd ox oy oz n) m = true → m < c) : ∀ (r i : Nat), i + r = c → ∀ us : Nat → Int32, (∀ n, n < i → ∀ m, sg_b (sg_pv kd ox oy oz n) m = true → sg_b (us m) n = true) → ∃ us' : Nat → Int32, (∀ n, n < c → ∀ m, sg_b (sg_pv kd ox oy oz n) m = true → sg_b (us' m) n = true) ∧
    ∀ post : St1 → Prop, post (nI c, ar, hv, ch, kt, ov, tc, lv, wt, kd, ox, oy, oz, hg, us', vl, nx, kp, tm) → ∃ fu, wX_arrange_82 post (nI c) ar hv ch kt ov tc lv wt fu (nI i) kd ox oy oz hg us vl nx kp tm := by
  intro r
  induction r with
  | zero =>
    intro i hi us h
    refine ⟨us, fun n hn => h n (by omega), fun post hp => ⟨0 + 1, ?_⟩⟩
    rw [wX_arrange_82]
    exact pk_le c i (fun _ => hp) (fun q => absurd q (by omega))
  | succ r ih =>
    intro i hi us h
    obtain ⟨u1, a1, a2, a3⟩ := sg_arr99 (ar := ar) (hv := hv) (ch := ch) (kt := kt) (ov := ov) (tc := tc) (lv := lv) (wt := wt) (kd := kd) (ox := ox) (oy := oy) (oz := oz) (hg := hg) (vl := vl) (nx := nx) (kp := kp) (tm := tm) (n := i) hc (by omega) (sg_pv kd ox oy oz i) c 0 (by omega) us
    obtain ⟨us', b1, b2⟩ := ih (i + 1) (by omega) u1 (fun n hn m hm => by
      by_cases e : n = i
      · subst e
        exact a2 m (Nat.zero_le _) (hpl n (by omega) m hm) hm
      · exact a1 m n (h n (by omega) m hm))
    refine ⟨us', b1, fun post hp => ?_⟩
    obtain ⟨fu, hfu⟩ := b2 post hp
    refine ⟨fu + 1, ?_⟩
    rw [wX_arrange_82]
    exact pk_le c i (fun q => absurd q (by omega)) (fun _ => sg_partsOf (by omega) (a3 post _ hfu))
theorem sg_arr15 (hc : c ≤ 24) : ∀ (r i : Nat), i + r = c → ∀ hg us : Nat → Int32, (∀ n, n < i → hg n = 0) → ∃ hg' us' : Nat → Int32, (∀ n, n < c → hg' n = 0) ∧
    ∀ post : St1 → Prop, (∃ fu, wX_arrange_45 post fu 1 (nI c) ar hv ch kt ov tc lv wt kd ox oy oz hg' us' vl nx kp tm) → ∃ fu, wX_arrange_15 post (nI c) ar hv ch kt ov tc lv wt fu (nI i) kd ox oy oz hg us vl nx kp tm := by
  intro r
  induction r with
  | zero =>
    intro i hi hg us h
    refine ⟨hg, us, fun n hn => h n (by omega), fun post hp => ⟨0 + 1, ?_⟩⟩
    rw [wX_arrange_15]
    exact pk_le c i (fun _ => hp) (fun q => absurd q (by omega))
  | succ r ih =>
    intro i hi hg us h
    obtain ⟨hg', us', b1, b2⟩ := ih (i + 1) (by omega) (upd hg i 0) (upd us i 0) (fun n hn => by
      by_cases e : n = i
      · rw [e, pk_us]
      · rw [pk_un e]
        exact h n (by omega))
    refine ⟨hg', us', b1, fun post hp => ?_⟩
    obtain ⟨fu, hfu⟩ := b2 post hp
    refine ⟨fu + 1, ?_⟩
    rw [wX_arrange_15]
    dsimp only
    rw [nI_clamp (show i < 2 ^ 31 by omega)]
    exact pk_le c i (fun q => absurd q (by omega)) (fun _ => ⟨pk_in i 24 (by omega), nm_e ⟨pk_in i 24 (by omega), nm_e (nm_r (nI_1 i) hfu)⟩⟩)
theorem sg_arrange (hG : sg_G c kd ox oy oz) (har : ar ≠ 0 → sg_ar c kd ox oy oz hg us) : ∃ hg' us' : Nat → Int32, sg_ar c kd ox oy oz hg' us' ∧ ∀ post : St1 → Prop, post (nI c, if ar = 0 then 1 else ar, hv, ch, kt, ov, tc, lv, wt, kd, ox, oy, oz, hg', us', vl, nx, kp, tm) → wpX_arrange post (nI c, ar, hv, ch, kt, ov, tc, lv, wt, kd, ox, oy, oz, hg, us, vl, nx, kp, tm) := by
  by_cases h : ar = 0
  · have hc := hG.1
    obtain ⟨rk, hr1, hr2⟩ := sg_rank hG
    have hpl : ∀ n, n < c → ∀ m, sg_b (sg_pv kd ox oy oz n) m = true → m < c := fun n hn m hm => sg_part_lt hG hn hm
    obtain ⟨hg1, us1, a1, a2⟩ := sg_arr15 (ar := 1) (hv := hv) (ch := ch) (kt := kt) (ov := ov) (tc := tc) (lv := lv) (wt := wt) (kd := kd) (ox := ox) (oy := oy) (oz := oz) (vl := vl) (nx := nx) (kp := kp) (tm := tm) hc c 0 (by omega) hg us (fun n hn => absurd hn (by omega))
    obtain ⟨hg2, t, b1, b2, b3⟩ := sg_arr45 (ar := 1) (hv := hv) (ch := ch) (kt := kt) (ov := ov) (tc := tc) (lv := lv) (wt := wt) (us := us1) (vl := vl) (nx := nx) (kp := kp) (tm := tm) hc rk hr1 hr2 hpl 577 hg1 (fun _ => 0) a1 (fun n hn => ⟨Nat.zero_le _, Or.inl rfl⟩) (by omega)
    obtain ⟨us2, c1, c2⟩ := sg_arr82 (ar := 1) (hv := hv) (ch := ch) (kt := kt) (ov := ov) (tc := tc) (lv := lv) (wt := wt) (hg := hg2) (vl := vl) (nx := nx) (kp := kp) (tm := tm) hc hpl c 0 (by omega) us1 (fun n hn => absurd hn (by omega))
    refine ⟨hg2, us2, ⟨t, b1, fun n hn m hm => ⟨b2 n hn m hm, c1 n hn m hm⟩⟩, fun post hp => ?_⟩
    rw [if_pos h] at hp
    unfold wpX_arrange
    dsimp only
    exact br_t h (a2 post (b3 post (c2 post hp)))
  · refine ⟨hg, us, har h, fun post hp => ?_⟩
    rw [if_neg h] at hp
    unfold wpX_arrange
    dsimp only
    exact br_f h hp
end
end
section
/-! what a look at a node gives -/
section
variable {c : Nat} {ar hv ch kt ov tc lv wt : Int32} {kd ox oy oz hg us vl nx kp tm : Nat → Int32}
variable {n m : Nat} {x y z : Int32}
theorem sg_inA (hx : sg_at 24 x) : vp_in x 24 := by
  obtain ⟨j, hj, e⟩ := hx
  exact pk_in j 24 hj e
theorem sg_tstA (w : Int32) (hx : sg_at 24 x) : ((w >>> (x &&& 31)) &&& 1) = 0 ↔ sg_b w x.toNatClampNeg = false := by
  obtain ⟨j, hj, e⟩ := hx
  rw [e, nI_clamp (by omega)]
  exact sg_tst (by omega) w
theorem sg_ntstA (w : Int32) (hx : sg_at 24 x) : ¬ ((w >>> (x &&& 31)) &&& 1) = 0 ↔ sg_b w x.toNatClampNeg = true := by
  obtain ⟨j, hj, e⟩ := hx
  rw [e, nI_clamp (by omega)]
  exact sg_ntst (by omega) w
theorem sg_hasA {nc : Int32} {post : Int32 → Prop} (hx : sg_at 24 x) (h1 : sg_b hv x.toNatClampNeg = true → post 1) (h0 : ¬ sg_b hv x.toNatClampNeg = true → post 0) : wpX_has post (nc, ar, hv, ch, kt, ov, tc, lv, wt, kd, ox, oy, oz, hg, us, vl, nx, kp, tm) x := by
  unfold wpX_has
  dsimp only
  exact br_c (fun h => h0 (by rw [(sg_tstA hv hx).mp h]; decide)) (fun h => h1 ((sg_ntstA hv hx).mp h))
theorem sg_give {nc v : Int32} {post : Int32 → St1 → Prop} (hn : n < 24) (hp : post 1 (nc, ar, hv ||| ((1 : Int32) <<< (nI n &&& 31)), ch, kt, ov, tc, lv, wt, kd, ox, oy, oz, hg, us, upd vl n v, nx, kp, tm)) : wpX_give post (nc, ar, hv, ch, kt, ov, tc, lv, wt, kd, ox, oy, oz, hg, us, vl, nx, kp, tm) (nI n) v := by
  unfold wpX_give
  dsimp only
  rw [nI_clamp (show n < 2 ^ 31 by omega)]
  exact nm_e ⟨pk_in n 24 hn, nm_e hp⟩
/-- what an event has in a transaction, out of what its parts have -/
def sg_eo (kd ox oy oz : Nat → Int32) (kt ov : Int32) (kp : Nat → Int32) (hv ch : Int32) (vl nx : Nat → Int32) (n : Nat) : Option Int32 :=
  if kd n = 0 ∨ kd n = 11 then (if sg_b kt n = true then some (kp n) else none) else
  if kd n = 9 then (if sg_b ch (ox n).toNatClampNeg = true then some (nx (ox n).toNatClampNeg) else none) else
  if kd n = 10 then (if vl (ox n).toNatClampNeg = 0 then (if sg_b hv (oz n).toNatClampNeg = true then some (vl (oz n).toNatClampNeg) else none) else (if sg_b hv (oy n).toNatClampNeg = true then some (vl (oy n).toNatClampNeg) else none)) else
  if kd n = 3 then (if sg_b hv (ox n).toNatClampNeg = true then (if sg_b hv (oy n).toNatClampNeg = true then some (vl (ox n).toNatClampNeg + vl (oy n).toNatClampNeg) else some (vl (ox n).toNatClampNeg)) else (if sg_b hv (oy n).toNatClampNeg = true then some (vl (oy n).toNatClampNeg) else none)) else
  if sg_b hv (ox n).toNatClampNeg = true then (
    if kd n = 1 then some (vl (ox n).toNatClampNeg * oy n + oz n) else
    if kd n = 2 then (if vl (ox n).toNatClampNeg < oy n then none else some (vl (ox n).toNatClampNeg)) else
    if kd n = 5 then some (vl (ox n).toNatClampNeg + vl (oy n).toNatClampNeg) else
    if kd n = 7 then (if vl (oy n).toNatClampNeg = 0 then none else some (vl (ox n).toNatClampNeg)) else
    if kd n = 8 then some (kp n + vl (ox n).toNatClampNeg) else
    (if sg_b ov n = true then none else some (vl (ox n).toNatClampNeg))) else none
theorem sg_merge {post : Int32 → St1 → Prop} (hn : n < 24) (hx : sg_at 24 x) (hy : sg_at 24 y)
    (h0 : ¬ sg_b hv x.toNatClampNeg = true → ¬ sg_b hv y.toNatClampNeg = true → post 0 (nI c, ar, hv, ch, kt, ov, tc, lv, wt, kd, ox, oy, oz, hg, us, vl, nx, kp, tm))
    (h1 : ∀ v, (if sg_b hv x.toNatClampNeg = true then (if sg_b hv y.toNatClampNeg = true then some (vl x.toNatClampNeg + vl y.toNatClampNeg) else some (vl x.toNatClampNeg)) else (if sg_b hv y.toNatClampNeg = true then some (vl y.toNatClampNeg) else none)) = some v → post 1 (nI c, ar, hv ||| ((1 : Int32) <<< (nI n &&& 31)), ch, kt, ov, tc, lv, wt, kd, ox, oy, oz, hg, us, upd vl n v, nx, kp, tm)) :
    wpX_merge post (nI c, ar, hv, ch, kt, ov, tc, lv, wt, kd, ox, oy, oz, hg, us, vl, nx, kp, tm) (nI n) x y := by
  unfold wpX_merge
  dsimp only
  refine sg_hasA hx (fun a => br_f (by decide) (sg_hasA hy (fun b => br_f (by decide) ⟨sg_inA hx, sg_inA hy, sg_give hn ⟨sg_narB _ (Or.inr rfl), h1 _ (by rw [if_pos a, if_pos b])⟩⟩) (fun b => br_t rfl ?_))) (fun a => br_t rfl ?_)
  · unfold wX_merge_35
    exact sg_hasA hx (fun _ => br_f (by decide) ⟨sg_inA hx, sg_give hn ⟨sg_narB _ (Or.inr rfl), h1 _ (by rw [if_pos a, if_neg b])⟩⟩) (fun q => absurd a q)
  · unfold wX_merge_35
    exact sg_hasA hx (fun q => absurd q a) (fun _ => br_t rfl (sg_hasA hy (fun b => br_f (by decide) ⟨sg_inA hy, sg_give hn (br_f (by decide) (h1 _ (by rw [if_neg a, if_pos b])))⟩) (fun b => br_t rfl (h0 a b))))
theorem sg_lookEv {b : Nat} {post : Int32 → St1 → Prop} (hb : b ≤ 24) (hn : n < 24) (h4 : kd n ≠ 4) (hf : sg_fit b kd (kd n) (ox n) (oy n) (oz n)) (hk : ¬ sg_ck (kd n))
    (h0 : sg_eo kd ox oy oz kt ov kp hv ch vl nx n = none → post 0 (nI c, ar, hv, ch, kt, ov, tc, lv, wt, kd, ox, oy, oz, hg, us, vl, nx, kp, tm))
    (h1 : ∀ v, sg_eo kd ox oy oz kt ov kp hv ch vl nx n = some v → post 1 (nI c, ar, hv ||| ((1 : Int32) <<< (nI n &&& 31)), ch, kt, ov, tc, lv, wt, kd, ox, oy, oz, hg, us, upd vl n v, nx, kp, tm)) :
    wpX_lookAtEvent post (nI c, ar, hv, ch, kt, ov, tc, lv, wt, kd, ox, oy, oz, hg, us, vl, nx, kp, tm) (nI n) := by
  have L24 : (kd n = 0 ∨ kd n = 11) → wX_lookAtEvent_24 post (nI n) (nI c) ar hv ch kt ov tc lv wt kd ox oy oz hg us vl nx kp tm := fun hs => by
    unfold wX_lookAtEvent_24
    rw [nI_clamp (show n < 2 ^ 31 by omega)]
    refine br_c (fun h => h0 ?_) (fun h => ⟨pk_in n 24 hn, sg_give hn (br_f (by decide) (h1 _ ?_))⟩)
    · rw [sg_eo, if_pos hs, if_neg (by rw [(sg_tst (by omega) kt).mp h]; decide)]
    · rw [sg_eo, if_pos hs, if_pos ((sg_ntst (by omega) kt).mp h)]
  have at24 : ∀ {q : Int32}, sg_at b q → sg_at 24 q := fun h => sg_at_mono hb h
  unfold wpX_lookAtEvent
  dsimp only
  rw [nI_clamp (show n < 2 ^ 31 by omega)]
  refine ⟨pk_in n 24 hn, nm_e ⟨pk_in n 24 hn, nm_e (br_c (fun e => L24 (Or.inl e)) (fun n0 => br_c (fun e => L24 (Or.inr e)) (fun n11 => ?_)))⟩⟩
  have hs : ¬ (kd n = 0 ∨ kd n = 11) := fun z => z.elim n0 n11
  have hx : sg_at 24 (ox n) := at24 (sg_fit_x hf n0 h4)
  refine br_c (fun h9 => br_c (fun h => h0 ?_) (fun h => ⟨sg_inA hx, sg_give hn (br_f (by decide) (h1 _ ?_))⟩)) (fun h9 => br_c (fun h10 => ⟨sg_inA hx, ?_⟩) (fun h10 => br_c (fun h3 => ⟨pk_in n 24 hn, ?_⟩) (fun h3 => ?_)))
  · rw [sg_eo, if_neg hs, if_pos h9, if_neg (by rw [(sg_tstA ch hx).mp h]; decide)]
  · rw [sg_eo, if_neg hs, if_pos h9, if_pos ((sg_ntstA ch hx).mp h)]
  · have g := hf.2.2.2.2.2.1 h10
    have hy := at24 (sg_ev_at g.2.1)
    have hz := at24 (sg_ev_at g.2.2)
    refine br_c (fun e => ⟨pk_in n 24 hn, ?_⟩) (fun e => ⟨pk_in n 24 hn, ?_⟩)
    · unfold wX_lookAtEvent_122
      refine sg_hasA hz (fun q => br_f (by decide) ⟨sg_inA hz, sg_give hn (br_f (by decide) (h1 _ ?_))⟩) (fun q => br_t rfl (h0 ?_))
      · rw [sg_eo, if_neg hs, if_neg h9, if_pos h10, if_pos e, if_pos q]
      · rw [sg_eo, if_neg hs, if_neg h9, if_pos h10, if_pos e, if_neg q]
    · unfold wX_lookAtEvent_122
      refine sg_hasA hy (fun q => br_f (by decide) ⟨sg_inA hy, sg_give hn (br_f (by decide) (h1 _ ?_))⟩) (fun q => br_t rfl (h0 ?_))
      · rw [sg_eo, if_neg hs, if_neg h9, if_pos h10, if_neg e, if_pos q]
      · rw [sg_eo, if_neg hs, if_neg h9, if_pos h10, if_neg e, if_neg q]
  · refine sg_merge hn hx (at24 (sg_ev_at (hf.2.1 h3).2)) (fun a d => ⟨sg_narB _ (Or.inl rfl), h0 ?_⟩) (fun v e => ⟨sg_narB _ (Or.inr rfl), h1 v ?_⟩)
    · rw [sg_eo, if_neg hs, if_neg h9, if_neg h10, if_pos h3, if_neg a, if_neg d]
    · rw [sg_eo, if_neg hs, if_neg h9, if_neg h10, if_pos h3]
      exact e
  · have R : ∀ o, (if sg_b hv (ox n).toNatClampNeg = true then (
        if kd n = 1 then some (vl (ox n).toNatClampNeg * oy n + oz n) else
        if kd n = 2 then (if vl (ox n).toNatClampNeg < oy n then none else some (vl (ox n).toNatClampNeg)) else
        if kd n = 5 then some (vl (ox n).toNatClampNeg + vl (oy n).toNatClampNeg) else
        if kd n = 7 then (if vl (oy n).toNatClampNeg = 0 then none else some (vl (ox n).toNatClampNeg)) else
        if kd n = 8 then some (kp n + vl (ox n).toNatClampNeg) else
        (if sg_b ov n = true then none else some (vl (ox n).toNatClampNeg))) else none) = o → sg_eo kd ox oy oz kt ov kp hv ch vl nx n = o := fun o ho => by
      rw [sg_eo, if_neg hs, if_neg h9, if_neg h10, if_neg h3]
      exact ho
    refine sg_hasA hx (fun q => br_f (by decide) ⟨sg_inA hx, nm_e ?_⟩) (fun q => br_t rfl (h0 (R _ (by rw [if_neg q]))))
    refine br_c (fun k1 => ⟨pk_in n 24 hn, pk_in n 24 hn, sg_give hn ⟨sg_narB _ (Or.inr rfl), h1 _ (R _ (by rw [if_pos q, if_pos k1]))⟩⟩) (fun k1 => br_c (fun k2 => ⟨pk_in n 24 hn, ?_⟩) (fun k2 => br_c (fun k5 => ⟨pk_in n 24 hn, ?_⟩) (fun k5 => br_c (fun k7 => ⟨pk_in n 24 hn, ?_⟩) (fun k7 => br_c (fun k8 => ⟨pk_in n 24 hn, ?_⟩) (fun k8 => ?_)))))
    · exact br_c (fun l => h0 (R _ (by rw [if_pos q, if_neg k1, if_pos k2, if_pos l]))) (fun l => sg_give hn (br_f (by decide) (h1 _ (R _ (by rw [if_pos q, if_neg k1, if_pos k2, if_neg l])))))
    · have hy := at24 (sg_cl_at (hf.2.2.1 k5).2)
      exact ⟨sg_inA hy, sg_give hn ⟨sg_narB _ (Or.inr rfl), h1 _ (R _ (by rw [if_pos q, if_neg k1, if_neg k2, if_pos k5]))⟩⟩
    · have hy := at24 (sg_cl_at (hf.2.2.2.1 k7).2)
      exact ⟨sg_inA hy, br_c (fun l => h0 (R _ (by rw [if_pos q, if_neg k1, if_neg k2, if_neg k5, if_pos k7, if_pos l]))) (fun l => sg_give hn (br_f (by decide) (h1 _ (R _ (by rw [if_pos q, if_neg k1, if_neg k2, if_neg k5, if_pos k7, if_neg l])))))⟩
    · exact sg_give hn ⟨sg_narB _ (Or.inr rfl), h1 _ (R _ (by rw [if_pos q, if_neg k1, if_neg k2, if_neg k5, if_neg k7, if_pos k8]))⟩
    · refine br_c (fun l => sg_give hn (br_f (by decide) (h1 _ (R _ ?_)))) (fun l => h0 (R _ ?_))
      · rw [if_pos q, if_neg k1, if_neg k2, if_neg k5, if_neg k7, if_neg k8, if_neg (by rw [(sg_tst (by omega) ov).mp l]; decide)]
      · rw [if_pos q, if_neg k1, if_neg k2, if_neg k5, if_neg k7, if_neg k8, if_pos ((sg_ntst (by omega) ov).mp l)]
/-- what a cell comes to -/
def sg_cn (kd ox oy oz : Nat → Int32) (hv ch : Int32) (vl nx : Nat → Int32) (n : Nat) : Int32 :=
  if kd n = 4 then (if ox n < 0 then vl n else if sg_b hv (ox n).toNatClampNeg = true then vl (ox n).toNatClampNeg else vl n) else sg_cb kd ox oy oz (sg_w ch vl nx) n
theorem sg_lookCl {b : Nat} {post : Int32 → St1 → Prop} (hb : b ≤ 24) (hn : n < 24) (hf4 : kd n = 4 → ox n = -1 ∨ sg_ev b kd (ox n)) (hf : kd n ≠ 4 → sg_fit b kd (kd n) (ox n) (oy n) (oz n)) (hk : sg_ck (kd n))
    (h0 : sg_cn kd ox oy oz hv ch vl nx n = vl n → post 0 (nI c, ar, hv, ch, kt, ov, tc, lv, wt, kd, ox, oy, oz, hg, us, vl, nx, kp, tm))
    (h1 : ¬ sg_cn kd ox oy oz hv ch vl nx n = vl n → post 1 (nI c, ar, hv, ch ||| ((1 : Int32) <<< (nI n &&& 31)), kt, ov, tc, lv, wt, kd, ox, oy, oz, hg, us, vl, upd nx n (sg_cn kd ox oy oz hv ch vl nx n), kp, tm)) :
    wpX_lookAtCell post (nI c, ar, hv, ch, kt, ov, tc, lv, wt, kd, ox, oy, oz, hg, us, vl, nx, kp, tm) (nI n) := by
  have L : ∀ v, v = sg_cn kd ox oy oz hv ch vl nx n → wX_lookAtCell_61 post (nI n) v (nI c) ar hv ch kt ov tc lv wt kd ox oy oz hg us vl nx kp tm := fun v hv' => by
    subst hv'
    unfold wX_lookAtCell_61
    rw [nI_clamp (show n < 2 ^ 31 by omega)]
    exact ⟨pk_in n 24 hn, br_c (fun e => h0 e) (fun e => ⟨pk_in n 24 hn, nm_e (nm_e (h1 e))⟩)⟩
  unfold wpX_lookAtCell
  dsimp only
  rw [nI_clamp (show n < 2 ^ 31 by omega)]
  refine ⟨pk_in n 24 hn, nm_e ⟨pk_in n 24 hn, br_c (fun h4 => ⟨pk_in n 24 hn, ?_⟩) (fun h4 => ?_)⟩⟩
  · refine br_c (fun l => L _ (by rw [sg_cn, if_pos h4, if_pos l])) (fun l => ⟨pk_in n 24 hn, ?_⟩)
    have hx : sg_at 24 (ox n) := by
      rcases hf4 h4 with e | e
      · rw [e] at l
        exact absurd (by decide) l
      · exact sg_at_mono hb (sg_ev_at e)
    exact sg_hasA hx (fun q => br_f (by decide) ⟨pk_in n 24 hn, sg_inA hx, nm_e (L _ (by rw [sg_cn, if_pos h4, if_neg l, if_pos q]))⟩) (fun q => br_t rfl (L _ (by rw [sg_cn, if_pos h4, if_neg l, if_neg q])))
  · have op := sg_cbop hb (hf h4) hk h4
    exact sg_comb hn (Or.inr ⟨by decide, rfl⟩) op.1 op.2.1 op.2.2 (L _ (by rw [sg_cn, if_neg h4]))
theorem sg_look {b : Nat} {post : St1 → Prop} (hb : b ≤ 24) (hn : n < 24) (hf4 : kd n = 4 → ox n = -1 ∨ sg_ev b kd (ox n)) (hf : kd n ≠ 4 → sg_fit b kd (kd n) (ox n) (oy n) (oz n))
    (e0 : ¬ sg_ck (kd n) → sg_eo kd ox oy oz kt ov kp hv ch vl nx n = none → post (nI c, ar, hv, ch, kt, ov, tc, lv, sg_fg wt n, kd, ox, oy, oz, hg, us, vl, nx, kp, tm))
    (e1 : ¬ sg_ck (kd n) → ∀ v, sg_eo kd ox oy oz kt ov kp hv ch vl nx n = some v → post (nI c, ar, hv ||| ((1 : Int32) <<< (nI n &&& 31)), ch, kt, ov, tc, lv, sg_fg wt n ||| us n, kd, ox, oy, oz, hg, us, upd vl n v, nx, kp, tm))
    (c0 : sg_ck (kd n) → sg_cn kd ox oy oz hv ch vl nx n = vl n → post (nI c, ar, hv, ch, kt, ov, tc, lv, sg_fg wt n, kd, ox, oy, oz, hg, us, vl, nx, kp, tm))
    (c1 : sg_ck (kd n) → ¬ sg_cn kd ox oy oz hv ch vl nx n = vl n → post (nI c, ar, hv, ch ||| ((1 : Int32) <<< (nI n &&& 31)), kt, ov, tc, lv, sg_fg wt n ||| us n, kd, ox, oy, oz, hg, us, vl, upd nx n (sg_cn kd ox oy oz hv ch vl nx n), kp, tm)) :
    wpX_look post (nI c, ar, hv, ch, kt, ov, tc, lv, wt, kd, ox, oy, oz, hg, us, vl, nx, kp, tm) (nI n) := by
  unfold wpX_look
  dsimp only
  refine nm_e ⟨pk_in n 24 hn, ?_⟩
  rw [nI_clamp (show n < 2 ^ 31 by omega)]
  refine sg_isCK (fun hk => br_f (by decide) (sg_lookCl hb hn hf4 hf hk (fun e => ?_) (fun e => ?_))) (fun hk => br_t rfl (sg_lookEv hb hn (fun z => hk (Or.inl z)) (hf (fun z => hk (Or.inl z))) hk (fun e => ?_) (fun v e => ?_)))
  · exact br_t rfl (c0 hk e)
  · refine br_f (by decide) ⟨pk_in n 24 hn, nm_e ?_⟩
    rw [nI_clamp (show n < 2 ^ 31 by omega)]
    exact c1 hk e
  · exact br_t rfl (e0 hk e)
  · refine br_f (by decide) ⟨pk_in n 24 hn, nm_e ?_⟩
    rw [nI_clamp (show n < 2 ^ 31 by omega)]
    exact e1 hk v e
end
end
section
/-! the equations of a transaction, node by node: no program in sight -/
section
variable {c : Nat} {ar hv ch kt ov tc lv wt : Int32} {kd ox oy oz hg us vl nx kp tm : Nat → Int32}
variable {n m : Nat} {hv' ch' : Int32} {vl' nx' V0 N0 : Nat → Int32}
theorem sg_eo_s (h : kd n = 0 ∨ kd n = 11) : sg_eo kd ox oy oz kt ov kp hv ch vl nx n = if sg_b kt n = true then some (kp n) else none := by rw [sg_eo, if_pos h]
theorem sg_eo_9 (h : kd n = 9) : sg_eo kd ox oy oz kt ov kp hv ch vl nx n = if sg_b ch (ox n).toNatClampNeg = true then some (nx (ox n).toNatClampNeg) else none := by rw [sg_eo, if_neg (by rw [h]; decide), if_pos h]
theorem sg_eo_10 (h : kd n = 10) : sg_eo kd ox oy oz kt ov kp hv ch vl nx n = if vl (ox n).toNatClampNeg = 0 then (if sg_b hv (oz n).toNatClampNeg = true then some (vl (oz n).toNatClampNeg) else none) else (if sg_b hv (oy n).toNatClampNeg = true then some (vl (oy n).toNatClampNeg) else none) := by rw [sg_eo, if_neg (by rw [h]; decide), if_neg (by rw [h]; decide), if_pos h]
theorem sg_eo_3 (h : kd n = 3) : sg_eo kd ox oy oz kt ov kp hv ch vl nx n = if sg_b hv (ox n).toNatClampNeg = true then (if sg_b hv (oy n).toNatClampNeg = true then some (vl (ox n).toNatClampNeg + vl (oy n).toNatClampNeg) else some (vl (ox n).toNatClampNeg)) else (if sg_b hv (oy n).toNatClampNeg = true then some (vl (oy n).toNatClampNeg) else none) := by rw [sg_eo, if_neg (by rw [h]; decide), if_neg (by rw [h]; decide), if_neg (by rw [h]; decide), if_pos h]
theorem sg_eo_o (h : ¬ (kd n = 0 ∨ kd n = 11)) (h9 : ¬ kd n = 9) (h10 : ¬ kd n = 10) (h3 : ¬ kd n = 3) : sg_eo kd ox oy oz kt ov kp hv ch vl nx n = if sg_b hv (ox n).toNatClampNeg = true then (
    if kd n = 1 then some (vl (ox n).toNatClampNeg * oy n + oz n) else
    if kd n = 2 then (if vl (ox n).toNatClampNeg < oy n then none else some (vl (ox n).toNatClampNeg)) else
    if kd n = 5 then some (vl (ox n).toNatClampNeg + vl (oy n).toNatClampNeg) else
    if kd n = 7 then (if vl (oy n).toNatClampNeg = 0 then none else some (vl (ox n).toNatClampNeg)) else
    if kd n = 8 then some (kp n + vl (ox n).toNatClampNeg) else
    (if sg_b ov n = true then none else some (vl (ox n).toNatClampNeg))) else none := by rw [sg_eo, if_neg h, if_neg h9, if_neg h10, if_neg h3]
/-- the operands of an event, and which are parts -/
theorem sg_evop (hG : sg_G c kd ox oy oz) (hn : n < c) (hk : ¬ sg_ck (kd n)) :
    (kd n = 9 → (ox n).toNatClampNeg < c ∧ sg_b (sg_pv kd ox oy oz n) (ox n).toNatClampNeg = true) ∧
    (kd n = 10 → ((ox n).toNatClampNeg < c ∧ sg_ck (kd (ox n).toNatClampNeg)) ∧ sg_b (sg_pv kd ox oy oz n) (oy n).toNatClampNeg = true ∧ sg_b (sg_pv kd ox oy oz n) (oz n).toNatClampNeg = true) ∧
    (kd n = 3 → sg_b (sg_pv kd ox oy oz n) (ox n).toNatClampNeg = true ∧ sg_b (sg_pv kd ox oy oz n) (oy n).toNatClampNeg = true) ∧
    (¬ (kd n = 0 ∨ kd n = 11) → ¬ kd n = 9 → ¬ kd n = 10 → sg_b (sg_pv kd ox oy oz n) (ox n).toNatClampNeg = true) ∧
    (kd n = 5 ∨ kd n = 7 → (oy n).toNatClampNeg < c ∧ sg_ck (kd (oy n).toNatClampNeg)) := by
  have hc := hG.1
  have h4 : kd n ≠ 4 := fun z => hk (Or.inl z)
  have h6 : kd n ≠ 6 := fun z => hk (Or.inr (Or.inl z))
  have h13 : kd n ≠ 13 := fun z => hk (Or.inr (Or.inr (Or.inl z)))
  have h14 : kd n ≠ 14 := fun z => hk (Or.inr (Or.inr (Or.inr z)))
  have hf := hG.2.1 n hn h4
  have hn24 : n ≤ 24 := by omega
  refine ⟨fun e => ?_, fun e => ?_, fun e => ?_, fun e9 e8 e10 => ?_, fun e => ?_⟩
  · have a := sg_cl_cl (hf.2.2.2.2.2.2.2.1 e) hn24
    exact ⟨by omega, sg_pvx (by rw [e]; decide) (by rw [e]; decide) h4 (by rw [e]; decide) (by omega) a.2.2⟩
  · have g := hf.2.2.2.2.2.1 e
    have a := sg_cl_cl g.1 hn24
    have b := sg_ev_ev g.2.1 hn24
    have d := sg_ev_ev g.2.2 hn24
    exact ⟨⟨by omega, a.2.1⟩, sg_pvy (Or.inr (Or.inr (Or.inr e))) (by omega) b.2.2, sg_pvz (Or.inr e) (by omega) d.2.2⟩
  · have g := hf.2.1 e
    have a := sg_ev_ev g.1 hn24
    have b := sg_ev_ev g.2 hn24
    exact ⟨sg_pvx (by rw [e]; decide) (by rw [e]; decide) h4 (by rw [e]; decide) (by omega) a.2.2, sg_pvy (Or.inl e) (by omega) b.2.2⟩
  · have a := sg_ev_ev (hf.2.2.2.2.2.2.2.2.2 (fun z => e9 (Or.inl z)) h4 h6 e10 h13 e8 h14) hn24
    exact sg_pvx (fun z => e9 (Or.inl z)) (fun z => e9 (Or.inr z)) h4 e10 (by omega) a.2.2
  · rcases e with e | e
    · have a := sg_cl_cl (hf.2.2.1 e).2 hn24
      exact ⟨by omega, a.2.1⟩
    · have a := sg_cl_cl (hf.2.2.2.1 e).2 hn24
      exact ⟨by omega, a.2.1⟩
/-- an event looks at its parts, and at cells' values -/
theorem sg_eo_congr (hG : sg_G c kd ox oy oz) (hn : n < c) (hk : ¬ sg_ck (kd n)) (hp : ∀ m, sg_b (sg_pv kd ox oy oz n) m = true → sg_b hv m = sg_b hv' m ∧ sg_b ch m = sg_b ch' m ∧ vl m = vl' m ∧ nx m = nx' m) (hcl : ∀ m, m < c → sg_ck (kd m) → vl m = vl' m) :
    sg_eo kd ox oy oz kt ov kp hv ch vl nx n = sg_eo kd ox oy oz kt ov kp hv' ch' vl' nx' n := by
  obtain ⟨o9, o10, o3, oo, oy57⟩ := sg_evop hG hn hk
  by_cases hs : kd n = 0 ∨ kd n = 11
  · rw [sg_eo_s hs, sg_eo_s hs]
  by_cases h9 : kd n = 9
  · have a := hp _ (o9 h9).2
    rw [sg_eo_9 h9, sg_eo_9 h9, a.2.1, a.2.2.2]
  by_cases h10 : kd n = 10
  · have g := o10 h10
    have a := hcl _ g.1.1 g.1.2
    have b := hp _ g.2.1
    have d := hp _ g.2.2
    rw [sg_eo_10 h10, sg_eo_10 h10, a, b.1, b.2.2.1, d.1, d.2.2.1]
  by_cases h3 : kd n = 3
  · have a := hp _ (o3 h3).1
    have b := hp _ (o3 h3).2
    rw [sg_eo_3 h3, sg_eo_3 h3, a.1, a.2.2.1, b.1, b.2.2.1]
  have a := hp _ (oo hs h9 h10)
  rw [sg_eo_o hs h9 h10 h3, sg_eo_o hs h9 h10 h3, a.1, a.2.2.1]
  by_cases h57 : kd n = 5 ∨ kd n = 7
  · have g := oy57 h57
    rw [hcl _ g.1 g.2]
  · have h5 : ¬ kd n = 5 := fun z => h57 (Or.inl z)
    have h7 : ¬ kd n = 7 := fun z => h57 (Or.inr z)
    rw [if_neg h5, if_neg h7, if_neg h5, if_neg h7]
/-- nobody tells: nothing is had -/
theorem sg_eo_quiet (hG : sg_G c kd ox oy oz) (hn : n < c) (hk : ¬ sg_ck (kd n)) (hs : kd n = 0 ∨ kd n = 11 → sg_b kt n = false) (hp : ∀ m, sg_b (sg_pv kd ox oy oz n) m = true → sg_b hv m = false ∧ sg_b ch m = false) : sg_eo kd ox oy oz kt ov kp hv ch vl nx n = none := by
  obtain ⟨o9, o10, o3, oo, oy57⟩ := sg_evop hG hn hk
  have nt : ∀ {q : Bool}, q = false → ¬ q = true := fun h => by rw [h]; decide
  by_cases hs' : kd n = 0 ∨ kd n = 11
  · rw [sg_eo_s hs', if_neg (nt (hs hs'))]
  by_cases h9 : kd n = 9
  · rw [sg_eo_9 h9, if_neg (nt (hp _ (o9 h9).2).2)]
  by_cases h10 : kd n = 10
  · have g := o10 h10
    rw [sg_eo_10 h10, if_neg (nt (hp _ g.2.1).1), if_neg (nt (hp _ g.2.2).1)]
    split <;> rfl
  by_cases h3 : kd n = 3
  · rw [sg_eo_3 h3, if_neg (nt (hp _ (o3 h3).1).1), if_neg (nt (hp _ (o3 h3).2).1)]
  rw [sg_eo_o hs' h9 h10 h3, if_neg (nt (hp _ (oo hs' h9 h10)).1)]
theorem sg_cn_congr (hG : sg_G c kd ox oy oz) (hn : n < c) (hk : sg_ck (kd n)) (hp : ∀ m, sg_b (sg_pv kd ox oy oz n) m = true → sg_b hv m = sg_b hv' m ∧ sg_b ch m = sg_b ch' m ∧ vl m = vl' m ∧ nx m = nx' m) (hself : vl n = vl' n) :
    sg_cn kd ox oy oz hv ch vl nx n = sg_cn kd ox oy oz hv' ch' vl' nx' n := by
  have hc := hG.1
  unfold sg_cn
  by_cases h4 : kd n = 4
  · rw [if_pos h4, if_pos h4]
    by_cases h : ox n < 0
    · rw [if_pos h, if_pos h, hself]
    · rw [if_neg h, if_neg h]
      rcases hG.2.2.1 n hn h4 with e | e
      · rw [e] at h
        exact absurd (by decide) h
      · have a := sg_ev_ev e hc
        have b := hp _ (sg_pv4_i h4 (by omega) a.2.2)
        rw [b.1, b.2.2.1, hself]
  · rw [if_neg h4, if_neg h4]
    refine sg_cb_w (b := n) (by omega) (hG.2.1 n hn h4) hk h4 (fun j _ _ hj => ?_)
    have b := hp j hj
    unfold sg_w
    rw [b.2.1, b.2.2.1, b.2.2.2]
theorem sg_cn_quiet (hG : sg_G c kd ox oy oz) (hK : sg_K c kd ox oy oz V0) (hn : n < c) (hk : sg_ck (kd n)) (hp : ∀ m, sg_b (sg_pv kd ox oy oz n) m = true → sg_b hv m = false ∧ sg_b ch m = false) (hcl : ∀ m, m < c → sg_ck (kd m) → vl m = V0 m) :
    sg_cn kd ox oy oz hv ch vl nx n = V0 n := by
  have hc := hG.1
  have nt : ∀ {q : Bool}, q = false → ¬ q = true := fun h => by rw [h]; decide
  unfold sg_cn
  by_cases h4 : kd n = 4
  · rw [if_pos h4]
    by_cases h : ox n < 0
    · rw [if_pos h]
      exact hcl n hn hk
    · rw [if_neg h]
      rcases hG.2.2.1 n hn h4 with e | e
      · rw [e] at h
        exact absurd (by decide) h
      · have a := sg_ev_ev e hc
        rw [if_neg (nt (hp _ (sg_pv4_i h4 (by omega) a.2.2)).1)]
        exact hcl n hn hk
  · rw [if_neg h4, hK n hn hk h4]
    refine sg_cb_w (b := n) (by omega) (hG.2.1 n hn h4) hk h4 (fun j hj hkj hpj => ?_)
    unfold sg_w
    rw [if_neg (nt (hp j hpj).2)]
    exact hcl j (by omega) hkj
/-- the equation at a node -/
def sg_loc (kd ox oy oz : Nat → Int32) (kt ov : Int32) (kp V0 N0 : Nat → Int32) (hv ch : Int32) (vl nx : Nat → Int32) (n : Nat) : Prop :=
  (¬ sg_ck (kd n) → sg_b ch n = false ∧ nx n = N0 n ∧ sg_b hv n = (sg_eo kd ox oy oz kt ov kp hv ch vl nx n).isSome ∧ vl n = (sg_eo kd ox oy oz kt ov kp hv ch vl nx n).getD (V0 n)) ∧
  (sg_ck (kd n) → sg_b hv n = false ∧ vl n = V0 n ∧ sg_b ch n = decide (¬ sg_cn kd ox oy oz hv ch vl nx n = V0 n) ∧ nx n = if sg_cn kd ox oy oz hv ch vl nx n = V0 n then N0 n else sg_cn kd ox oy oz hv ch vl nx n)
/-- nothing is touched at a node -/
def sg_fr (V0 N0 : Nat → Int32) (hv ch : Int32) (vl nx : Nat → Int32) (n : Nat) : Prop := sg_b hv n = false ∧ sg_b ch n = false ∧ vl n = V0 n ∧ nx n = N0 n
def sg_qt (kd ox oy oz : Nat → Int32) (kt hv ch : Int32) (n : Nat) : Prop := (kd n = 0 ∨ kd n = 11 → sg_b kt n = false) ∧ ∀ m, sg_b (sg_pv kd ox oy oz n) m = true → sg_b hv m = false ∧ sg_b ch m = false
/-- an untouched quiet node satisfies its equation -/
theorem sg_loc_quiet (hG : sg_G c kd ox oy oz) (hK : sg_K c kd ox oy oz V0) (hn : n < c) (hf : sg_fr V0 N0 hv ch vl nx n) (hq : sg_qt kd ox oy oz kt hv ch n) (hcl : ∀ m, m < c → sg_ck (kd m) → vl m = V0 m) : sg_loc kd ox oy oz kt ov kp V0 N0 hv ch vl nx n := by
  obtain ⟨f1, f2, f3, f4⟩ := hf
  refine ⟨fun hk => ?_, fun hk => ?_⟩
  · rw [sg_eo_quiet hG hn hk hq.1 hq.2]
    exact ⟨f2, f4, f1, f3⟩
  · rw [sg_cn_quiet hG hK hn hk hq.2 hcl]
    exact ⟨f1, f3, by rw [f2]; simp, by rw [if_pos rfl]; exact f4⟩
/-- an equation outlives what happens away from the node's parts -/
theorem sg_loc_keep (hG : sg_G c kd ox oy oz) (hn : n < c) (hp : ∀ m, m = n ∨ sg_b (sg_pv kd ox oy oz n) m = true → sg_b hv m = sg_b hv' m ∧ sg_b ch m = sg_b ch' m ∧ vl m = vl' m ∧ nx m = nx' m) (hcl : ∀ m, m < c → sg_ck (kd m) → vl m = vl' m) (h : sg_loc kd ox oy oz kt ov kp V0 N0 hv ch vl nx n) : sg_loc kd ox oy oz kt ov kp V0 N0 hv' ch' vl' nx' n := by
  obtain ⟨s1, s2, s3, s4⟩ := hp n (Or.inl rfl)
  refine ⟨fun hk => ?_, fun hk => ?_⟩
  · have g := h.1 hk
    rw [sg_eo_congr hG hn hk (fun m hm => hp m (Or.inr hm)) hcl, s1, s2, s3, s4] at g
    exact g
  · have g := h.2 hk
    rw [sg_cn_congr hG hn hk (fun m hm => hp m (Or.inr hm)) s3, s1, s2, s3, s4] at g
    exact g
/-- the solution -/
def sg_fin (c : Nat) (kd ox oy oz : Nat → Int32) (kt ov : Int32) (kp V0 N0 : Nat → Int32) (hv ch : Int32) (vl nx : Nat → Int32) : Prop :=
  (∀ n, n < c → sg_loc kd ox oy oz kt ov kp V0 N0 hv ch vl nx n) ∧ ∀ n, c ≤ n → sg_fr V0 N0 hv ch vl nx n
theorem sg_fin_one (hG : sg_G c kd ox oy oz) (h : sg_fin c kd ox oy oz kt ov kp V0 N0 hv ch vl nx) (h' : sg_fin c kd ox oy oz kt ov kp V0 N0 hv' ch' vl' nx') : hv = hv' ∧ ch = ch' ∧ vl = vl' ∧ nx = nx' := by
  obtain ⟨rk, hr⟩ := hG.2.2.2
  have key : ∀ (r n : Nat), rk n ≤ r → n < c → sg_b hv n = sg_b hv' n ∧ sg_b ch n = sg_b ch' n ∧ vl n = vl' n ∧ nx n = nx' n := by
    intro r
    induction r with
    | zero =>
      intro n hrn hn
      have hp : ∀ m, sg_b (sg_pv kd ox oy oz n) m = true → sg_b hv m = sg_b hv' m ∧ sg_b ch m = sg_b ch' m ∧ vl m = vl' m ∧ nx m = nx' m := fun m hm => absurd (hr n hn m hm) (by omega)
      have hcl : ∀ m, m < c → sg_ck (kd m) → vl m = vl' m := fun m hm hk => by rw [((h.1 m hm).2 hk).2.1, ((h'.1 m hm).2 hk).2.1]
      by_cases hk : sg_ck (kd n)
      · have g := (h.1 n hn).2 hk
        have g' := (h'.1 n hn).2 hk
        rw [← sg_cn_congr hG hn hk hp (hcl n hn hk)] at g'
        exact ⟨by rw [g.1, g'.1], by rw [g.2.2.1, g'.2.2.1], by rw [g.2.1, g'.2.1], by rw [g.2.2.2, g'.2.2.2]⟩
      · have g := (h.1 n hn).1 hk
        have g' := (h'.1 n hn).1 hk
        rw [← sg_eo_congr hG hn hk hp hcl] at g'
        exact ⟨by rw [g.2.2.1, g'.2.2.1], by rw [g.1, g'.1], by rw [g.2.2.2, g'.2.2.2], by rw [g.2.1, g'.2.1]⟩
    | succ r ih =>
      intro n hrn hn
      have hp : ∀ m, sg_b (sg_pv kd ox oy oz n) m = true → sg_b hv m = sg_b hv' m ∧ sg_b ch m = sg_b ch' m ∧ vl m = vl' m ∧ nx m = nx' m := fun m hm => ih m (by have := hr n hn m hm; omega) (sg_part_lt hG hn hm)
      have hcl : ∀ m, m < c → sg_ck (kd m) → vl m = vl' m := fun m hm hk => by rw [((h.1 m hm).2 hk).2.1, ((h'.1 m hm).2 hk).2.1]
      by_cases hk : sg_ck (kd n)
      · have g := (h.1 n hn).2 hk
        have g' := (h'.1 n hn).2 hk
        rw [← sg_cn_congr hG hn hk hp (hcl n hn hk)] at g'
        exact ⟨by rw [g.1, g'.1], by rw [g.2.2.1, g'.2.2.1], by rw [g.2.1, g'.2.1], by rw [g.2.2.2, g'.2.2.2]⟩
      · have g := (h.1 n hn).1 hk
        have g' := (h'.1 n hn).1 hk
        rw [← sg_eo_congr hG hn hk hp hcl] at g'
        exact ⟨by rw [g.2.2.1, g'.2.2.1], by rw [g.1, g'.1], by rw [g.2.2.2, g'.2.2.2], by rw [g.2.1, g'.2.1]⟩
  have all : ∀ n, sg_b hv n = sg_b hv' n ∧ sg_b ch n = sg_b ch' n ∧ vl n = vl' n ∧ nx n = nx' n := fun n => by
    rcases Nat.lt_or_ge n c with q | q
    · exact key (rk n) n (Nat.le_refl _) q
    · have a := h.2 n q
      have b := h'.2 n q
      exact ⟨by rw [a.1, b.1], by rw [a.2.1, b.2.1], by rw [a.2.2.1, b.2.2.1], by rw [a.2.2.2, b.2.2.2]⟩
  exact ⟨sg_bext (fun i _ => (all i).1), sg_bext (fun i _ => (all i).2.1), funext (fun n => (all n).2.2.1), funext (fun n => (all n).2.2.2)⟩
end
end
section
/-! the transaction's loop over heights -/
section
variable {c : Nat} {ar hv ch kt ov tc lv wt : Int32} {kd ox oy oz hg us vl nx kp tm : Nat → Int32}
variable {n m : Nat} {V0 N0 : Nat → Int32} {D D' : Nat → Prop} {t : Nat → Nat}
def sg_inv (c : Nat) (kd ox oy oz : Nat → Int32) (kt ov : Int32) (kp V0 N0 : Nat → Int32) (D : Nat → Prop) (hv ch wt : Int32) (vl nx : Nat → Int32) : Prop :=
  (∀ n, D n → sg_loc kd ox oy oz kt ov kp V0 N0 hv ch vl nx n) ∧ (∀ n, ¬ D n → sg_fr V0 N0 hv ch vl nx n) ∧ ∀ n, n < c → ¬ D n → sg_b wt n = false → sg_qt kd ox oy oz kt hv ch n
def sg_D (c : Nat) (t : Nat → Nat) (h i n : Nat) : Prop := n < c ∧ (t n < h ∨ (t n = h ∧ n < i))
theorem sg_inv_iff (h : ∀ n, D n ↔ D' n) (H : sg_inv c kd ox oy oz kt ov kp V0 N0 D hv ch wt vl nx) : sg_inv c kd ox oy oz kt ov kp V0 N0 D' hv ch wt vl nx :=
  ⟨fun n hn => H.1 n ((h n).mpr hn), fun n hn => H.2.1 n (fun z => hn ((h n).mp z)), fun n a hn => H.2.2 n a (fun z => hn ((h n).mp z))⟩
theorem sg_inv_cl (H : sg_inv c kd ox oy oz kt ov kp V0 N0 D hv ch wt vl nx) (m : Nat) (hk : sg_ck (kd m)) : vl m = V0 m := by
  rcases Classical.em (D m) with q | q
  · exact ((H.1 m q).2 hk).2.1
  · exact (H.2.1 m q).2.2.1
/-- a node that doesn't wait is passed over -/
theorem sg_inv_skip {i : Nat} (hG : sg_G c kd ox oy oz) (hK : sg_K c kd ox oy oz V0) (hi : i < c) (hD : ¬ D i) (hw : sg_b wt i = false) (H : sg_inv c kd ox oy oz kt ov kp V0 N0 D hv ch wt vl nx) : sg_inv c kd ox oy oz kt ov kp V0 N0 (fun n => D n ∨ n = i) hv ch wt vl nx := by
  refine ⟨fun n hn => ?_, fun n hn => H.2.1 n (fun z => hn (Or.inl z)), fun n a hn => H.2.2 n a (fun z => hn (Or.inl z))⟩
  rcases hn with q | q
  · exact H.1 n q
  · subst q
    exact sg_loc_quiet hG hK hi (H.2.1 n hD) (H.2.2 n hi hD hw) (fun m _ hk => sg_inv_cl H m hk)
/-- a node is looked at -/
theorem sg_inv_look {i : Nat} {hv' ch' wt' : Int32} {vl' nx' : Nat → Int32} (hG : sg_G c kd ox oy oz) (hi : i < c) (hDc : ∀ n, D n → n < c) (hD : ¬ D i) (hDp : ∀ n, D n → ¬ sg_b (sg_pv kd ox oy oz n) i = true) (H : sg_inv c kd ox oy oz kt ov kp V0 N0 D hv ch wt vl nx)
    (hA : ∀ m, m ≠ i → sg_b hv m = sg_b hv' m ∧ sg_b ch m = sg_b ch' m ∧ vl m = vl' m ∧ nx m = nx' m) (hB : sg_loc kd ox oy oz kt ov kp V0 N0 hv' ch' vl' nx' i) (hC : ∀ m, m < c → sg_ck (kd m) → vl m = vl' m)
    (hW : ∀ n, n < c → n ≠ i → sg_b wt' n = false → sg_b wt n = false ∧ (sg_b (sg_pv kd ox oy oz n) i = true → sg_b hv' i = false ∧ sg_b ch' i = false)) : sg_inv c kd ox oy oz kt ov kp V0 N0 (fun n => D n ∨ n = i) hv' ch' wt' vl' nx' := by
  refine ⟨fun n hn => ?_, fun n hn => ?_, fun n a hn w => ?_⟩
  · rcases hn with q | q
    · refine sg_loc_keep hG (hDc n q) (fun m hm => hA m ?_) hC (H.1 n q)
      rcases hm with e | e
      · intro z
        rw [e] at z
        rw [z] at q
        exact hD q
      · intro z
        rw [z] at e
        exact hDp n q e
    · rw [q]
      exact hB
  · have a := hA n (fun z => hn (Or.inr z))
    have b := H.2.1 n (fun z => hn (Or.inl z))
    unfold sg_fr at b ⊢
    rw [a.1, a.2.1, a.2.2.1, a.2.2.2] at b
    exact b
  · have hni : n ≠ i := fun z => hn (Or.inr z)
    obtain ⟨w1, w2⟩ := hW n a hni w
    have q := H.2.2 n a (fun z => hn (Or.inl z)) w1
    refine ⟨q.1, fun m hm => ?_⟩
    by_cases e : m = i
    · rw [e] at hm ⊢
      exact w2 hm
    · have b := hA m e
      rw [← b.1, ← b.2.1]
      exact q.2 m hm
theorem sg_inv_done (hG : sg_G c kd ox oy oz) (hK : sg_K c kd ox oy oz V0) (hDc : ∀ n, D n → n < c) (hw : ∀ n, n < c → ¬ D n → sg_b wt n = false) (H : sg_inv c kd ox oy oz kt ov kp V0 N0 D hv ch wt vl nx) : sg_fin c kd ox oy oz kt ov kp V0 N0 hv ch vl nx := by
  refine ⟨fun n hn => ?_, fun n hn => H.2.1 n (fun z => absurd (hDc n z) (by omega))⟩
  rcases Classical.em (D n) with q | q
  · exact H.1 n q
  · exact sg_loc_quiet hG hK hn (H.2.1 n q) (H.2.2 n hn q (hw n hn q)) (fun m _ hk => sg_inv_cl H m hk)
theorem sg_D_c {h i : Nat} : ∀ n, sg_D c t h i n → n < c := fun n z => z.1
theorem sg_com100 (hG : sg_G c kd ox oy oz) (hK : sg_K c kd ox oy oz V0) (ht : ∀ n, n < c → hg n = nI (t n) ∧ t n < 24) (hu : ∀ n, n < c → ∀ m, sg_b (sg_pv kd ox oy oz n) m = true → t m < t n ∧ sg_b (us m) n = true) {h : Nat} (hh : h < 24) :
    ∀ (r i : Nat), i + r = c → ∀ (hv ch wt : Int32) (vl nx : Nat → Int32), sg_inv c kd ox oy oz kt ov kp V0 N0 (sg_D c t h i) hv ch wt vl nx →
    ∃ (hv' ch' wt' : Int32) (vl' nx' : Nat → Int32), sg_inv c kd ox oy oz kt ov kp V0 N0 (sg_D c t (h + 1) 0) hv' ch' wt' vl' nx' ∧
      ∀ (post : Int32 → St1 → Prop) (J85 : Int32 → Int32 → Int32 → Int32 → Int32 → Int32 → Int32 → Int32 → Int32 → Int32 → (Nat → Int32) → (Nat → Int32) → (Nat → Int32) → (Nat → Int32) → (Nat → Int32) → (Nat → Int32) → (Nat → Int32) → (Nat → Int32) → (Nat → Int32) → (Nat → Int32) → Prop), J85 (nI (h + 1)) (nI c) ar hv' ch' kt ov tc lv wt' kd ox oy oz hg us vl' nx' kp tm → ∃ fu, wX_commit_100 post J85 (nI h) fu (nI i) (nI c) ar hv ch kt ov tc lv wt kd ox oy oz hg us vl nx kp tm := by
  have hc := hG.1
  intro r
  induction r with
  | zero =>
    intro i hi hv ch wt vl nx H
    refine ⟨hv, ch, wt, vl, nx, sg_inv_iff (fun n => ?_) H, fun post J85 hJ => ⟨0 + 1, ?_⟩⟩
    · unfold sg_D
      constructor
      · intro z
        omega
      · intro z
        omega
    · rw [wX_commit_100]
      exact pk_le c i (fun _ => nm_r (nI_1 h) hJ) (fun q => absurd q (by omega))
  | succ r ih =>
    intro i hi hv ch wt vl nx H
    have hic : i < c := by omega
    have hti := ht i hic
    by_cases e : t i = h
    · have hDi : ¬ sg_D c t h i i := by
        unfold sg_D
        omega
      have hDn : ∀ n, (sg_D c t h i n ∨ n = i) ↔ sg_D c t h (i + 1) n := fun n => by
        unfold sg_D
        constructor
        · intro z
          rcases z with z | z
          · omega
          · subst z
            omega
        · intro z
          by_cases q : n = i
          · exact Or.inr q
          · left
            omega
      cases hw : sg_b wt i
      · obtain ⟨hv', ch', wt', vl', nx', h1, h2⟩ := ih (i + 1) (by omega) hv ch wt vl nx (sg_inv_iff hDn (sg_inv_skip hG hK hic hDi hw H))
        refine ⟨hv', ch', wt', vl', nx', h1, fun post J85 hJ => ?_⟩
        obtain ⟨fu, hfu⟩ := h2 post J85 hJ
        refine ⟨fu + 1, ?_⟩
        rw [wX_commit_100]
        exact pk_le c i (fun q => absurd q (by omega)) (fun _ => br_t ((sg_tst (by omega) wt).mpr hw) (nm_r (nI_1 i) hfu))
      · have hpn : ∀ m, sg_b (sg_pv kd ox oy oz i) m = true → m ≠ i := fun m hm z => by
          have := (hu i hic m hm).1
          rw [z] at this
          exact absurd this (Nat.lt_irrefl _)
        have hDp : ∀ n, sg_D c t h i n → ¬ sg_b (sg_pv kd ox oy oz n) i = true := fun n hn z => by
          have a := (hu n hn.1 i z).1
          have b := hn.2
          omega
        have fr := H.2.1 i hDi
        have hcl : ∀ m, sg_ck (kd m) → vl m = V0 m := fun m hk => sg_inv_cl H m hk
        -- what every road of the look gives
        have G : ∀ (hv1 ch1 wt1 : Int32) (vl1 nx1 : Nat → Int32), sg_inv c kd ox oy oz kt ov kp V0 N0 (fun n => sg_D c t h i n ∨ n = i) hv1 ch1 wt1 vl1 nx1 →
            (∀ post : St1 → Prop, post (nI c, ar, hv1, ch1, kt, ov, tc, lv, wt1, kd, ox, oy, oz, hg, us, vl1, nx1, kp, tm) → wpX_look post (nI c, ar, hv, ch, kt, ov, tc, lv, wt, kd, ox, oy, oz, hg, us, vl, nx, kp, tm) (nI i)) →
            ∃ (hv' ch' wt' : Int32) (vl' nx' : Nat → Int32), sg_inv c kd ox oy oz kt ov kp V0 N0 (sg_D c t (h + 1) 0) hv' ch' wt' vl' nx' ∧
              ∀ (post : Int32 → St1 → Prop) (J85 : Int32 → Int32 → Int32 → Int32 → Int32 → Int32 → Int32 → Int32 → Int32 → Int32 → (Nat → Int32) → (Nat → Int32) → (Nat → Int32) → (Nat → Int32) → (Nat → Int32) → (Nat → Int32) → (Nat → Int32) → (Nat → Int32) → (Nat → Int32) → (Nat → Int32) → Prop), J85 (nI (h + 1)) (nI c) ar hv' ch' kt ov tc lv wt' kd ox oy oz hg us vl' nx' kp tm → ∃ fu, wX_commit_100 post J85 (nI h) fu (nI i) (nI c) ar hv ch kt ov tc lv wt kd ox oy oz hg us vl nx kp tm := by
          intro hv1 ch1 wt1 vl1 nx1 K1 W1
          obtain ⟨hv', ch', wt', vl', nx', h1, h2⟩ := ih (i + 1) (by omega) hv1 ch1 wt1 vl1 nx1 (sg_inv_iff hDn K1)
          refine ⟨hv', ch', wt', vl', nx', h1, fun post J85 hJ => ?_⟩
          obtain ⟨fu, hfu⟩ := h2 post J85 hJ
          refine ⟨fu + 1, ?_⟩
          rw [wX_commit_100]
          dsimp only
          rw [nI_clamp (show i < 2 ^ 31 by omega)]
          refine pk_le c i (fun q => absurd q (by omega)) (fun _ => br_f ((sg_ntst (by omega) wt).mpr hw) ⟨pk_in i 24 (by omega), br_t ?_ (W1 _ (nm_r (nI_1 i) hfu))⟩)
          rw [hti.1, e]
        have hf4 := hG.2.2.1 i hic
        have hf : kd i ≠ 4 → sg_fit c kd (kd i) (ox i) (oy i) (oz i) := fun q => sg_fit_mono (by omega) (fun _ _ => rfl) (hG.2.1 i hic q)
        have wC : ∀ n, n ≠ i → sg_b (sg_fg wt i) n = false → sg_b wt n = false := fun n hn z => by
          unfold sg_fg at z
          rw [sg_clro (by omega) wt hn] at z
          exact z
        by_cases hk : sg_ck (kd i)
        · by_cases hcn : sg_cn kd ox oy oz hv ch vl nx i = vl i
          · refine G hv ch (sg_fg wt i) vl nx ?_ (fun post hp => sg_look hc (by omega) hf4 hf (fun q => absurd hk q) (fun q => absurd hk q) (fun _ _ => hp) (fun _ q => absurd hcn q))
            refine sg_inv_look hG hic sg_D_c hDi hDp H (fun m _ => ⟨rfl, rfl, rfl, rfl⟩) ⟨fun q => absurd hk q, fun _ => ?_⟩ (fun _ _ _ => rfl) (fun n _ hn z => ⟨wC n hn z, fun _ => ⟨fr.1, fr.2.1⟩⟩)
            rw [hcn, hcl i hk]
            exact ⟨fr.1, rfl, by rw [fr.2.1]; simp, by rw [if_pos rfl]; exact fr.2.2.2⟩
          · refine G hv (ch ||| ((1 : Int32) <<< (nI i &&& 31))) (sg_fg wt i ||| us i) vl (upd nx i (sg_cn kd ox oy oz hv ch vl nx i)) ?_ (fun post hp => sg_look hc (by omega) hf4 hf (fun q => absurd hk q) (fun q => absurd hk q) (fun _ q => absurd q hcn) (fun _ _ => hp))
            have hA : ∀ m, m ≠ i → sg_b hv m = sg_b hv m ∧ sg_b ch m = sg_b (ch ||| ((1 : Int32) <<< (nI i &&& 31))) m ∧ vl m = vl m ∧ nx m = upd nx i (sg_cn kd ox oy oz hv ch vl nx i) m := fun m hm => ⟨rfl, (sg_seto (by omega) ch hm).symm, rfl, (pk_un hm).symm⟩
            refine sg_inv_look hG hic sg_D_c hDi hDp H hA ⟨fun q => absurd hk q, fun _ => ?_⟩ (fun _ _ _ => rfl) (fun n hn hni z => ?_)
            · rw [← sg_cn_congr hG hic hk (fun m hm => hA m (hpn m hm)) rfl]
              have hne : ¬ sg_cn kd ox oy oz hv ch vl nx i = V0 i := by
                rw [← hcl i hk]
                exact hcn
              refine ⟨fr.1, fr.2.2.1, ?_, ?_⟩
              · rw [sg_setn (by omega)]
                simp [hne]
              · rw [if_neg hne, pk_us]
            · rw [sg_bor] at z
              have z1 : sg_b (sg_fg wt i) n = false := by
                cases q : sg_b (sg_fg wt i) n
                · rfl
                · rw [q] at z
                  exact absurd z (by simp)
              refine ⟨wC n hni z1, fun q => ?_⟩
              rw [(hu n hn i q).2] at z
              exact absurd z (by simp)
        · have hfe := hf (fun q => hk (Or.inl q))
          cases heo : sg_eo kd ox oy oz kt ov kp hv ch vl nx i with
          | none =>
            refine G hv ch (sg_fg wt i) vl nx ?_ (fun post hp => sg_look hc (by omega) hf4 hf (fun _ _ => hp) (fun _ v q => by rw [heo] at q; exact absurd q (by simp)) (fun q => absurd q hk) (fun q => absurd q hk))
            refine sg_inv_look hG hic sg_D_c hDi hDp H (fun m _ => ⟨rfl, rfl, rfl, rfl⟩) ⟨fun _ => ?_, fun q => absurd q hk⟩ (fun _ _ _ => rfl) (fun n _ hn z => ⟨wC n hn z, fun _ => ⟨fr.1, fr.2.1⟩⟩)
            rw [heo]
            exact ⟨fr.2.1, fr.2.2.2, fr.1, fr.2.2.1⟩
          | some v =>
            refine G (hv ||| ((1 : Int32) <<< (nI i &&& 31))) ch (sg_fg wt i ||| us i) (upd vl i v) nx ?_ (fun post hp => sg_look hc (by omega) hf4 hf (fun _ q => by rw [heo] at q; exact absurd q (by simp)) (fun _ v' q => ?_) (fun q => absurd q hk) (fun q => absurd q hk))
            · have hA : ∀ m, m ≠ i → sg_b hv m = sg_b (hv ||| ((1 : Int32) <<< (nI i &&& 31))) m ∧ sg_b ch m = sg_b ch m ∧ vl m = upd vl i v m ∧ nx m = nx m := fun m hm => ⟨(sg_seto (by omega) hv hm).symm, rfl, (pk_un hm).symm, rfl⟩
              have hC : ∀ m, m < c → sg_ck (kd m) → vl m = upd vl i v m := fun m _ hkm => (pk_un (fun z => hk (by rw [← z]; exact hkm))).symm
              refine sg_inv_look hG hic sg_D_c hDi hDp H hA ⟨fun _ => ?_, fun q => absurd q hk⟩ hC (fun n hn hni z => ?_)
              · rw [← sg_eo_congr hG hic hk (fun m hm => hA m (hpn m hm)) hC, heo]
                exact ⟨fr.2.1, fr.2.2.2, by rw [sg_setn (by omega)]; rfl, by rw [pk_us]; rfl⟩
              · rw [sg_bor] at z
                have z1 : sg_b (sg_fg wt i) n = false := by
                  cases q : sg_b (sg_fg wt i) n
                  · rfl
                  · rw [q] at z
                    exact absurd z (by simp)
                refine ⟨wC n hni z1, fun q => ?_⟩
                rw [(hu n hn i q).2] at z
                exact absurd z (by simp)
            · rw [heo] at q
              have q' := Option.some.inj q
              subst q'
              exact hp
    · have hDn : ∀ n, sg_D c t h i n ↔ sg_D c t h (i + 1) n := fun n => by
        unfold sg_D
        constructor
        · intro z
          omega
        · intro z
          by_cases q : n = i
          · subst q
            omega
          · omega
      obtain ⟨hv', ch', wt', vl', nx', h1, h2⟩ := ih (i + 1) (by omega) hv ch wt vl nx (sg_inv_iff hDn H)
      refine ⟨hv', ch', wt', vl', nx', h1, fun post J85 hJ => ?_⟩
      obtain ⟨fu, hfu⟩ := h2 post J85 hJ
      refine ⟨fu + 1, ?_⟩
      rw [wX_commit_100]
      dsimp only
      rw [nI_clamp (show i < 2 ^ 31 by omega), hti.1]
      have hlt := hti.2
      exact pk_le c i (fun q => absurd q (by omega)) (fun _ => br_c (fun _ => nm_r (nI_1 i) hfu) (fun _ => ⟨pk_in i 24 (by omega), pk_eq (t i) h (fun q => absurd q e) (fun _ => nm_r (nI_1 i) hfu)⟩))
theorem sg_com85 (hG : sg_G c kd ox oy oz) (hK : sg_K c kd ox oy oz V0) (ht : ∀ n, n < c → hg n = nI (t n) ∧ t n < 24) (hu : ∀ n, n < c → ∀ m, sg_b (sg_pv kd ox oy oz n) m = true → t m < t n ∧ sg_b (us m) n = true) :
    ∀ (r h : Nat), h + r = 24 → ∀ (hv ch wt : Int32) (vl nx : Nat → Int32), sg_inv c kd ox oy oz kt ov kp V0 N0 (sg_D c t h 0) hv ch wt vl nx →
    ∃ (hv' ch' wt' : Int32) (vl' nx' : Nat → Int32), sg_fin c kd ox oy oz kt ov kp V0 N0 hv' ch' vl' nx' ∧
      ∀ post : Int32 → St1 → Prop, wX_commit_146 post (nI c) ar hv' ch' kt ov tc lv wt' kd ox oy oz hg us vl' nx' kp tm → ∃ fu, wX_commit_85 post fu (nI h) (nI c) ar hv ch kt ov tc lv wt kd ox oy oz hg us vl nx kp tm := by
  have hc := hG.1
  intro r
  induction r with
  | zero =>
    intro h hh hv ch wt vl nx H
    refine ⟨hv, ch, wt, vl, nx, sg_inv_done hG hK sg_D_c (fun n hn q => ?_) H, fun post hp => ⟨0 + 1, ?_⟩⟩
    · refine absurd ?_ q
      unfold sg_D
      have := (ht n hn).2
      omega
    · rw [wX_commit_85]
      exact pk_le 24 h (fun _ => hp) (fun q => absurd q (by omega))
  | succ r ih =>
    intro h hh hv ch wt vl nx H
    by_cases e : wt = 0
    · refine ⟨hv, ch, wt, vl, nx, sg_inv_done hG hK sg_D_c (fun n hn q => by rw [e]; exact sg_b0 n) H, fun post hp => ⟨0 + 1, ?_⟩⟩
      rw [wX_commit_85]
      exact pk_le 24 h (fun q => absurd q (by omega)) (fun _ => br_t e hp)
    · obtain ⟨hv1, ch1, wt1, vl1, nx1, a1, a2⟩ := sg_com100 (ar := ar) (tc := tc) (lv := lv) (tm := tm) hG hK ht hu (h := h) (by omega) c 0 (by omega) hv ch wt vl nx H
      obtain ⟨hv', ch', wt', vl', nx', b1, b2⟩ := ih (h + 1) (by omega) hv1 ch1 wt1 vl1 nx1 a1
      refine ⟨hv', ch', wt', vl', nx', b1, fun post hp => ?_⟩
      obtain ⟨fu, hfu⟩ := b2 post hp
      refine ⟨fu + 1, ?_⟩
      rw [wX_commit_85]
      exact pk_le 24 h (fun q => absurd q (by omega)) (fun _ => br_f e (a2 post _ hfu))
end
end
section
/-! finish and commit -/
section
variable {c : Nat} {ar hv ch kt ov tc lv wt : Int32} {kd ox oy oz hg us vl nx kp tm : Nat → Int32}
variable {n m i : Nat} {x : Int32}
theorem sg_fin109 (hi : i < 24) : ∃ ov', ∀ (post : St1 → Prop) (J2 : Int32 → Int32 → Int32 → (Nat → Int32) → (Nat → Int32) → (Nat → Int32) → (Nat → Int32) → (Nat → Int32) → (Nat → Int32) → (Nat → Int32) → (Nat → Int32) → (Nat → Int32) → (Nat → Int32) → Prop) (lv wt : Int32) (hg us : Nat → Int32), J2 (nI (i + 1)) kt ov' kd ox oy oz hg us vl nx kp tm → wX_finish_109 post J2 (nI i) ((1 : Int32) <<< (nI i &&& 31)) (kd i) (nI c) ar hv ch kt ov tc lv wt kd ox oy oz hg us vl nx kp tm := by
  by_cases h : kd i = 12 ∧ sg_b hv i = true
  · refine ⟨ov ||| ((1 : Int32) <<< (nI i &&& 31)), fun post J2 lv wt hg us hJ => ?_⟩
    unfold wX_finish_109
    exact br_t h.1 (sg_has (by omega) (fun _ => br_f (by decide) (nm_e (nm_r (nI_1 i) hJ))) (fun q => by rw [h.2] at q; exact absurd q (by decide)))
  · refine ⟨ov, fun post J2 lv wt hg us hJ => ?_⟩
    unfold wX_finish_109
    exact br_c (fun a => sg_has (by omega) (fun q => absurd ⟨a, q⟩ h) (fun _ => br_t rfl (nm_r (nI_1 i) hJ))) (fun _ => nm_r (nI_1 i) hJ)
theorem sg_fin54 (hi : i < 24) : ∃ kt' ov' kp', ∀ (post : St1 → Prop) (J2 : Int32 → Int32 → Int32 → (Nat → Int32) → (Nat → Int32) → (Nat → Int32) → (Nat → Int32) → (Nat → Int32) → (Nat → Int32) → (Nat → Int32) → (Nat → Int32) → (Nat → Int32) → (Nat → Int32) → Prop) (lv wt : Int32) (hg us : Nat → Int32), J2 (nI (i + 1)) kt' ov' kd ox oy oz hg us vl nx kp' tm → wX_finish_54 post J2 (nI i) ((1 : Int32) <<< (nI i &&& 31)) (nI c) ar hv ch kt ov tc lv wt kd ox oy oz hg us vl nx kp tm := by
  by_cases h0 : kd i = 0
  · refine ⟨kt &&& (((1 : Int32) <<< (nI i &&& 31)) ^^^ (-1)), ov, kp, fun post J2 lv wt hg us hJ => ?_⟩
    unfold wX_finish_54
    rw [nI_clamp (show i < 2 ^ 31 by omega)]
    exact ⟨pk_in i 24 hi, nm_e (br_t h0 (nm_e (nm_r (nI_1 i) hJ)))⟩
  by_cases h8 : kd i = 8 ∧ sg_b hv i = true
  · refine ⟨kt, ov, upd kp i (vl i), fun post J2 lv wt hg us hJ => ?_⟩
    unfold wX_finish_54
    rw [nI_clamp (show i < 2 ^ 31 by omega)]
    exact ⟨pk_in i 24 hi, nm_e (br_f h0 (br_t h8.1 (sg_has (by omega) (fun _ => br_f (by decide) ⟨pk_in i 24 hi, pk_in i 24 hi, nm_e (nm_r (nI_1 i) hJ)⟩) (fun q => by rw [h8.2] at q; exact absurd q (by decide)))))⟩
  · obtain ⟨ov', H⟩ := sg_fin109 (c := c) (ar := ar) (hv := hv) (ch := ch) (kt := kt) (ov := ov) (tc := tc) (kd := kd) (ox := ox) (oy := oy) (oz := oz) (vl := vl) (nx := nx) (kp := kp) (tm := tm) hi
    refine ⟨kt, ov', kp, fun post J2 lv wt hg us hJ => ?_⟩
    unfold wX_finish_54
    rw [nI_clamp (show i < 2 ^ 31 by omega)]
    exact ⟨pk_in i 24 hi, nm_e (br_f h0 (br_c (fun a => sg_has (by omega) (fun q => absurd ⟨a, q⟩ h8) (fun _ => br_t rfl (H post J2 lv wt hg us hJ))) (fun _ => H post J2 lv wt hg us hJ)))⟩
theorem sg_fin35 (hi : i < 24) : ∃ kt' ov' kp' tm', ∀ (post : St1 → Prop) (J2 : Int32 → Int32 → Int32 → (Nat → Int32) → (Nat → Int32) → (Nat → Int32) → (Nat → Int32) → (Nat → Int32) → (Nat → Int32) → (Nat → Int32) → (Nat → Int32) → (Nat → Int32) → (Nat → Int32) → Prop) (lv wt : Int32) (hg us : Nat → Int32), J2 (nI (i + 1)) kt' ov' kd ox oy oz hg us vl nx kp' tm' → wX_finish_35 post J2 (nI i) ((1 : Int32) <<< (nI i &&& 31)) (nI c) ar hv ch kt ov tc lv wt kd ox oy oz hg us vl nx kp tm := by
  cases hb : sg_b hv i
  · obtain ⟨kt', ov', kp', H⟩ := sg_fin54 (c := c) (ar := ar) (hv := hv) (ch := ch) (kt := kt) (ov := ov) (tc := tc) (kd := kd) (ox := ox) (oy := oy) (oz := oz) (vl := vl) (nx := nx) (kp := kp) (tm := tm) hi
    refine ⟨kt', ov', kp', tm, fun post J2 lv wt hg us hJ => ?_⟩
    unfold wX_finish_35
    exact br_t ((sg_msk (by omega) hv).mpr hb) (H post J2 lv wt hg us hJ)
  · obtain ⟨kt', ov', kp', H⟩ := sg_fin54 (c := c) (ar := ar) (hv := hv) (ch := ch) (kt := kt) (ov := ov) (tc := tc) (kd := kd) (ox := ox) (oy := oy) (oz := oz) (vl := vl) (nx := nx) (kp := kp) (tm := upd tm i (tm i + 1)) hi
    refine ⟨kt', ov', kp', upd tm i (tm i + 1), fun post J2 lv wt hg us hJ => ?_⟩
    unfold wX_finish_35
    rw [nI_clamp (show i < 2 ^ 31 by omega)]
    exact br_f ((sg_nmsk (by omega) hv).mpr hb) ⟨pk_in i 24 hi, pk_in i 24 hi, nm_e (H post J2 lv wt hg us hJ)⟩
theorem sg_fin2 (hc : c ≤ 24) : ∀ (r i : Nat), i + r = c → ∀ (kt ov : Int32) (vl kp tm : Nat → Int32), ∃ (kt' ov' : Int32) (vl' kp' tm' : Nat → Int32), (∀ n, vl' n = if i ≤ n ∧ n < c ∧ sg_b ch n = true then nx n else vl n) ∧
    ∀ (post : St1 → Prop) (lv wt : Int32) (hg us : Nat → Int32), (∃ fu, wX_finish_141 post fu 0 (nI c) ar hv ch kt' ov' tc lv wt kd ox oy oz hg us vl' nx kp' tm') → ∃ fu, wX_finish_2 post (nI c) ar hv ch tc lv wt fu (nI i) kt ov kd ox oy oz hg us vl nx kp tm := by
  intro r
  induction r with
  | zero =>
    intro i hi kt ov vl kp tm
    refine ⟨kt, ov, vl, kp, tm, fun n => by rw [if_neg (by omega)], fun post lv wt hg us h => ⟨0 + 1, ?_⟩⟩
    rw [wX_finish_2]
    exact pk_le c i (fun _ => h) (fun q => absurd q (by omega))
  | succ r ih =>
    intro i hi kt ov vl kp tm
    have hi24 : i < 24 := by omega
    cases hb : sg_b ch i
    · obtain ⟨kt1, ov1, kp1, tm1, S⟩ := sg_fin35 (c := c) (ar := ar) (hv := hv) (ch := ch) (kt := kt) (ov := ov) (tc := tc) (kd := kd) (ox := ox) (oy := oy) (oz := oz) (vl := vl) (nx := nx) (kp := kp) (tm := tm) hi24
      obtain ⟨kt', ov', vl', kp', tm', h1, h2⟩ := ih (i + 1) (by omega) kt1 ov1 vl kp1 tm1
      refine ⟨kt', ov', vl', kp', tm', fun n => ?_, fun post lv wt hg us h => ?_⟩
      · rw [h1 n]
        by_cases q : i ≤ n ∧ n < c ∧ sg_b ch n = true
        · have : n ≠ i := fun z => by rw [z, hb] at q; exact absurd q.2.2 (by decide)
          rw [if_pos q, if_pos ⟨by omega, q.2⟩]
        · rw [if_neg q, if_neg (fun z => q ⟨by omega, z.2⟩)]
      · obtain ⟨fu, hfu⟩ := h2 post lv wt hg us h
        refine ⟨fu + 1, ?_⟩
        rw [wX_finish_2]
        exact pk_le c i (fun q => absurd q (by omega)) (fun _ => nm_e (br_t ((sg_msk (by omega) ch).mpr hb) (S post _ lv wt hg us hfu)))
    · obtain ⟨kt1, ov1, kp1, tm1, S⟩ := sg_fin35 (c := c) (ar := ar) (hv := hv) (ch := ch) (kt := kt) (ov := ov) (tc := tc) (kd := kd) (ox := ox) (oy := oy) (oz := oz) (vl := upd vl i (nx i)) (nx := nx) (kp := kp) (tm := tm) hi24
      obtain ⟨kt', ov', vl', kp', tm', h1, h2⟩ := ih (i + 1) (by omega) kt1 ov1 (upd vl i (nx i)) kp1 tm1
      refine ⟨kt', ov', vl', kp', tm', fun n => ?_, fun post lv wt hg us h => ?_⟩
      · rw [h1 n]
        by_cases e : n = i
        · subst e
          rw [if_neg (by omega), pk_us, if_pos ⟨Nat.le_refl _, by omega, hb⟩]
        · rw [pk_un e]
          by_cases q : i ≤ n ∧ n < c ∧ sg_b ch n = true
          · rw [if_pos q, if_pos ⟨by omega, q.2⟩]
          · rw [if_neg q, if_neg (fun z => q ⟨by omega, z.2⟩)]
      · obtain ⟨fu, hfu⟩ := h2 post lv wt hg us h
        refine ⟨fu + 1, ?_⟩
        rw [wX_finish_2]
        dsimp only
        rw [nI_clamp (show i < 2 ^ 31 by omega)]
        exact pk_le c i (fun q => absurd q (by omega)) (fun _ => nm_e (br_f ((sg_nmsk (by omega) ch).mpr hb) ⟨pk_in i 24 hi24, pk_in i 24 hi24, nm_e (S post _ lv wt hg us hfu)⟩))
theorem sg_keep (hn : n < 24) (hx : sg_at 24 x) : ∃ kt' kp', ∀ (post : St1 → Prop) (lv wt : Int32) (hg us : Nat → Int32), post (nI c, ar, hv, ch, kt', ov, tc, lv, wt, kd, ox, oy, oz, hg, us, vl, nx, kp', tm) → wpX_keep post (nI c, ar, hv, ch, kt, ov, tc, lv, wt, kd, ox, oy, oz, hg, us, vl, nx, kp, tm) (nI n) x := by
  by_cases h : sg_b hv x.toNatClampNeg = true
  · refine ⟨kt ||| ((1 : Int32) <<< (nI n &&& 31)), upd kp n (vl x.toNatClampNeg), fun post lv wt hg us hp => ?_⟩
    unfold wpX_keep
    dsimp only
    rw [nI_clamp (show n < 2 ^ 31 by omega)]
    exact sg_hasA hx (fun _ => br_f (by decide) ⟨sg_inA hx, pk_in n 24 hn, nm_e (nm_e hp)⟩) (fun q => absurd h q)
  · refine ⟨kt &&& (((1 : Int32) <<< (nI n &&& 31)) ^^^ (-1)), kp, fun post lv wt hg us hp => ?_⟩
    unfold wpX_keep
    dsimp only
    exact sg_hasA hx (fun q => absurd q h) (fun _ => br_t rfl (nm_e hp))
theorem sg_fin141 (hG : sg_G c kd ox oy oz) : ∀ (r i : Nat), i + r = c → ∀ (kt : Int32) (kp : Nat → Int32), ∃ (kt' : Int32) (kp' : Nat → Int32), ∀ (post : St1 → Prop) (lv wt : Int32) (hg us : Nat → Int32), post (nI c, ar, hv, ch, kt', ov, tc, lv, wt, kd, ox, oy, oz, hg, us, vl, nx, kp', tm) → ∃ fu, wX_finish_141 post fu (nI i) (nI c) ar hv ch kt ov tc lv wt kd ox oy oz hg us vl nx kp tm := by
  have hc := hG.1
  intro r
  induction r with
  | zero =>
    intro i hi kt kp
    refine ⟨kt, kp, fun post lv wt hg us h => ⟨0 + 1, ?_⟩⟩
    rw [wX_finish_141]
    exact pk_le c i (fun _ => h) (fun q => absurd q (by omega))
  | succ r ih =>
    intro i hi kt kp
    have hi24 : i < 24 := by omega
    by_cases h11 : kd i = 11
    · have hx : sg_at 24 (ox i) := sg_at_mono (by omega) (sg_fit_x (hG.2.1 i (by omega) (by rw [h11]; decide)) (by rw [h11]; decide) (by rw [h11]; decide))
      obtain ⟨kt1, kp1, S⟩ := sg_keep (c := c) (ar := ar) (hv := hv) (ch := ch) (kt := kt) (ov := ov) (tc := tc) (kd := kd) (ox := ox) (oy := oy) (oz := oz) (vl := vl) (nx := nx) (kp := kp) (tm := tm) hi24 hx
      obtain ⟨kt', kp', H⟩ := ih (i + 1) (by omega) kt1 kp1
      refine ⟨kt', kp', fun post lv wt hg us h => ?_⟩
      obtain ⟨fu, hfu⟩ := H post lv wt hg us h
      refine ⟨fu + 1, ?_⟩
      rw [wX_finish_141]
      dsimp only
      rw [nI_clamp (show i < 2 ^ 31 by omega)]
      exact pk_le c i (fun q => absurd q (by omega)) (fun _ => ⟨pk_in i 24 hi24, br_t h11 ⟨pk_in i 24 hi24, S _ lv wt hg us (nm_r (nI_1 i) hfu)⟩⟩)
    · obtain ⟨kt', kp', H⟩ := ih (i + 1) (by omega) kt kp
      refine ⟨kt', kp', fun post lv wt hg us h => ?_⟩
      obtain ⟨fu, hfu⟩ := H post lv wt hg us h
      refine ⟨fu + 1, ?_⟩
      rw [wX_finish_141]
      dsimp only
      rw [nI_clamp (show i < 2 ^ 31 by omega)]
      exact pk_le c i (fun q => absurd q (by omega)) (fun _ => ⟨pk_in i 24 hi24, br_f h11 (nm_r (nI_1 i) hfu)⟩)
theorem sg_finish (hG : sg_G c kd ox oy oz) : ∃ (kt' ov' : Int32) (vl' kp' tm' : Nat → Int32), (∀ n, vl' n = if n < c ∧ sg_b ch n = true then nx n else vl n) ∧ ∀ (post : St1 → Prop) (lv wt : Int32) (hg us : Nat → Int32), post (nI c, ar, hv, ch, kt', ov', tc, lv, wt, kd, ox, oy, oz, hg, us, vl', nx, kp', tm') → wpX_finish post (nI c, ar, hv, ch, kt, ov, tc, lv, wt, kd, ox, oy, oz, hg, us, vl, nx, kp, tm) := by
  have hc := hG.1
  obtain ⟨kt1, ov1, vl1, kp1, tm1, h1, h2⟩ := sg_fin2 (c := c) (ar := ar) (hv := hv) (ch := ch) (tc := tc) (kd := kd) (ox := ox) (oy := oy) (oz := oz) (nx := nx) hc c 0 (by omega) kt ov vl kp tm
  obtain ⟨kt2, kp2, h3⟩ := sg_fin141 (ar := ar) (hv := hv) (ch := ch) (ov := ov1) (tc := tc) (vl := vl1) (nx := nx) (tm := tm1) hG c 0 (by omega) kt1 kp1
  refine ⟨kt2, ov1, vl1, kp2, tm1, fun n => ?_, fun post lv wt hg us hp => ?_⟩
  · rw [h1 n]
    by_cases q : n < c ∧ sg_b ch n = true
    · rw [if_pos q, if_pos ⟨Nat.zero_le _, q⟩]
    · rw [if_neg q, if_neg (fun z => q z.2)]
  · unfold wpX_finish
    dsimp only
    exact h2 post lv wt hg us (h3 post lv wt hg us hp)
/-- how many events had a value -/
theorem sg_com154 (hc : c ≤ 24) : ∀ (r i : Nat), i + r = c → ∀ (post : Int32 → St1 → Prop), post (nI (sg_ct hv c)) (nI c, ar, hv, ch, kt, ov, tc, lv, wt, kd, ox, oy, oz, hg, us, vl, nx, kp, tm) → ∃ fu, wX_commit_154 post (nI c) ar hv ch kt ov tc lv wt kd ox oy oz hg us vl nx kp tm fu (nI (sg_ct hv i)) (nI i) := by
  intro r
  induction r with
  | zero =>
    intro i hi post hp
    refine ⟨0 + 1, ?_⟩
    have e : i = c := by omega
    subst e
    rw [wX_commit_154]
    exact pk_le i i (fun _ => hp) (fun q => absurd q (by omega))
  | succ r ih =>
    intro i hi post hp
    obtain ⟨fu, hfu⟩ := ih (i + 1) (by omega) post hp
    refine ⟨fu + 1, ?_⟩
    rw [wX_commit_154]
    cases hb : sg_b hv i
    · rw [sg_ct_0 hb] at hfu
      exact pk_le c i (fun q => absurd q (by omega)) (fun _ => br_t ((sg_tst (by omega) hv).mpr hb) (nm_r (nI_1 i) hfu))
    · rw [sg_ct_1 hb] at hfu
      exact pk_le c i (fun q => absurd q (by omega)) (fun _ => br_f ((sg_ntst (by omega) hv).mpr hb) (nm_r (nI_1 _) (nm_r (nI_1 i) hfu)))
theorem sg_starts {post : Int32 → Prop} (hn : n < 24) (h1 : (kd n = 0 ∨ kd n = 11) → sg_b kt n = true → post 1) (h0 : ¬ ((kd n = 0 ∨ kd n = 11) ∧ sg_b kt n = true) → post 0) : wpX_startsByItself post (nI c, ar, hv, ch, kt, ov, tc, lv, wt, kd, ox, oy, oz, hg, us, vl, nx, kp, tm) (nI n) := by
  have L : (kd n = 0 ∨ kd n = 11) → wX_startsByItself_20 post (nI n) (nI c) ar hv ch kt ov tc lv wt kd ox oy oz hg us vl nx kp tm := fun hs => by
    unfold wX_startsByItself_20
    exact br_c (fun q => h0 (fun z => by rw [(sg_tst (by omega) kt).mp q] at z; exact absurd z.2 (by decide))) (fun q => h1 hs ((sg_ntst (by omega) kt).mp q))
  unfold wpX_startsByItself
  dsimp only
  rw [nI_clamp (show n < 2 ^ 31 by omega)]
  exact ⟨pk_in n 24 hn, br_c (fun e => L (Or.inl e)) (fun e => ⟨pk_in n 24 hn, br_c (fun e' => L (Or.inr e')) (fun e' => h0 (fun z => z.1.elim e e'))⟩)⟩
theorem sg_com49 (hc : c ≤ 24) : ∀ (r i : Nat), i + r = c → ∀ wt : Int32, (∀ n, n < i → (kd n = 0 ∨ kd n = 11) → sg_b kt n = true → sg_b wt n = true) → ∃ wt' : Int32, (∀ n, n < c → (kd n = 0 ∨ kd n = 11) → sg_b kt n = true → sg_b wt' n = true) ∧
    ∀ post : Int32 → St1 → Prop, (∃ fu, wX_commit_85 post fu 0 (nI c) ar hv ch kt ov tc lv wt' kd ox oy oz hg us vl nx kp tm) → ∃ fu, wX_commit_49 post (nI c) ar hv ch kt ov tc lv kd ox oy oz hg us vl nx kp tm fu (nI i) wt := by
  intro r
  induction r with
  | zero =>
    intro i hi wt h
    refine ⟨wt, fun n hn => h n (by omega), fun post hp => ⟨0 + 1, ?_⟩⟩
    rw [wX_commit_49]
    exact pk_le c i (fun _ => hp) (fun q => absurd q (by omega))
  | succ r ih =>
    intro i hi wt h
    by_cases q : (kd i = 0 ∨ kd i = 11) ∧ sg_b kt i = true
    · obtain ⟨wt', h1, h2⟩ := ih (i + 1) (by omega) (wt ||| ((1 : Int32) <<< (nI i &&& 31))) (fun n hn a b => by
        by_cases e : n = i
        · rw [e]
          exact sg_setn (by omega) wt
        · exact sg_orL (h n (by omega) a b))
      refine ⟨wt', h1, fun post hp => ?_⟩
      obtain ⟨fu, hfu⟩ := h2 post hp
      refine ⟨fu + 1, ?_⟩
      rw [wX_commit_49]
      exact pk_le c i (fun z => absurd z (by omega)) (fun _ => sg_starts (by omega) (fun _ _ => br_f (by decide) (nm_e (nm_r (nI_1 i) hfu))) (fun z => absurd q z))
    · obtain ⟨wt', h1, h2⟩ := ih (i + 1) (by omega) wt (fun n hn a b => by
        by_cases e : n = i
        · rw [e] at a b
          exact absurd ⟨a, b⟩ q
        · exact h n (by omega) a b)
      refine ⟨wt', h1, fun post hp => ?_⟩
      obtain ⟨fu, hfu⟩ := h2 post hp
      refine ⟨fu + 1, ?_⟩
      rw [wX_commit_49]
      exact pk_le c i (fun z => absurd z (by omega)) (fun _ => sg_starts (by omega) (fun a b => absurd ⟨a, b⟩ q) (fun _ => br_t rfl (nm_r (nI_1 i) hfu)))
/-- from an arrangement and any set that holds the starts, the loop comes to a solution -/
theorem sg_run (hG : sg_G c kd ox oy oz) (hK : sg_K c kd ox oy oz vl) (har : sg_ar c kd ox oy oz hg us) (hw : ∀ n, n < c → (kd n = 0 ∨ kd n = 11) → sg_b kt n = true → sg_b wt n = true) :
    ∃ (hv' ch' wt' : Int32) (vl' nx' : Nat → Int32), sg_fin c kd ox oy oz kt ov kp vl nx hv' ch' vl' nx' ∧
      ∀ post : Int32 → St1 → Prop, wX_commit_146 post (nI c) ar hv' ch' kt ov tc lv wt' kd ox oy oz hg us vl' nx' kp tm → ∃ fu, wX_commit_85 post fu 0 (nI c) ar 0 0 kt ov tc lv wt kd ox oy oz hg us vl nx kp tm := by
  obtain ⟨t, ht, hu⟩ := har
  refine sg_com85 (V0 := vl) (N0 := nx) hG hK ht hu 24 0 (by omega) 0 0 wt vl nx ⟨fun n hn => ?_, fun n _ => ⟨sg_b0 n, sg_b0 n, rfl, rfl⟩, fun n hn _ hwn => ⟨fun hs => ?_, fun m _ => ⟨sg_b0 m, sg_b0 m⟩⟩⟩
  · unfold sg_D at hn
    omega
  · refine sg_ff (fun z => ?_)
    rw [hw n hn hs z] at hwn
    exact absurd hwn (by decide)
theorem sg_commit (hG : sg_G c kd ox oy oz) (hK : sg_K c kd ox oy oz vl) : ∃ (hv' ch' kt' ov' : Int32) (vl' nx' kp' tm' : Nat → Int32), sg_K c kd ox oy oz vl' ∧ (∀ n, sg_b hv' n = true → n < c ∧ ¬ sg_ck (kd n)) ∧
    (∀ n, n < c → kd n = 9 → (sg_b hv' n = true ↔ vl' (ox n).toNatClampNeg ≠ vl (ox n).toNatClampNeg)) ∧
    ∀ (lv wt : Int32) (hg us : Nat → Int32), (ar ≠ 0 → sg_ar c kd ox oy oz hg us) → ∃ (wt' : Int32) (hg' us' : Nat → Int32), sg_ar c kd ox oy oz hg' us' ∧
      ∀ post : Int32 → St1 → Prop, post (nI (sg_ct hv' c)) (nI c, if ar = 0 then 1 else ar, hv', ch', kt', ov', tc + 1, lv, wt', kd, ox, oy, oz, hg', us', vl', nx', kp', tm') → wpX_commit post (nI c, ar, hv, ch, kt, ov, tc, lv, wt, kd, ox, oy, oz, hg, us, vl, nx, kp, tm) := by
  have hc := hG.1
  -- a solution
  obtain ⟨hg0, us0, ha0, _⟩ := sg_arrange (ar := 0) (hv := hv) (ch := ch) (kt := kt) (ov := ov) (tc := tc) (lv := 0) (wt := 0) (hg := vl) (us := vl) (vl := vl) (nx := nx) (kp := kp) (tm := tm) hG (fun z => absurd rfl z)
  obtain ⟨hv1, ch1, _, vl1, nx1, hfin, _⟩ := sg_run (ar := ar) (tc := tc) (lv := 0) (wt := -1) (kt := kt) (ov := ov) (nx := nx) (kp := kp) (tm := tm) hG hK ha0 (fun n hn _ _ => sg_bm1 n (by omega))
  obtain ⟨kt2, ov2, vl2, kp2, tm2, hvl, hF⟩ := sg_finish (ar := if ar = 0 then 1 else ar) (hv := hv1) (ch := ch1) (kt := kt) (ov := ov) (tc := tc + 1) (vl := vl1) (nx := nx1) (kp := kp) (tm := tm) hG
  have hw : ∀ m, m < c → vl2 m = sg_w ch1 vl1 nx1 m := fun m hm => by
    rw [hvl m]
    unfold sg_w
    by_cases q : sg_b ch1 m = true
    · rw [if_pos ⟨hm, q⟩, if_pos q]
    · rw [if_neg (fun z => q z.2), if_neg q]
  have hcell : ∀ n, n < c → sg_ck (kd n) → vl2 n = sg_cn kd ox oy oz hv1 ch1 vl1 nx1 n := fun n hn hk => by
    obtain ⟨l1, l2, l3, l4⟩ := (hfin.1 n hn).2 hk
    rw [hw n hn]
    unfold sg_w
    by_cases q : sg_cn kd ox oy oz hv1 ch1 vl1 nx1 n = vl n
    · have : ¬ sg_b ch1 n = true := by rw [l3]; simp [q]
      rw [if_neg this, l2, q]
    · have : sg_b ch1 n = true := by rw [l3]; simp [q]
      rw [if_pos this, l4, if_neg q]
  refine ⟨hv1, ch1, kt2, ov2, vl2, nx1, kp2, tm2, fun n hn hk h4 => ?_, fun n hn => ?_, fun n hn h9 => ?_, fun lv wt hg us har => ?_⟩
  · have a := hcell n hn hk
    rw [sg_cn, if_neg h4] at a
    rw [a]
    exact sg_cb_w (b := n) (by omega) (hG.2.1 n hn h4) hk h4 (fun j hj _ _ => (hw j (by omega)).symm)
  · rcases Nat.lt_or_ge n c with q | q
    · refine ⟨q, fun hk => ?_⟩
      rw [((hfin.1 n q).2 hk).1] at hn
      exact absurd hn (by decide)
    · rw [(hfin.2 n q).1] at hn
      exact absurd hn (by decide)
  · have hk : ¬ sg_ck (kd n) := by rw [h9]; decide
    have hx := sg_cl_cl ((hG.2.1 n hn (by rw [h9]; decide)).2.2.2.2.2.2.2.1 h9) (by omega)
    have hxc : (ox n).toNatClampNeg < c := by omega
    obtain ⟨l1, l2, l3, l4⟩ := (hfin.1 n hn).1 hk
    obtain ⟨m1, m2, m3, m4⟩ := (hfin.1 _ hxc).2 hx.2.1
    rw [l3, sg_eo_9 h9, hcell _ hxc hx.2.1]
    by_cases q : sg_cn kd ox oy oz hv1 ch1 vl1 nx1 (ox n).toNatClampNeg = vl (ox n).toNatClampNeg
    · have : ¬ sg_b ch1 (ox n).toNatClampNeg = true := by rw [m3]; simp [q]
      rw [if_neg this]
      exact ⟨fun z => absurd z (by decide), fun z => absurd q z⟩
    · have : sg_b ch1 (ox n).toNatClampNeg = true := by rw [m3]; simp [q]
      rw [if_pos this]
      exact ⟨fun _ => q, fun _ => rfl⟩
  · obtain ⟨hg1, us1, ha1, hA⟩ := sg_arrange (hv := hv) (ch := ch) (kt := kt) (ov := ov) (tc := tc) (lv := lv) (wt := wt) (vl := vl) (nx := nx) (kp := kp) (tm := tm) hG har
    -- the loop, whatever is first in waiting
    have R : ∀ w0 : Int32, ∃ wt1 : Int32, ∀ post : Int32 → St1 → Prop, post (nI (sg_ct hv1 c)) (nI c, if ar = 0 then 1 else ar, hv1, ch1, kt2, ov2, tc + 1, lv, wt1, kd, ox, oy, oz, hg1, us1, vl2, nx1, kp2, tm2) → ∃ fu, wX_commit_49 post (nI c) (if ar = 0 then 1 else ar) 0 0 kt ov (tc + 1) lv kd ox oy oz hg1 us1 vl nx kp tm fu 0 w0 := fun w0 => by
      obtain ⟨w1, hw1, W49⟩ := sg_com49 (ar := if ar = 0 then 1 else ar) (hv := 0) (ch := 0) (kt := kt) (ov := ov) (tc := tc + 1) (lv := lv) (kd := kd) (ox := ox) (oy := oy) (oz := oz) (hg := hg1) (us := us1) (vl := vl) (nx := nx) (kp := kp) (tm := tm) hc c 0 (by omega) w0 (fun n hn => absurd hn (by omega))
      obtain ⟨hv3, ch3, wt3, vl3, nx3, hfin3, W85⟩ := sg_run (ar := if ar = 0 then 1 else ar) (tc := tc + 1) (lv := lv) (wt := w1) (kt := kt) (ov := ov) (nx := nx) (kp := kp) (tm := tm) hG hK ha1 hw1
      obtain ⟨e1, e2, e3, e4⟩ := sg_fin_one hG hfin3 hfin
      subst e1 e2 e3 e4
      refine ⟨wt3, fun post hp => W49 post (W85 post ?_)⟩
      unfold wX_commit_146
      exact hF _ lv wt3 hg1 us1 (sg_com154 hc c 0 (by omega) post hp)
    by_cases hl : lv = 0
    · obtain ⟨wt1, R1⟩ := R (((1 : Int32) <<< (nI c &&& 31)) - 1)
      refine ⟨wt1, hg1, us1, ha1, fun post hp => ?_⟩
      unfold wpX_commit
      dsimp only
      exact hA _ (nm_e (br_t hl (nm_e (R1 post hp))))
    · obtain ⟨wt1, R1⟩ := R 0
      refine ⟨wt1, hg1, us1, ha1, fun post hp => ?_⟩
      unfold wpX_commit
      dsimp only
      exact hA _ (nm_e (br_f hl (R1 post hp)))
end
end
section
/-! the law's checks after a transaction -/
section
variable {c : Nat} {ar hv ch kt ov tc lv wt : Int32} {kd ox oy oz hg us vl nx kp tm : Nat → Int32}
variable {n m d last k : Nat} {lv' wt' : Int32} {hg' us' : Nat → Int32} {L : Nat} {xs : Nat → Int32} {x4 x5 x6 x9 x10 x11 x14 : Int32} {kc ks : Nat}
theorem sg_hadE (hc : c ≤ 24) {k : Nat} (hk : k < 32) : ∃ r, ∀ (post : Int32 → Prop) (lv wt : Int32) (hg us : Nat → Int32), post r → wpX_had post (nI c, ar, hv, ch, kt, ov, tc, lv, wt, kd, ox, oy, oz, hg, us, vl, nx, kp, tm) (nI k) := by
  by_cases h : k < c ∧ ¬ sg_ck (kd k) ∧ sg_b hv k = true
  · exact ⟨1, fun post lv wt hg us hp => sg_had hc hk (fun _ _ _ => hp) (fun z => absurd h z)⟩
  · exact ⟨0, fun post lv wt hg us hp => sg_had hc hk (fun a b e => absurd ⟨a, b, e⟩ h) (fun _ => hp)⟩
theorem sg_same15 (hc : c ≤ 24) : ∀ (r k : Nat), k + r = 25 → ∀ post : Int32 → Prop, post 1 → ∃ fu, wL_same_15 post (nI c) ar hv ch kt ov tc lv wt kd ox oy oz hg us vl nx kp tm (nI c) ar hv ch kt ov tc lv' wt' kd ox oy oz hg' us' vl nx kp tm fu (nI k) := by
  intro r
  induction r with
  | zero =>
    intro k hk post hp
    refine ⟨0 + 1, ?_⟩
    rw [wL_same_15]
    exact pk_le 25 k (fun _ => hp) (fun q => absurd q (by omega))
  | succ r ih =>
    intro k hk post hp
    obtain ⟨fu, hfu⟩ := ih (k + 1) (by omega) post hp
    obtain ⟨rh, H⟩ := sg_hadE (ar := ar) (hv := hv) (ch := ch) (kt := kt) (ov := ov) (tc := tc) (kd := kd) (ox := ox) (oy := oy) (oz := oz) (vl := vl) (nx := nx) (kp := kp) (tm := tm) hc (k := k) (by omega)
    obtain ⟨rv, _, V⟩ := sg_value (ar := ar) (hv := hv) (ch := ch) (kt := kt) (ov := ov) (tc := tc) (kd := kd) (ox := ox) (oy := oy) (oz := oz) (vl := vl) (nx := nx) (kp := kp) (tm := tm) hc (k := k) (by omega)
    obtain ⟨rt, T⟩ := sg_times (ar := ar) (hv := hv) (ch := ch) (kt := kt) (ov := ov) (tc := tc) (kd := kd) (ox := ox) (oy := oy) (oz := oz) (vl := vl) (nx := nx) (kp := kp) (tm := tm) hc (k := k) (by omega)
    refine ⟨fu + 1, ?_⟩
    rw [wL_same_15]
    refine pk_le 25 k (fun q => absurd q (by omega)) (fun _ => ?_)
    refine H _ lv wt hg us (H _ lv' wt' hg' us' (br_t rfl ?_))
    refine V _ lv wt hg us (V _ lv' wt' hg' us' (br_t rfl ?_))
    refine T _ lv wt hg us (T _ lv' wt' hg' us' (br_t rfl ?_))
    exact sg_sort hc (by omega) (sg_sort hc (by omega) (br_t rfl (nm_r (nI_1 k) hfu)))
theorem sg_same (hc : c ≤ 24) {post : Int32 → Prop} (hp : post 1) : wpL_same post (nI c, ar, hv, ch, kt, ov, tc, lv, wt, kd, ox, oy, oz, hg, us, vl, nx, kp, tm, nI c, ar, hv, ch, kt, ov, tc, lv', wt', kd, ox, oy, oz, hg', us', vl, nx, kp, tm) := by
  unfold wpL_same
  dsimp only
  unfold wpX_transactions
  exact br_t rfl (sg_same15 hc 25 0 (by omega) post hp)
/-- the check of the count, and of the two nodes that the law has added -/
theorem sg_441 {post : Int32 → Prop} {J31 : Int32 → Int32 → Int32 → Int32 → Int32 → Int32 → Int32 → Int32 → Int32 → Int32 → Int32 → (Nat → Int32) → (Nat → Int32) → (Nat → Int32) → (Nat → Int32) → (Nat → Int32) → (Nat → Int32) → (Nat → Int32) → (Nat → Int32) → (Nat → Int32) → (Nat → Int32) → Int32 → Int32 → Int32 → Int32 → Int32 → Int32 → Int32 → Int32 → Int32 → (Nat → Int32) → (Nat → Int32) → (Nat → Int32) → (Nat → Int32) → (Nat → Int32) → (Nat → Int32) → (Nat → Int32) → (Nat → Int32) → (Nat → Int32) → (Nat → Int32) → Prop}
    {J338 : Int32 → Int32 → Int32 → Int32 → Int32 → Int32 → Int32 → Int32 → Int32 → Int32 → (Nat → Int32) → (Nat → Int32) → (Nat → Int32) → (Nat → Int32) → (Nat → Int32) → (Nat → Int32) → (Nat → Int32) → (Nat → Int32) → (Nat → Int32) → (Nat → Int32) → Int32 → Int32 → Int32 → Int32 → Int32 → Int32 → Int32 → Int32 → Int32 → (Nat → Int32) → (Nat → Int32) → (Nat → Int32) → (Nat → Int32) → (Nat → Int32) → (Nat → Int32) → (Nat → Int32) → (Nat → Int32) → (Nat → Int32) → (Nat → Int32) → Prop}
    (hd : d ≤ 24) (hhv : ∀ n, sg_b hv n = true → n < d ∧ ¬ sg_ck (kd n)) (hl : last < 32)
    (hb : x10 < 0 ∨ ∃ other, x9 = nI other ∧ other < d ∧ sg_ck (kd other) ∧ last < d ∧ sg_ck (kd last) ∧ x10 = nI c ∧ c < d ∧ sg_ck (kd c) ∧ vl c = vl last + vl other ∧ x11 = nI (c + 1) ∧ c + 1 < d ∧ ¬ sg_ck (kd (c + 1)) ∧ (sg_b hv (c + 1) = true ↔ vl last ≠ x14))
    (hJ : J338 (nI (k + 1)) (nI d) ar hv ch kt ov tc lv wt kd ox oy oz hg us vl nx kp tm (nI d) ar hv ch kt ov tc lv' wt' kd ox oy oz hg' us' vl nx kp tm) :
    ∀ (r v : Nat), v + r = 24 → ∃ fu, wL_law_441 post L xs J31 J338 (nI c) x4 x5 x6 (nI last) x9 x10 x11 (nI k) x14 kc ks (nI d) ar hv ch kt ov tc lv wt kd ox oy oz hg us vl nx kp tm (nI d) ar hv ch kt ov tc lv' wt' kd ox oy oz hg' us' vl nx kp tm fu (nI (sg_ct hv 24 - sg_ct hv v)) (nI v) := by
  intro r
  induction r with
  | zero =>
    intro v hv'
    have e : v = 24 := by omega
    subst e
    refine ⟨0 + 1, ?_⟩
    rw [wL_law_441]
    dsimp only
    rw [Nat.sub_self]
    refine pk_le 24 24 (fun _ => br_t rfl ?_) (fun q => absurd q (by omega))
    obtain ⟨r1, f1, V1⟩ := sg_value (c := d) (ar := ar) (hv := hv) (ch := ch) (kt := kt) (ov := ov) (tc := tc) (kd := kd) (ox := ox) (oy := oy) (oz := oz) (vl := vl) (nx := nx) (kp := kp) (tm := tm) hd (k := last) hl
    refine V1 _ lv wt hg us ?_
    rcases hb with h | ⟨other, e9, ho, ko, hl', kl, e10, hcd, kc', ev, e11, hc1, kc1, hch⟩
    · exact br_t h (nm_r (nI_1 k) hJ)
    · obtain ⟨r2, f2, V2⟩ := sg_value (c := d) (ar := ar) (hv := hv) (ch := ch) (kt := kt) (ov := ov) (tc := tc) (kd := kd) (ox := ox) (oy := oy) (oz := oz) (vl := vl) (nx := nx) (kp := kp) (tm := tm) hd (k := c) (by omega)
      obtain ⟨r3, f3, V3⟩ := sg_value (c := d) (ar := ar) (hv := hv) (ch := ch) (kt := kt) (ov := ov) (tc := tc) (kd := kd) (ox := ox) (oy := oy) (oz := oz) (vl := vl) (nx := nx) (kp := kp) (tm := tm) hd (k := other) (by omega)
      have E1 := f1 hl' kl
      have E2 := f2 hcd kc'
      have E3 := f3 ho ko
      subst e9 e10 e11
      refine br_f (nI_pos (by omega)) (V2 _ lv wt hg us (V3 _ lv wt hg us (br_t (by rw [E1, E2, E3, ev]) (br_f (nI_pos (by omega)) ?_))))
      rw [E1]
      by_cases q : vl last = x14
      · have nb : ¬ sg_b hv (c + 1) = true := fun z => hch.mp z q
        exact sg_had hd (by omega) (fun _ _ z => absurd z nb) (fun _ => br_t q (br_t rfl (nm_r (nI_1 k) hJ)))
      · exact sg_had hd (by omega) (fun _ _ _ => br_f q (br_t rfl (nm_r (nI_1 k) hJ))) (fun z => absurd ⟨hc1, kc1, hch.mpr q⟩ z)
  | succ r ih =>
    intro v hv'
    obtain ⟨fu, hfu⟩ := ih (v + 1) (by omega)
    refine ⟨fu + 1, ?_⟩
    rw [wL_law_441]
    have hle := sg_ct_le hv (show v + 1 ≤ 24 by omega)
    cases hbv : sg_b hv v
    · rw [sg_ct_0 hbv] at hfu
      exact pk_le 24 v (fun q => absurd q (by omega)) (fun _ => sg_had hd (by omega) (fun _ _ z => by rw [hbv] at z; exact absurd z (by decide)) (fun _ => br_t rfl (nm_r (nI_1 v) hfu)))
    · rw [sg_ct_1 hbv] at hfu hle
      have g := hhv v hbv
      refine pk_le 24 v (fun q => absurd q (by omega)) (fun _ => sg_had hd (by omega) (fun _ _ _ => br_f (by decide) (nm_r ?_ (nm_r (nI_1 v) hfu))) (fun z => absurd ⟨g.1, g.2, hbv⟩ z))
      rw [show sg_ct hv 24 - sg_ct hv v = (sg_ct hv 24 - (sg_ct hv v + 1)) + 1 by omega]
      exact pk_m1 _
end
end
section
/-! the law's loops -/
section
variable {c : Nat} {ar hv ch kt ov tc lv wt : Int32} {kd ox oy oz hg us vl nx kp tm : Nat → Int32}
variable {n m d i last k : Nat} {lv' wt' : Int32} {hg' us' : Nat → Int32} {L : Nat} {xs : Nat → Int32} {x5 x6 x7 x9 x10 x11 : Int32} {kc ks : Nat} {post : Int32 → Prop}
abbrev sg_SF (R : Type) : Type := Int32 → Int32 → Int32 → Int32 → Int32 → Int32 → Int32 → Int32 → Int32 → (Nat → Int32) → (Nat → Int32) → (Nat → Int32) → (Nat → Int32) → (Nat → Int32) → (Nat → Int32) → (Nat → Int32) → (Nat → Int32) → (Nat → Int32) → (Nat → Int32) → R
variable {J31 : Int32 → Int32 → sg_SF (sg_SF Prop)}
def sg_I (c : Nat) (ar : Int32) (kd ox oy oz vl hg us hg' us' : Nat → Int32) : Prop := sg_G c kd ox oy oz ∧ sg_K c kd ox oy oz vl ∧ (ar ≠ 0 → sg_ar c kd ox oy oz hg us) ∧ (ar ≠ 0 → sg_ar c kd ox oy oz hg' us')
def sg_J (J : Int32 → Int32 → sg_SF (sg_SF Prop)) (i : Nat) : Prop := ∀ {c : Nat} {ar hv ch kt ov tc lv wt : Int32} {kd ox oy oz hg us vl nx kp tm : Nat → Int32} {lv' wt' : Int32} {hg' us' : Nat → Int32}, sg_I c ar kd ox oy oz vl hg us hg' us' → J (nI c) (nI i) (nI c) ar hv ch kt ov tc lv wt kd ox oy oz hg us vl nx kp tm (nI c) ar hv ch kt ov tc lv' wt' kd ox oy oz hg' us' vl nx kp tm
theorem sg_591a (h10 : x10 < 0) (hJ : sg_J J31 (i + 3)) (hI : sg_I c ar kd ox oy oz vl hg us hg' us') : wL_law_591 post L xs J31 (nI c) (nI i) x10 kc ks (nI c) ar hv ch kt ov tc lv wt kd ox oy oz hg us vl nx kp tm (nI c) ar hv ch kt ov tc lv' wt' kd ox oy oz hg' us' vl nx kp tm := by
  unfold wL_law_591
  exact br_t h10 (nm_r (nI_add i 3) (hJ hI))
theorem sg_591b (hc : c < 24) (hJ : sg_J J31 (i + 3)) (hI : sg_I (c + 1) ar kd ox oy oz vl hg us hg' us') : wL_law_591 post L xs J31 (nI c) (nI i) (nI c) kc ks (nI (c + 1)) ar hv ch kt ov tc lv wt kd ox oy oz hg us vl nx kp tm (nI (c + 1)) ar hv ch kt ov tc lv' wt' kd ox oy oz hg' us' vl nx kp tm := by
  obtain ⟨ox1, G1, K1, R⟩ := sg_retract (ar := ar) (hv := hv) (ch := ch) (kt := kt) (ov := ov) (tc := tc) (nx := nx) (kp := kp) (tm := tm) hI.1 hI.2.1
  unfold wL_law_591
  exact br_f (nI_pos (by omega)) (R _ lv wt hg us (br_t rfl (R _ lv' wt' hg' us' (br_t rfl (nm_r (nI_add i 3) (hJ ⟨G1, K1, fun z => absurd rfl z, fun z => absurd rfl z⟩))))))
theorem sg_541a (h10 : x10 < 0) (h11 : x11 < 0) (hJ : sg_J J31 (i + 3)) (hI : sg_I c ar kd ox oy oz vl hg us hg' us') : ∀ (r v : Nat), v + r = c → ∃ fu, wL_law_541 post L xs J31 (nI c) (nI i) x10 x11 kc ks (nI c) ar hv ch kt ov tc lv wt kd ox oy oz hg us vl nx kp tm (nI c) ar hv ch kt ov tc lv' wt' kd ox oy oz hg' us' vl nx kp tm fu (nI v) := by
  have hc := hI.1.1
  intro r
  induction r with
  | zero =>
    intro v hv'
    refine ⟨0 + 1, ?_⟩
    rw [wL_law_541]
    exact pk_le c v (fun _ => br_t h11 (sg_591a h10 hJ hI)) (fun q => absurd q (by omega))
  | succ r ih =>
    intro v hv'
    obtain ⟨fu, hfu⟩ := ih (v + 1) (by omega)
    refine ⟨fu + 1, ?_⟩
    rw [wL_law_541]
    exact pk_le c v (fun q => absurd q (by omega)) (fun q => sg_leads hI.1 q (br_t rfl (nm_r (nI_1 v) hfu)))
theorem sg_541b (hJ : sg_J J31 (i + 3)) (hI : sg_I (c + 2) ar kd ox oy oz vl hg us hg' us') : ∀ (r v : Nat), v + r = c → ∃ fu, wL_law_541 post L xs J31 (nI c) (nI i) (nI c) (nI (c + 1)) kc ks (nI (c + 2)) ar hv ch kt ov tc lv wt kd ox oy oz hg us vl nx kp tm (nI (c + 2)) ar hv ch kt ov tc lv' wt' kd ox oy oz hg' us' vl nx kp tm fu (nI v) := by
  have hc := hI.1.1
  intro r
  induction r with
  | zero =>
    intro v hv'
    refine ⟨0 + 1, ?_⟩
    rw [wL_law_541]
    obtain ⟨ox1, G1, K1, R⟩ := sg_retract (c := c + 1) (ar := ar) (hv := hv) (ch := ch) (kt := kt) (ov := ov) (tc := tc) (nx := nx) (kp := kp) (tm := tm) hI.1 hI.2.1
    exact pk_le c v (fun _ => br_f (nI_pos (by omega)) (R _ lv wt hg us (br_t rfl (R _ lv' wt' hg' us' (br_t rfl (sg_591b (by omega) hJ ⟨G1, K1, fun z => absurd rfl z, fun z => absurd rfl z⟩)))))) (fun q => absurd q (by omega))
  | succ r ih =>
    intro v hv'
    obtain ⟨fu, hfu⟩ := ih (v + 1) (by omega)
    refine ⟨fu + 1, ?_⟩
    rw [wL_law_541]
    exact pk_le c v (fun q => absurd q (by omega)) (fun q => sg_leads hI.1 (by omega) (br_t rfl (nm_r (nI_1 v) hfu)))
/-- what the law has added -/
def sg_add (c d last : Nat) (kd ox oy : Nat → Int32) (x9 x10 x11 : Int32) : Prop :=
  (x10 < 0 ∧ x11 < 0 ∧ d = c) ∨ ∃ other, x9 = nI other ∧ other < c ∧ sg_ck (kd other) ∧ last < c ∧ sg_ck (kd last) ∧ x10 = nI c ∧ x11 = nI (c + 1) ∧ d = c + 2 ∧ kd c = 6 ∧ ox c = nI last ∧ oy c = nI other ∧ kd (c + 1) = 9 ∧ ox (c + 1) = nI last
theorem sg_366 {s : Nat} (hs : s < 100) (hl : last < 32) (ha : sg_add c d last kd ox oy x9 x10 x11) (hI : sg_I d ar kd ox oy oz vl hg us hg' us') :
    ∃ (ar1 hv1 ch1 kt1 ov1 tc1 wt1 wt1' : Int32) (hg1 us1 vl1 nx1 kp1 tm1 hg1' us1' : Nat → Int32), sg_I d ar1 kd ox oy oz vl1 hg1 us1 hg1' us1' ∧
      ∀ J338 : Int32 → sg_SF (sg_SF Prop), J338 (nI (k + 1)) (nI d) ar1 hv1 ch1 kt1 ov1 tc1 lv wt1 kd ox oy oz hg1 us1 vl1 nx1 kp1 tm1 (nI d) ar1 hv1 ch1 kt1 ov1 tc1 lv' wt1' kd ox oy oz hg1' us1' vl1 nx1 kp1 tm1 →
        wL_law_366 post L xs J31 J338 (nI c) (nI i) x5 x6 (nI last) x9 x10 x11 (nI k) (nI s) kc ks (nI d) ar hv ch kt ov tc lv wt kd ox oy oz hg us vl nx kp tm (nI d) ar hv ch kt ov tc lv' wt' kd ox oy oz hg' us' vl nx kp tm := by
  obtain ⟨hG, hK, har, har'⟩ := hI
  have hd := hG.1
  obtain ⟨rf, ktf, kpf, F⟩ := sg_fire (ar := ar) (hv := hv) (ch := ch) (kt := kt) (ov := ov) (tc := tc) (kd := kd) (ox := ox) (oy := oy) (oz := oz) (vl := vl) (nx := nx) (kp := kp) (tm := tm) hd hs ((x5 >>> ((4 * nI k) &&& 31)) - (x5 >>> ((4 * nI k) &&& 31)) / 30 * 30)
  obtain ⟨rv, fv, V⟩ := sg_value (ar := ar) (hv := hv) (ch := ch) (kt := ktf) (ov := ov) (tc := tc) (kd := kd) (ox := ox) (oy := oy) (oz := oz) (vl := vl) (nx := nx) (kp := kpf) (tm := tm) hd (k := last) hl
  obtain ⟨hv1, ch1, kt1, ov1, vl1, nx1, kp1, tm1, K1, hb1, hc1, C⟩ := sg_commit (ar := ar) (hv := hv) (ch := ch) (kt := ktf) (ov := ov) (tc := tc) (nx := nx) (kp := kpf) (tm := tm) hG hK
  obtain ⟨wt1, hg1, us1, A1, C1⟩ := C lv wt hg us har
  obtain ⟨wt2, hg2, us2, A2, C2⟩ := C lv' wt' hg' us' har'
  refine ⟨if ar = 0 then 1 else ar, hv1, ch1, kt1, ov1, tc + 1, wt1, wt2, hg1, us1, vl1, nx1, kp1, tm1, hg2, us2, ⟨hG, K1, fun _ => A1, fun _ => A2⟩, fun J338 hJ3 => ?_⟩
  unfold wL_law_366
  refine ⟨by decide, F _ lv wt hg us ⟨by decide, F _ lv' wt' hg' us' (br_t rfl (V _ lv wt hg us (C1 _ (C2 _ (br_t rfl (sg_same hd (br_f (by decide) ?_)))))))⟩⟩
  have hfin := sg_441 (post := post) (J31 := J31) (J338 := J338) (L := L) (xs := xs) (x4 := nI i) (x5 := x5) (x6 := x6) (x9 := x9) (x10 := x10) (x11 := x11) (x14 := rv) (kc := kc) (ks := ks) (c := c) (k := k) hd hb1 hl ?_ hJ3 24 0 (by omega)
  · have e0 : sg_ct hv1 24 - sg_ct hv1 0 = sg_ct hv1 d := by
      rw [sg_ct_k (x := hv1) hd (fun j hj => sg_ff (fun z => absurd (hb1 j z).1 (by omega)))]
      rfl
    rw [e0] at hfin
    exact hfin
  · rcases ha with h | ⟨other, e9, ho, ko, hl', kl, e10, e11, ed, k6, eox, eoy, k9, eox2⟩
    · exact Or.inl h.1
    · subst ed
      refine Or.inr ⟨other, e9, by omega, ko, by omega, kl, e10, by omega, Or.inr (Or.inl k6), ?_, e11, by omega, by rw [k9]; decide, ?_⟩
      · have q := K1 c (by omega) (Or.inr (Or.inl k6)) (by rw [k6]; decide)
        rw [sg_cb, if_neg (by rw [k6]; decide), if_pos k6, eox, eoy, nI_clamp (by omega), nI_clamp (by omega)] at q
        exact q
      · have q := hc1 (c + 1) (by omega) k9
        rw [eox2, nI_clamp (by omega)] at q
        rw [fv (by omega) kl]
        exact q
theorem sg_338 (hl : last < 32) (ha : sg_add c d last kd ox oy x9 x10 x11) (hJ : sg_J J31 (i + 3)) : ∀ (r k : Nat), k + r = 3 → ∀ (ar hv ch kt ov tc lv wt : Int32) (hg us vl nx kp tm : Nat → Int32) (lv' wt' : Int32) (hg' us' : Nat → Int32), sg_I d ar kd ox oy oz vl hg us hg' us' →
    ∃ fu, wL_law_338 post L xs J31 (nI c) (nI i) x5 x6 (nI last) x9 x10 x11 kc ks fu (nI k) (nI d) ar hv ch kt ov tc lv wt kd ox oy oz hg us vl nx kp tm (nI d) ar hv ch kt ov tc lv' wt' kd ox oy oz hg' us' vl nx kp tm := by
  intro r
  induction r with
  | zero =>
    intro k hk ar hv ch kt ov tc lv wt hg us vl nx kp tm lv' wt' hg' us' hI
    refine ⟨0 + 1, ?_⟩
    rw [wL_law_338]
    refine pk_le 3 k (fun _ => ?_) (fun q => absurd q (by omega))
    rcases ha with ⟨h10, h11, ed⟩ | ⟨other, e9, ho, ko, hl', kl, e10, e11, ed, k6, eox, eoy, k9, eox2⟩
    · subst ed
      exact sg_541a h10 h11 hJ hI d 0 (by omega)
    · subst ed e10 e11
      exact sg_541b hJ hI c 0 (by omega)
  | succ r ih =>
    intro k hk ar hv ch kt ov tc lv wt hg us vl nx kp tm lv' wt' hg' us' hI
    have hd := hI.1.1
    have hcd : c ≤ d := by
      rcases ha with ⟨h10, h11, ed⟩ | ⟨other, e9, ho, ko, hl', kl, e10, e11, ed, _⟩
      · omega
      · omega
    by_cases h0 : c = 0
    · obtain ⟨ar1, hv1, ch1, kt1, ov1, tc1, wt1, wt2, hg1, us1, vl1, nx1, kp1, tm1, hg2, us2, I1, W⟩ := sg_366 (post := post) (J31 := J31) (L := L) (xs := xs) (x5 := x5) (x6 := x6) (kc := kc) (ks := ks) (i := i) (k := k) (hv := hv) (ch := ch) (kt := kt) (ov := ov) (tc := tc) (lv := lv) (wt := wt) (nx := nx) (kp := kp) (tm := tm) (lv' := lv') (wt' := wt') (s := 0) (by omega) hl ha hI
      obtain ⟨fu, hfu⟩ := ih (k + 1) (by omega) ar1 hv1 ch1 kt1 ov1 tc1 lv wt1 hg1 us1 vl1 nx1 kp1 tm1 lv' wt2 hg2 us2 I1
      refine ⟨fu + 1, ?_⟩
      rw [wL_law_338]
      exact pk_le 3 k (fun q => absurd q (by omega)) (fun _ => br_t (by rw [h0]; rfl) (W _ hfu))
    · have hp : 0 < c := by omega
      have hz : ¬ nI c = 0 := nI_ne0 hp (by omega)
      obtain ⟨s, ls, es⟩ := sg_rem (n := c) (x6 >>> ((8 * nI k) &&& 31)) hp (by omega)
      obtain ⟨ar1, hv1, ch1, kt1, ov1, tc1, wt1, wt2, hg1, us1, vl1, nx1, kp1, tm1, hg2, us2, I1, W⟩ := sg_366 (post := post) (J31 := J31) (L := L) (xs := xs) (x5 := x5) (x6 := x6) (kc := kc) (ks := ks) (i := i) (k := k) (hv := hv) (ch := ch) (kt := kt) (ov := ov) (tc := tc) (lv := lv) (wt := wt) (nx := nx) (kp := kp) (tm := tm) (lv' := lv') (wt' := wt') (s := s) (by omega) hl ha hI
      obtain ⟨fu, hfu⟩ := ih (k + 1) (by omega) ar1 hv1 ch1 kt1 ov1 tc1 lv wt1 hg1 us1 vl1 nx1 kp1 tm1 lv' wt2 hg2 us2 I1
      refine ⟨fu + 1, ?_⟩
      rw [wL_law_338]
      dsimp only
      rw [es]
      exact pk_le 3 k (fun q => absurd q (by omega)) (fun _ => br_f hz ⟨hz, W _ hfu⟩)
theorem sg_end (hl : last < 32) (h10 : x10 < 0) (h11 : x11 < 0) (hJ : sg_J J31 (i + 3)) (hI : sg_I c ar kd ox oy oz vl hg us hg' us') : ∃ fu, wL_law_338 post L xs J31 (nI c) (nI i) x5 x6 (nI last) x9 x10 x11 kc ks fu 0 (nI c) ar hv ch kt ov tc lv wt kd ox oy oz hg us vl nx kp tm (nI c) ar hv ch kt ov tc lv' wt' kd ox oy oz hg' us' vl nx kp tm :=
  sg_338 hl (Or.inl ⟨h10, h11, rfl⟩) hJ 3 0 (by omega) ar hv ch kt ov tc lv wt hg us vl nx kp tm lv' wt' hg' us' hI
theorem sg_237 {e : Nat} (he : e + 1 ≤ 24) (hJ : sg_J J31 (i + 3)) (hI : sg_I (e + 1) ar kd ox oy oz vl hg us hg' us') : wL_law_237 post L xs J31 (nI (e + 1)) (nI i) x5 x6 (nI e) x9 kc ks (nI (e + 1)) ar hv ch kt ov tc lv wt kd ox oy oz hg us vl nx kp tm (nI (e + 1)) ar hv ch kt ov tc lv' wt' kd ox oy oz hg' us' vl nx kp tm := by
  have E : wL_law_273 post L xs J31 (nI (e + 1)) (nI i) x5 x6 (nI e) x9 kc ks (nI (e + 1)) ar hv ch kt ov tc lv wt kd ox oy oz hg us vl nx kp tm (nI (e + 1)) ar hv ch kt ov tc lv' wt' kd ox oy oz hg' us' vl nx kp tm := by
    unfold wL_law_273 wL_law_274 wL_law_295
    exact br_t (by decide) (br_t (by decide) (sg_end (by omega) (by decide) (by decide) hJ hI))
  unfold wL_law_237
  refine br_f (nI_nle (by omega) (by omega)) (pk_le 23 (e + 1) (fun _ => E) (fun h23 => sg_sort he (by omega) (br_c (fun h2 => ?_) (fun _ => E))))
  obtain ⟨hG, hK, har, har'⟩ := hI
  by_cases hf : sg_fit (e + 1) kd 6 (nI e) x9 0
  · obtain ⟨vl1, K1, W1⟩ := sg_node (k := 6) (x := nI e) (y := x9) (z := 0) (ar := ar) (hv := hv) (ch := ch) (kt := kt) (ov := ov) (tc := tc) (nx := nx) (kp := kp) (tm := tm) hG hK (by omega) hf (by decide) (by decide)
    have G1 := sg_nodeG hG (by omega) hf
    obtain ⟨cl1, cl2⟩ := hf.2.2.2.2.1 rfl
    have kk : ∀ j, j < e + 1 → upd kd (e + 1) 6 j = kd j := fun j hj => pk_un (by omega)
    have cl1' := sg_cl_mono (b' := e + 1 + 1) (by omega) kk cl1
    have hf9 : sg_fit (e + 1 + 1) (upd kd (e + 1) 6) 9 (nI e) 0 0 := ⟨fun h => absurd h (by decide), fun h => absurd h (by decide), fun h => absurd h (by decide), fun h => absurd h (by decide), fun h => absurd h (by decide), fun h => absurd h (by decide), fun h => absurd h (by decide), fun _ => cl1', fun h => absurd h (by decide), fun _ _ _ _ _ h => absurd rfl h⟩
    obtain ⟨vl2, K2, W2⟩ := sg_node (k := 9) (x := nI e) (y := 0) (z := 0) (ar := 0) (hv := sg_fg hv (e + 1)) (ch := sg_fg ch (e + 1)) (kt := sg_fg kt (e + 1)) (ov := sg_fg ov (e + 1)) (tc := tc) (nx := nx) (kp := upd kp (e + 1) 0) (tm := upd tm (e + 1) 0) G1 K1 (by omega) hf9 (by decide) (by decide)
    have G2 := sg_nodeG G1 (by omega) hf9
    refine W1 _ lv wt hg us ?_
    dsimp only
    unfold wL_law_274
    refine br_f (nI_pos (by omega)) (W2 _ lv wt hg us ?_)
    dsimp only
    unfold wL_law_295
    refine br_f (nI_pos (by omega)) (W1 _ lv' wt' hg' us' (br_t rfl (W2 _ lv' wt' hg' us' (br_t rfl ?_))))
    obtain ⟨je, hje, eje, kje⟩ := cl1
    obtain ⟨jo, hjo, ejo, kjo⟩ := cl2
    have := sg_nj (by omega) (by omega) eje
    subst this
    refine sg_338 (d := e + 1 + 2) (by omega) (Or.inr ⟨jo, ejo, hjo, ?_, hje, ?_, rfl, rfl, rfl, ?_, ?_, ?_, ?_, ?_⟩) hJ 3 0 (by omega) _ _ _ _ _ _ _ _ _ _ _ _ _ _ _ _ _ _ ⟨G2, K2, fun z => absurd rfl z, fun z => absurd rfl z⟩
    · rw [pk_un (by omega), pk_un (by omega)]
      exact kjo
    · rw [pk_un (by omega), pk_un (by omega)]
      exact kje
    · rw [pk_un (by omega), pk_us]
    · rw [pk_un (by omega), pk_us]
    · rw [pk_un (by omega), pk_us]
      exact ejo
    · rw [pk_us]
    · rw [pk_us]
  · obtain ⟨r, hr, W⟩ := sg_nodeF (k := 6) (x := nI e) (y := x9) (z := 0) (ar := ar) (hv := hv) (ch := ch) (kt := kt) (ov := ov) (tc := tc) (vl := vl) (nx := nx) (kp := kp) (tm := tm) hG (fun q => hf q.2.2.2)
    refine W _ lv wt hg us ?_
    dsimp only
    unfold wL_law_274 wL_law_295
    exact br_t hr (br_t hr (sg_end (by omega) hr (by decide) hJ ⟨hG, hK, har, har'⟩))
theorem sg_192 (hJ : sg_J J31 (i + 3)) (hI : sg_I c ar kd ox oy oz vl hg us hg' us') : wL_law_192 post L xs J31 (nI c) (nI i) x5 x6 kc ks (nI c) ar hv ch kt ov tc lv wt kd ox oy oz hg us vl nx kp tm (nI c) ar hv ch kt ov tc lv' wt' kd ox oy oz hg' us' vl nx kp tm := by
  have hc := hI.1.1
  by_cases h0 : c = 0
  · subst h0
    unfold wL_law_192 wL_law_203 wL_law_236 wL_law_237 wL_law_273 wL_law_274 wL_law_295
    exact br_t (by decide) (br_t (by decide) (br_t (by decide) (br_t (by decide) (br_t (by decide) (sg_end (last := 0) (by omega) (by decide) (by decide) hJ hI)))))
  · obtain ⟨e, rfl⟩ : ∃ e, c = e + 1 := ⟨c - 1, by omega⟩
    have hz : ¬ nI (e + 1) = 0 := nI_ne0 (by omega) (by omega)
    obtain ⟨f, lf, ef⟩ := sg_rem (n := e + 1) x5 (by omega) hc
    obtain ⟨a, P⟩ := sg_pick (ar := ar) (hv := hv) (ch := ch) (kt := kt) (ov := ov) (tc := tc) (kd := kd) (ox := ox) (oy := oy) (oz := oz) (vl := vl) (nx := nx) (kp := kp) (tm := tm) hc (by omega) f lf 2
    unfold wL_law_192
    refine br_f (nI_nle (by omega) (by omega)) ?_
    rw [nI_pred]
    unfold wL_law_203
    rw [ef]
    refine br_f (nI_nle (by omega) (by omega)) (sg_sort hc (by omega) (br_c (fun _ => ⟨hz, P _ lv wt hg us (sg_237 hc hJ hI)⟩) (fun _ => ?_)))
    unfold wL_law_236
    exact sg_237 hc hJ hI
theorem sg_147 (hi : i < L) (hL : L ≤ 260) (hJ : sg_J J31 (i + 3)) (hI : sg_I c ar kd ox oy oz vl hg us hg' us') : wL_law_147 post L xs J31 (nI c) (nI i) x5 x6 kc ks (nI c) ar hv ch kt ov tc lv wt kd ox oy oz hg us vl nx kp tm (nI c) ar hv ch kt ov tc lv' wt' kd ox oy oz hg' us' vl nx kp tm := by
  have hc := hI.1.1
  obtain ⟨k, x, y, z, M⟩ := sg_made (ar := ar) (hv := hv) (ch := ch) (kt := kt) (ov := ov) (tc := tc) (kd := kd) (ox := ox) (oy := oy) (oz := oz) (vl := vl) (nx := nx) (kp := kp) (tm := tm) hc (xs i) x5 x6
  obtain ⟨hG, hK, har, har'⟩ := hI
  unfold wL_law_147
  rw [nI_clamp (show i < 2 ^ 31 by omega)]
  by_cases h : c < 24 ∧ ¬ k < 0 ∧ ¬ 14 < k ∧ sg_fit c kd k x y z
  · obtain ⟨h1, h2, h3, h4⟩ := h
    obtain ⟨vl1, K1, W⟩ := sg_node (ar := ar) (hv := hv) (ch := ch) (kt := kt) (ov := ov) (tc := tc) (nx := nx) (kp := kp) (tm := tm) hG hK h1 h4 h2 h3
    refine ⟨pk_in i L hi, M _ lv wt hg us (W _ lv wt hg us ⟨pk_in i L hi, M _ lv' wt' hg' us' (W _ lv' wt' hg' us' (br_t rfl (br_f (nI_pos (by omega)) (nm_r (nI_1 c) ?_))))⟩)⟩
    exact sg_192 hJ ⟨sg_nodeG hG h1 h4, K1, fun z => absurd rfl z, fun z => absurd rfl z⟩
  · obtain ⟨r, hr, W⟩ := sg_nodeF (ar := ar) (hv := hv) (ch := ch) (kt := kt) (ov := ov) (tc := tc) (vl := vl) (nx := nx) (kp := kp) (tm := tm) hG h
    exact ⟨pk_in i L hi, M _ lv wt hg us (W _ lv wt hg us ⟨pk_in i L hi, M _ lv' wt' hg' us' (W _ lv' wt' hg' us' (br_t rfl (br_t hr (sg_192 hJ ⟨hG, hK, har, har'⟩))))⟩)⟩
theorem sg_92 (hi : i < L) (hL : L ≤ 260) (hJ : sg_J J31 (i + 3)) (hI : sg_I c ar kd ox oy oz vl hg us hg' us') : wL_law_92 post L xs J31 (nI c) (nI i) x5 x6 x7 kc ks (nI c) ar hv ch kt ov tc lv wt kd ox oy oz hg us vl nx kp tm (nI c) ar hv ch kt ov tc lv' wt' kd ox oy oz hg' us' vl nx kp tm := by
  have hc := hI.1.1
  unfold wL_law_92
  refine br_c (fun _ => pk_le c 0 (fun _ => sg_147 hi hL hJ hI) (fun hp => ?_)) (fun _ => sg_147 hi hL hJ hI)
  have hz : ¬ nI c = 0 := nI_ne0 hp (by omega)
  obtain ⟨f1, l1, e1⟩ := sg_rem (n := c) x5 hp hc
  obtain ⟨f2, l2, e2⟩ := sg_rem (n := c) x6 hp hc
  obtain ⟨hG, hK, har, har'⟩ := hI
  obtain ⟨r, ar1, ox1, G1, K1, A1, T⟩ := sg_tie (ar := ar) (hv := hv) (ch := ch) (kt := kt) (ov := ov) (tc := tc) (nx := nx) (kp := kp) (tm := tm) hG hK l1 l2
  rw [e1, e2]
  refine ⟨hz, hz, T _ lv wt hg us ⟨hz, hz, T _ lv' wt' hg' us' (br_t rfl (sg_192 hJ ⟨G1, K1, fun q => ?_, fun q => ?_⟩))⟩⟩
  · obtain ⟨a1, a2⟩ := A1 q
    rw [a2]
    exact har (a1 ▸ q)
  · obtain ⟨a1, a2⟩ := A1 q
    rw [a2]
    exact har' (a1 ▸ q)
theorem sg_cond (L i : Nat) (hL : L ≤ 260) (hi : i ≤ 1000) : (Int32.ofNat L - 3 < nI i) ↔ L < i + 3 := by
  have e : (Int32.ofNat L - 3).toInt = (L : Int) - 3 := pk_sub_toInt (a := L) (b := 3) (by omega) (by omega)
  rw [Int32.lt_iff_toInt_lt, e, nI_toInt (by omega)]
  omega
theorem sg_law31 (hL : L ≤ 260) (hp : post 1) : ∀ (f i : Nat), i ≤ L + 3 → L + 4 ≤ i + f → sg_J (wL_law_31 post L xs kc ks f) i := by
  intro f
  induction f with
  | zero =>
    intro i h1 h2
    exact absurd h2 (by omega)
  | succ f ih =>
    intro i h1 h2
    intro c ar hv ch kt ov tc lv wt kd ox oy oz hg us vl nx kp tm lv' wt' hg' us' hI
    have hc24 := hI.1.1
    rw [wL_law_31]
    by_cases hcond : L < i + 3
    · exact br_t ((sg_cond L i hL (by omega)).mpr hcond) hp
    · have hJ : sg_J (wL_law_31 post L xs kc ks f) (i + 3) := ih (i + 3) (by omega) (by omega)
      refine br_f (fun z => hcond ((sg_cond L i hL (by omega)).mp z)) ⟨pk_in (i + 1) L (by omega) (nI_1 i), nm_e ⟨pk_in (i + 2) L (by omega) (nI_add i 2), nm_e ⟨pk_in i L (by omega), nm_e (br_c (fun _ => pk_le c 0 (fun _ => sg_92 (by omega) hL hJ hI) (fun hpos => ?_)) (fun _ => sg_92 (by omega) hL hJ hI))⟩⟩⟩
      obtain ⟨e, rfl⟩ : ∃ e, c = e + 1 := ⟨c - 1, by omega⟩
      obtain ⟨ox1, G1, K1, R⟩ := sg_retract (ar := ar) (hv := hv) (ch := ch) (kt := kt) (ov := ov) (tc := tc) (nx := nx) (kp := kp) (tm := tm) hI.1 hI.2.1
      exact R _ lv wt hg us (R _ lv' wt' hg' us' (br_t rfl (sg_192 hJ ⟨G1, K1, fun z => absurd rfl z, fun z => absurd rfl z⟩)))
end
end
section
theorem sg_I0 (vl hg us hg' us' : Nat → Int32) : sg_I 0 0 (fun _ => 0) (fun _ => 0) (fun _ => 0) (fun _ => 0) vl hg us hg' us' :=
  ⟨⟨by omega, fun n hn => absurd hn (by omega), fun n hn => absurd hn (by omega), fun _ => 0, fun n hn => absurd hn (by omega)⟩, fun n hn => absurd hn (by omega), fun z => absurd rfl z, fun z => absurd rfl z⟩
theorem i_vc (xs : Nat → Int32) (L : Nat) (hL : L ≤ 260) : wpL_law (fun r => r = 1) L xs := by
  unfold wpL_law
  refine ⟨10, 240, by omega, by omega, ?_⟩
  unfold wpX_init
  dsimp only
  refine ⟨by omega, by omega, by omega, by omega, by omega, by omega, by omega, by omega, by omega, by omega, by omega, by omega, by omega, by omega, by omega, by omega, by omega, by omega, by omega, by omega, by omega, by omega, 10, 240, by omega, by omega, ?_⟩
  refine ⟨by omega, by omega, by omega, by omega, by omega, by omega, by omega, by omega, by omega, by omega, by omega, by omega, by omega, by omega, by omega, by omega, by omega, by omega, by omega, by omega, ?_⟩
  unfold wpX_level
  dsimp only
  exact br_f (by decide) (br_t (by decide) (br_f (by decide) ⟨L + 4, sg_law31 (post := fun r => r = 1) hL rfl (L + 4) 0 (by omega) (by omega) (sg_I0 _ _ _ _ _)⟩))
end
