section
/-! pure: bits, majorities, the log and what it carries out -/
theorem el_m15 (n : Nat) : 15 * nI n = nI (15 * n) := pk_mul 15 n
theorem el_m16 (n : Nat) : 16 * nI n = nI (16 * n) := pk_mul 16 n
theorem el_m5 (n : Nat) : 5 * nI n = nI (5 * n) := pk_mul 5 n
theorem el_m7 (n : Nat) : 7 * nI n = nI (7 * n) := pk_mul 7 n
theorem el_a2 (n : Nat) : nI n + 2 = nI (n + 2) := nI_add n 2
theorem el_a3 (n : Nat) : nI n + 3 = nI (n + 3) := nI_add n 3
theorem el_a4 (n : Nat) : nI n + 4 = nI (n + 4) := nI_add n 4
theorem el_a5 (n : Nat) : nI n + 5 = nI (n + 5) := nI_add n 5
theorem el_a6 (n : Nat) : nI n + 6 = nI (n + 6) := nI_add n 6
theorem el_a7 (n : Nat) : nI n + 7 = nI (n + 7) := nI_add n 7
theorem el_a8 (n : Nat) : nI n + 8 = nI (n + 8) := nI_add n 8
theorem el_a10 (n : Nat) : nI n + 10 = nI (n + 10) := nI_add n 10
theorem el_a14 (n : Nat) : nI n + 14 = nI (n + 14) := nI_add n 14
theorem el_s1 {n : Nat} (h : 1 ≤ n) : nI n - 1 = nI (n - 1) := pk_sub h
theorem el_bt : ∀ m, m < 32 → ∀ n, n < 5 → ((nI m >>> (nI n &&& 31)) &&& 1) = (if m.testBit n then 1 else 0) := by decide +kernel
theorem el_orb : ∀ m, m < 32 → ∀ n, n < 5 → nI m ||| ((1 : Int32) <<< (nI n &&& 31)) = nI (m ||| 2 ^ n) := by decide +kernel
theorem el_clb : ∀ m, m < 32 → ∀ n, n < 5 → nI m &&& (((1 : Int32) <<< (nI n &&& 31)) ^^^ (-1)) = nI (m &&& (31 ^^^ 2 ^ n)) := by decide +kernel
theorem el_oneb : ∀ n, n < 5 → ((1 : Int32) <<< (nI n &&& 31)) = nI (2 ^ n) := by decide +kernel
theorem el_orl : ∀ m, m < 32 → ∀ n, n < 5 → m ||| 2 ^ n < 32 := by decide +kernel
theorem el_cll : ∀ m, m < 32 → ∀ n, n < 5 → m &&& (31 ^^^ 2 ^ n) < 32 := by decide +kernel
theorem el_ort : ∀ m, m < 32 → ∀ n, n < 5 → ∀ k, k < 5 → (m ||| 2 ^ n).testBit k = (m.testBit k || decide (k = n)) := by decide +kernel
theorem el_clt : ∀ m, m < 32 → ∀ n, n < 5 → ∀ k, k < 5 → (m &&& (31 ^^^ 2 ^ n)).testBit k = (m.testBit k && !decide (k = n)) := by decide +kernel
theorem el_or0 : ∀ m, m < 32 → ∀ n, n < 5 → m ||| 2 ^ n ≠ 0 := by decide +kernel
theorem el_cl0 : ∀ m, m < 32 → ∀ n, n < 5 → m ≠ 2 ^ n → m ≠ 0 → m &&& (31 ^^^ 2 ^ n) ≠ 0 := by decide +kernel
theorem el_andb : ∀ a, a < 32 → ∀ b, b < 32 → nI a &&& nI b = nI (a &&& b) := by decide +kernel
theorem el_andl : ∀ a, a < 32 → ∀ b, b < 32 → a &&& b < 32 := by decide +kernel
theorem el_ne0 : ∀ m, m < 32 → m ≠ 0 → m.testBit 0 = true ∨ m.testBit 1 = true ∨ m.testBit 2 = true ∨ m.testBit 3 = true ∨ m.testBit 4 = true := by decide +kernel
theorem el_ext32 : ∀ a, a < 32 → ∀ b, b < 32 → (a.testBit 0 = b.testBit 0 ∧ a.testBit 1 = b.testBit 1 ∧ a.testBit 2 = b.testBit 2 ∧ a.testBit 3 = b.testBit 3 ∧ a.testBit 4 = b.testBit 4) → a = b := by decide +kernel

/-- how many of the five -/
def el_cnt (s : Nat → Bool) : Nat := (s 0).toNat + (s 1).toNat + (s 2).toNat + (s 3).toNat + (s 4).toNat
/-- s holds more than half of the set m -/
def el_maj (s : Nat → Bool) (m : Nat) : Prop := el_cnt (fun k => m.testBit k) < 2 * el_cnt (fun k => s k && m.testBit k)
/-- a set as a number -/
def el_set (s : Nat → Bool) : Nat → Nat
  | 0 => 0
  | i + 1 => el_set s i + (if s i then 2 ^ i else 0)
theorem el_set_lt (s : Nat → Bool) (i : Nat) : el_set s i < 2 ^ i := by
  induction i with
  | zero => exact Nat.one_pos
  | succ i ih =>
    show el_set s i + (if s i then 2 ^ i else 0) < 2 ^ (i + 1)
    rw [Nat.pow_succ]
    split <;> omega
theorem el_set5 (s : Nat → Bool) : el_set s 5 < 32 := el_set_lt s 5
theorem el_dl_add : ∀ i, i < 5 → ∀ m, m < 2 ^ i → nI m ||| ((1 : Int32) <<< (nI i &&& 31)) = nI (m + 2 ^ i) := by decide +kernel
theorem el_set_tb : ∀ b0 b1 b2 b3 b4 : Bool, ∀ k, k < 5 → ((((if b0 then 1 else 0) + (if b1 then 2 else 0) + (if b2 then 4 else 0) + (if b3 then 8 else 0) + (if b4 then 16 else 0) : Nat)).testBit k) = (if k = 0 then b0 else if k = 1 then b1 else if k = 2 then b2 else if k = 3 then b3 else b4) := by decide +kernel
theorem el_lt5 {p : Nat → Prop} (h0 : p 0) (h1 : p 1) (h2 : p 2) (h3 : p 3) (h4 : p 4) : ∀ n, n < 5 → p n := by
  intro n hn
  match n, hn with
  | 0, _ => exact h0
  | 1, _ => exact h1
  | 2, _ => exact h2
  | 3, _ => exact h3
  | 4, _ => exact h4
theorem el_set_bit (s : Nat → Bool) (k : Nat) (hk : k < 5) : (el_set s 5).testBit k = s k := by
  have e : el_set s 5 = ((if s 0 then 1 else 0) + (if s 1 then 2 else 0) + (if s 2 then 4 else 0) + (if s 3 then 8 else 0) + (if s 4 then 16 else 0) : Nat) := by
    show 0 + (if s 0 then 2 ^ 0 else 0) + (if s 1 then 2 ^ 1 else 0) + (if s 2 then 2 ^ 2 else 0) + (if s 3 then 2 ^ 3 else 0) + (if s 4 then 2 ^ 4 else 0) = _
    rw [Nat.zero_add]
  rw [e, el_set_tb (s 0) (s 1) (s 2) (s 3) (s 4) k hk]
  match k, hk with
  | 0, _ => rfl
  | 1, _ => rfl
  | 2, _ => rfl
  | 3, _ => rfl
  | 4, _ => rfl
theorem el_set_or (s : Nat → Bool) {i : Nat} (hi : i < 5) (h : s i = true) : nI (el_set s i) ||| ((1 : Int32) <<< (nI i &&& 31)) = nI (el_set s (i + 1)) := by
  rw [el_dl_add i hi _ (el_set_lt s i)]
  show _ = nI (el_set s i + (if s i then 2 ^ i else 0))
  rw [h]; rfl
theorem el_set_no (s : Nat → Bool) {i : Nat} (h : s i = false) : nI (el_set s i) ||| 0 = nI (el_set s (i + 1)) := by
  show _ = nI (el_set s i + (if s i then 2 ^ i else 0))
  rw [h]
  show nI (el_set s i) ||| 0 = nI (el_set s i + 0)
  rw [Nat.add_zero, Int32.or_zero]
theorem el_cnt_and (a b : Nat) (s t : Nat → Bool) (h : ∀ k, k < 5 → (a &&& b).testBit k = (s k && t k)) : el_cnt (fun k => (a &&& b).testBit k) = el_cnt (fun k => s k && t k) := by
  unfold el_cnt
  dsimp only
  rw [h 0 (by omega), h 1 (by omega), h 2 (by omega), h 3 (by omega), h 4 (by omega)]
theorem el_maj_congr {s t : Nat → Bool} {m : Nat} (h : ∀ k, k < 5 → m.testBit k = true → s k = true → t k = true) (hs : el_maj s m) : el_maj t m := by
  unfold el_maj el_cnt at *
  dsimp only at *
  have H : ∀ k, k < 5 → (s k && m.testBit k).toNat ≤ (t k && m.testBit k).toNat := by
    intro k hk
    have := h k hk
    revert this
    cases s k <;> cases t k <;> cases m.testBit k <;> simp
  have h0 := H 0 (by omega)
  have h1 := H 1 (by omega)
  have h2 := H 2 (by omega)
  have h3 := H 3 (by omega)
  have h4 := H 4 (by omega)
  omega
/-- two majorities of sets that differ in one place at most meet -/
theorem el_meet {s t : Nat → Bool} {m m' j : Nat} (hj : ∀ k, k < 5 → k ≠ j → m.testBit k = m'.testBit k) (hs : el_maj s m) (ht : el_maj t m') : ∃ k, k < 5 ∧ s k = true ∧ m.testBit k = true ∧ t k = true ∧ m'.testBit k = true := by
  refine Classical.byContradiction fun hc => ?_
  have H : ∀ k, k < 5 → 2 * (s k && m.testBit k).toNat + 2 * (t k && m'.testBit k).toNat ≤ (m.testBit k).toNat + (m'.testBit k).toNat + (if k = j then 1 else 0) := by
    intro k hk
    have h1 : ¬ (s k = true ∧ m.testBit k = true ∧ t k = true ∧ m'.testBit k = true) := fun h => hc ⟨k, hk, h⟩
    have h2 := hj k hk
    revert h1 h2
    by_cases e : k = j
    · rw [if_pos e]
      cases s k <;> cases m.testBit k <;> cases t k <;> cases m'.testBit k <;> simp [e]
    · rw [if_neg e]
      cases s k <;> cases m.testBit k <;> cases t k <;> cases m'.testBit k <;> simp [e]
  have h0 := H 0 (by omega)
  have h1 := H 1 (by omega)
  have h2 := H 2 (by omega)
  have h3 := H 3 (by omega)
  have h4 := H 4 (by omega)
  unfold el_maj el_cnt at hs ht
  dsimp only at hs ht
  split at h0 <;> split at h1 <;> split at h2 <;> split at h3 <;> split at h4 <;> omega
theorem el_meet1 {s t : Nat → Bool} {m : Nat} (hs : el_maj s m) (ht : el_maj t m) : ∃ k, k < 5 ∧ s k = true ∧ m.testBit k = true ∧ t k = true := by
  obtain ⟨k, h1, h2, h3, h4, _⟩ := el_meet (j := 0) (fun k _ _ => rfl) hs ht
  exact ⟨k, h1, h2, h3, h4⟩

/-! the log -/
/-- the state after an entry -/
def el_stp (s e : Nat → Int32) : Nat → Int32 :=
  if e 1 = 4 then upd s 14 (s 14 ||| ((1 : Int32) <<< (e 3 &&& 31)))
  else if e 1 = 5 then upd s 14 (s 14 &&& (((1 : Int32) <<< (e 3 &&& 31)) ^^^ (-1)))
  else if e 1 = 3 then s
  else upd (upd (upd s (e 3).toNatClampNeg (if e 1 = 0 then e 5 else if e 1 = 1 then s (e 3).toNatClampNeg + e 5 else if s (e 3).toNatClampNeg = e 5 then e 6 else s (e 3).toNatClampNeg)) (6 + (e 2).toNatClampNeg) (e 4)) (10 + (e 2).toNatClampNeg) (s (e 3).toNatClampNeg)
def el_s0 : Nat → Int32 := fun k => if k = 14 then 31 else 0
/-- the state after the first entries of a log -/
def el_ap (G : Nat → Nat → Int32) : Nat → Nat → Int32
  | 0 => el_s0
  | i + 1 => el_stp (el_ap G i) (G (i + 1))
def el_gt (G : Nat → Nat → Int32) (i : Nat) : Nat := (G i 0).toNatClampNeg
def el_cf (G : Nat → Nat → Int32) (i : Nat) : Nat := (el_ap G i 14).toNatClampNeg
/-- a command that may stand behind a state -/
def el_Cmd (s e : Nat → Int32) : Prop := (e 1 = 0 ∨ e 1 = 1 ∨ e 1 = 2) ∧ ∃ se ke nu : Nat, se < 4 ∧ ke < 6 ∧ 1 ≤ nu ∧ nu ≤ 40 ∧ e 2 = nI se ∧ e 3 = nI ke ∧ e 4 = nI nu ∧ s (6 + se) < nI nu
/-- an entry that may stand behind a state -/
def el_Ent (s e : Nat → Int32) : Prop := el_Cmd s e ∨ e 1 = 3 ∨ (∃ nd : Nat, nd < 5 ∧ e 3 = nI nd ∧ (e 1 = 4 ∨ (e 1 = 5 ∧ s 14 ≠ nI (2 ^ nd))))
/-- a state: members, numbers -/
def el_Sta (s : Nat → Int32) : Prop := (∃ m : Nat, m < 32 ∧ m ≠ 0 ∧ s 14 = nI m) ∧ ∀ q, q < 4 → ∃ nu : Nat, nu ≤ 40 ∧ s (6 + q) = nI nu
theorem el_sta0 : el_Sta el_s0 := by
  refine ⟨⟨31, by omega, by omega, rfl⟩, fun q hq => ⟨0, by omega, ?_⟩⟩
  show (if 6 + q = 14 then (31 : Int32) else 0) = nI 0
  rw [if_neg (by omega)]; rfl
theorem el_stp_cmd {s e : Nat → Int32} {se ke : Nat} (hk : e 1 = 0 ∨ e 1 = 1 ∨ e 1 = 2) (hs : se < 4) (hke : ke < 6) (h2 : e 2 = nI se) (h3 : e 3 = nI ke) :
    el_stp s e = upd (upd (upd s ke (if e 1 = 0 then e 5 else if e 1 = 1 then s ke + e 5 else if s ke = e 5 then e 6 else s ke)) (6 + se) (e 4)) (10 + se) (s ke) := by
  unfold el_stp
  rw [h2, h3, nI_clamp (by omega), nI_clamp (by omega)]
  rw [if_neg (by rcases hk with z | z | z <;> rw [z] <;> decide), if_neg (by rcases hk with z | z | z <;> rw [z] <;> decide), if_neg (by rcases hk with z | z | z <;> rw [z] <;> decide)]
theorem el_stp_14 {s e : Nat → Int32} (h : el_Cmd s e) : el_stp s e 14 = s 14 := by
  obtain ⟨hk, se, ke, nu, h1, h2, h3, h4, h5, h6, h7, h8⟩ := h
  rw [el_stp_cmd hk h1 h2 h5 h6, pk_un (by omega), pk_un (by omega), pk_un (by omega)]
theorem el_stp_3 {s e : Nat → Int32} (h : e 1 = 3) : el_stp s e = s := by
  unfold el_stp
  rw [h]; rfl
theorem el_stp_4 {s e : Nat → Int32} (h : e 1 = 4) : el_stp s e = upd s 14 (s 14 ||| ((1 : Int32) <<< (e 3 &&& 31))) := by
  unfold el_stp
  rw [if_pos h]
theorem el_stp_5 {s e : Nat → Int32} (h : e 1 = 5) : el_stp s e = upd s 14 (s 14 &&& (((1 : Int32) <<< (e 3 &&& 31)) ^^^ (-1))) := by
  unfold el_stp
  rw [h]; rfl
theorem el_sta_stp {s e : Nat → Int32} (hs : el_Sta s) (he : el_Ent s e) : el_Sta (el_stp s e) := by
  obtain ⟨⟨m, hm, hm0, e14⟩, hn⟩ := hs
  rcases he with h | h | ⟨nd, hnd, h3, h | ⟨h, hx⟩⟩
  · refine ⟨⟨m, hm, hm0, by rw [el_stp_14 h, e14]⟩, ?_⟩
    obtain ⟨hk, se, ke, nu, h1, h2, _, h4, h5, h6, h7, h8⟩ := h
    intro q hq
    rw [el_stp_cmd hk h1 h2 h5 h6, pk_un (by omega)]
    by_cases e' : q = se
    · subst e'; rw [pk_us]; exact ⟨nu, h4, h7⟩
    · rw [pk_un (by omega), pk_un (by omega)]; exact hn q hq
  · rw [el_stp_3 h]; exact ⟨⟨m, hm, hm0, e14⟩, hn⟩
  · rw [el_stp_4 h]
    refine ⟨⟨m ||| 2 ^ nd, el_orl m hm nd hnd, el_or0 m hm nd hnd, by rw [pk_us, e14, h3, el_orb m hm nd hnd]⟩, fun q hq => ?_⟩
    rw [pk_un (by omega)]; exact hn q hq
  · rw [el_stp_5 h]
    refine ⟨⟨m &&& (31 ^^^ 2 ^ nd), el_cll m hm nd hnd, el_cl0 m hm nd hnd (fun z => hx (by rw [e14, z])) hm0, by rw [pk_us, e14, h3, el_clb m hm nd hnd]⟩, fun q hq => ?_⟩
    rw [pk_un (by omega)]; exact hn q hq
/-- the members after an entry: the same but for one -/
theorem el_stp_adj {s e : Nat → Int32} {m m' : Nat} (hm : m < 32) (h14 : s 14 = nI m) (hm' : m' < 32) (h14' : el_stp s e 14 = nI m') (he : el_Ent s e) : ∃ j, ∀ k, k < 5 → k ≠ j → m.testBit k = m'.testBit k := by
  have tri : ∀ y : Nat, y < 32 → nI y = nI m' → y = m' := fun y hy z => (nI_eq (by omega) (by omega)).mp z
  rcases he with h | h | ⟨nd, hnd, h3, h | ⟨h, hx⟩⟩
  · rw [el_stp_14 h, h14] at h14'
    rw [tri m hm h14']; exact ⟨0, fun _ _ _ => rfl⟩
  · rw [el_stp_3 h, h14] at h14'
    rw [tri m hm h14']; exact ⟨0, fun _ _ _ => rfl⟩
  · rw [el_stp_4 h, pk_us, h14, h3, el_orb m hm nd hnd] at h14'
    refine ⟨nd, fun k hk hne => ?_⟩
    rw [← tri _ (el_orl m hm nd hnd) h14', el_ort m hm nd hnd k hk, decide_eq_false hne, Bool.or_false]
  · rw [el_stp_5 h, pk_us, h14, h3, el_clb m hm nd hnd] at h14'
    refine ⟨nd, fun k hk hne => ?_⟩
    rw [← tri _ (el_cll m hm nd hnd) h14', el_clt m hm nd hnd k hk, decide_eq_false hne]; simp
theorem el_stp_mono {s e : Nat → Int32} (hs : el_Sta s) (he : el_Ent s e) (q : Nat) (hq : q < 4) : s (6 + q) ≤ el_stp s e (6 + q) := by
  have rf : ∀ y : Int32, y ≤ y := fun y => Int32.le_refl y
  rcases he with h | h | ⟨nd, hnd, h3, h | ⟨h, hx⟩⟩
  · obtain ⟨hk, se, ke, nu, h1, h2, _, h4, h5, h6, h7, h8⟩ := h
    rw [el_stp_cmd hk h1 h2 h5 h6, pk_un (by omega)]
    by_cases e' : q = se
    · subst e'; rw [pk_us, h7]; exact Int32.le_of_lt h8
    · rw [pk_un (by omega), pk_un (by omega)]; exact rf _
  · rw [el_stp_3 h]; exact rf _
  · rw [el_stp_4 h, pk_un (by omega)]; exact rf _
  · rw [el_stp_5 h, pk_un (by omega)]; exact rf _

/-- a log of M entries: terms (K: a bound on all numbers), entries -/
def el_WF (G : Nat → Nat → Int32) (M K : Nat) : Prop := K ≤ 1000000 ∧ M ≤ K ∧ G 0 0 = 0 ∧ (∀ i, i ≤ M → G i 0 = nI (el_gt G i) ∧ el_gt G i ≤ K) ∧ (∀ i, i < M → el_gt G i ≤ el_gt G (i + 1)) ∧ (∀ i, i < M → el_Ent (el_ap G i) (G (i + 1)))
theorem el_wf_sta {G : Nat → Nat → Int32} {M K : Nat} (h : el_WF G M K) : ∀ i, i ≤ M → el_Sta (el_ap G i) := by
  intro i
  induction i with
  | zero => intro _; exact el_sta0
  | succ i ih => intro hi; exact el_sta_stp (ih (by omega)) (h.2.2.2.2.2 i (by omega))
theorem el_wf_cf {G : Nat → Nat → Int32} {M K : Nat} (h : el_WF G M K) {i : Nat} (hi : i ≤ M) : el_cf G i < 32 ∧ el_cf G i ≠ 0 ∧ el_ap G i 14 = nI (el_cf G i) := by
  obtain ⟨⟨m, hm, hm0, e⟩, _⟩ := el_wf_sta h i hi
  have : el_cf G i = m := by unfold el_cf; rw [e, nI_clamp (by omega)]
  rw [this]; exact ⟨hm, hm0, e⟩
theorem el_wf_gt {G : Nat → Nat → Int32} {M K : Nat} (h : el_WF G M K) {i j : Nat} (hij : i ≤ j) (hj : j ≤ M) : el_gt G i ≤ el_gt G j := by
  induction j with
  | zero => have : i = 0 := by omega
            subst this; exact Nat.le_refl _
  | succ j ih =>
    by_cases e : i = j + 1
    · subst e; exact Nat.le_refl _
    · exact Nat.le_trans (ih (by omega) (by omega)) (h.2.2.2.2.1 j (by omega))
theorem el_wf_adj {G : Nat → Nat → Int32} {M K : Nat} (h : el_WF G M K) {i : Nat} (hi : i < M) : ∃ j, ∀ k, k < 5 → k ≠ j → (el_cf G i).testBit k = (el_cf G (i + 1)).testBit k := by
  obtain ⟨h1, _, h2⟩ := el_wf_cf h (Nat.le_of_lt hi)
  obtain ⟨h3, _, h4⟩ := el_wf_cf h (show i + 1 ≤ M from hi)
  exact el_stp_adj h1 h2 h3 h4 (h.2.2.2.2.2 i hi)
theorem el_wf_mono {G : Nat → Nat → Int32} {M K : Nat} (h : el_WF G M K) {i j q : Nat} (hq : q < 4) (hij : i ≤ j) (hj : j ≤ M) : el_ap G i (6 + q) ≤ el_ap G j (6 + q) := by
  induction j with
  | zero => have : i = 0 := by omega
            subst this; exact Int32.le_refl _
  | succ j ih =>
    by_cases e : i = j + 1
    · subst e; exact Int32.le_refl _
    · exact Int32.le_trans (ih (by omega) (by omega)) (el_stp_mono (el_wf_sta h j (by omega)) (h.2.2.2.2.2 j (by omega)) q hq)
theorem el_wf_K {G : Nat → Nat → Int32} {M K K' : Nat} (h : el_WF G M K) (hk : K ≤ K') (hk' : K' ≤ 1000000) : el_WF G M K' :=
  ⟨hk', Nat.le_trans h.2.1 hk, h.2.2.1, fun i hi => ⟨(h.2.2.2.1 i hi).1, Nat.le_trans (h.2.2.2.1 i hi).2 hk⟩, h.2.2.2.2.1, h.2.2.2.2.2⟩
/-- one entry more -/
def el_ext (G : Nat → Nat → Int32) (M : Nat) (e : Nat → Int32) : Nat → Nat → Int32 := fun i => if i = M + 1 then e else G i
theorem el_ext_lo {G : Nat → Nat → Int32} {M i : Nat} {e : Nat → Int32} (h : i ≤ M) : el_ext G M e i = G i := by
  unfold el_ext; rw [if_neg (by omega)]
theorem el_ext_hi {G : Nat → Nat → Int32} {M : Nat} {e : Nat → Int32} : el_ext G M e (M + 1) = e := by
  unfold el_ext; rw [if_pos rfl]
theorem el_ap_congr {G H : Nat → Nat → Int32} : ∀ i, (∀ j, j ≤ i → G j = H j) → el_ap G i = el_ap H i := by
  intro i
  induction i with
  | zero => intro _; rfl
  | succ i ih =>
    intro h
    show el_stp (el_ap G i) (G (i + 1)) = el_stp (el_ap H i) (H (i + 1))
    rw [ih (fun j hj => h j (by omega)), h (i + 1) (by omega)]
theorem el_ext_ap {G : Nat → Nat → Int32} {M i : Nat} {e : Nat → Int32} (h : i ≤ M) : el_ap (el_ext G M e) i = el_ap G i :=
  el_ap_congr i (fun j hj => el_ext_lo (by omega))
theorem el_ext_apM {G : Nat → Nat → Int32} {M : Nat} {e : Nat → Int32} : el_ap (el_ext G M e) (M + 1) = el_stp (el_ap G M) e := by
  show el_stp (el_ap (el_ext G M e) M) (el_ext G M e (M + 1)) = _
  rw [el_ext_ap (Nat.le_refl M), el_ext_hi]
theorem el_ext_gt {G : Nat → Nat → Int32} {M i : Nat} {e : Nat → Int32} (h : i ≤ M) : el_gt (el_ext G M e) i = el_gt G i := by
  unfold el_gt; rw [el_ext_lo h]
theorem el_ext_cf {G : Nat → Nat → Int32} {M i : Nat} {e : Nat → Int32} (h : i ≤ M) : el_cf (el_ext G M e) i = el_cf G i := by
  unfold el_cf; rw [el_ext_ap h]
theorem el_wf_ext {G : Nat → Nat → Int32} {M K t : Nat} {e : Nat → Int32} (h : el_WF G M K) (hM : M + 1 ≤ K) (ht : e 0 = nI t) (htK : t ≤ K) (hg : el_gt G M ≤ t) (he : el_Ent (el_ap G M) e) : el_WF (el_ext G M e) (M + 1) K := by
  obtain ⟨k1, k2, k3, k4, k5, k6⟩ := h
  have g1 : el_gt (el_ext G M e) (M + 1) = t := by unfold el_gt; rw [el_ext_hi, ht, nI_clamp (by omega)]
  refine ⟨k1, hM, by rw [el_ext_lo (by omega)]; exact k3, fun i hi => ?_, fun i hi => ?_, fun i hi => ?_⟩
  · by_cases z : i = M + 1
    · subst z; rw [g1, el_ext_hi]; exact ⟨ht, htK⟩
    · rw [el_ext_lo (by omega), el_ext_gt (by omega)]; exact k4 i (by omega)
  · by_cases z : i = M
    · subst z; rw [g1, el_ext_gt (by omega)]; exact hg
    · rw [el_ext_gt (by omega), el_ext_gt (by omega)]; exact k5 i (by omega)
  · by_cases z : i = M
    · subst z; rw [el_ext_hi, el_ext_ap (by omega)]; exact he
    · rw [el_ext_lo (by omega), el_ext_ap (by omega)]; exact k6 i (by omega)
end
section
/-! the nodes' logs against G, and the methods that read alone -/
/-- a stale tail behind c entries -/
def el_Tail (G : Nat → Nat → Int32) (M c : Nat) (t : Nat → Int32) : Prop := t 0 = G c 0 ∧ el_Cmd (el_ap G c) t ∧ (c < M → el_gt G c < el_gt G (c + 1))
/-- node n: base b, counted c, last l; up to p its log is G's -/
def el_Nd (G : Nat → Nat → Int32) (M n b c l p : Nat) (a7 a8 a9 a10 a11 a12 a13 : Nat → Int32) : Prop :=
  a7 n = nI b ∧ a8 n = G b 0 ∧ a9 n = nI (l - b) ∧ a11 n = nI c ∧ (b ≤ c ∧ c ≤ p ∧ p ≤ M ∧ p ≤ l ∧ l ≤ b + 16 ∧ l ≤ c + 3 ∧ M ≤ 1000000) ∧ (∀ i k, b < i → i ≤ p → k < 7 → a10 (112 * n + 7 * (i - b - 1) + k) = G i k) ∧ (∀ k, k < 15 → a12 (15 * n + k) = el_ap G c k) ∧ (∀ k, k < 15 → a13 (15 * n + k) = el_ap G b k) ∧ (l = p ∨ (p = c ∧ l = c + 1 ∧ el_Tail G M c (fun k => a10 (112 * n + 7 * (c - b) + k))))
def el_LG (G : Nat → Nat → Int32) (M : Nat) (B C L P : Nat → Nat) (a7 a8 a9 a10 a11 a12 a13 : Nat → Int32) : Prop := ∀ n, n < 5 → el_Nd G M n (B n) (C n) (L n) (P n) a7 a8 a9 a10 a11 a12 a13
theorem el_cell {n b i : Nat} (h : b < i) : 7 * ((((16 * nI n) + nI i) - nI b) - 1) = nI (112 * n + 7 * (i - b - 1)) := by
  rw [el_m16, nI_add, pk_sub (by omega), el_s1 (by omega), el_m7]
  congr 1; omega
section
variable {f w h x : Int32} {a1 a2 a3 a4 a5 a6 a7 a8 a9 a10 a11 a12 a13 a14 a15 a16 a17 : Nat → Int32} {G : Nat → Nat → Int32} {M K n b c l p : Nat}
theorem el_lastOf {post : Int32 → Prop} (hn : n < 5) (hd : el_Nd G M n b c l p a7 a8 a9 a10 a11 a12 a13) (hp : post (nI l)) : wpX_lastOf post (f, w, h, x, a1, a2, a3, a4, a5, a6, a7, a8, a9, a10, a11, a12, a13, a14, a15, a16, a17) (nI n) := by
  obtain ⟨h7, _, h9, _, hb, _⟩ := hd
  unfold wpX_lastOf
  dsimp only
  rw [nI_clamp (by omega), h7, h9, nI_add, show b + (l - b) = l by omega]
  exact ⟨(vp_in_nI (by omega) (by omega)), (vp_in_nI (by omega) (by omega)), hp⟩
theorem el_cellOf {post : Int32 → Prop} {i : Nat} (hn : n < 5) (h7 : a7 n = nI b) (hi : b < i) (hp : post (nI (112 * n + 7 * (i - b - 1)))) : wpX_cellOf post (f, w, h, x, a1, a2, a3, a4, a5, a6, a7, a8, a9, a10, a11, a12, a13, a14, a15, a16, a17) (nI n) (nI i) := by
  unfold wpX_cellOf
  dsimp only
  rw [nI_clamp (by omega), h7, el_cell hi]
  exact ⟨(vp_in_nI (by omega) (by omega)), hp⟩
/-- the entry at a place of the log -/
theorem el_Nd_lo (hd : el_Nd G M n b c l p a7 a8 a9 a10 a11 a12 a13) {i k : Nat} (h1 : b < i) (h2 : i ≤ p) (hk : k < 7) : a10 (112 * n + 7 * (i - b - 1) + k) = G i k := hd.2.2.2.2.2.1 i k h1 h2 hk
theorem el_Nd_tl (hd : el_Nd G M n b c l p a7 a8 a9 a10 a11 a12 a13) (h : p < l) : p = c ∧ l = c + 1 ∧ el_Tail G M c (fun k => a10 (112 * n + 7 * (c - b) + k)) := by
  rcases hd.2.2.2.2.2.2.2.2 with z | z
  · omega
  · exact z
theorem el_Nd_le (hd : el_Nd G M n b c l p a7 a8 a9 a10 a11 a12 a13) : b ≤ c ∧ c ≤ p ∧ p ≤ M ∧ p ≤ l ∧ l ≤ b + 16 ∧ l ≤ c + 3 ∧ M ≤ 1000000 := hd.2.2.2.2.1
theorem el_termAt {post : Int32 → Prop} {i : Nat} (hn : n < 5) (hd : el_Nd G M n b c l p a7 a8 a9 a10 a11 a12 a13) (h1 : b ≤ i) (h2 : i ≤ l) (hp : post (G (min i p) 0)) : wpX_termAt post (f, w, h, x, a1, a2, a3, a4, a5, a6, a7, a8, a9, a10, a11, a12, a13, a14, a15, a16, a17) (nI n) (nI i) := by
  have hb := el_Nd_le hd
  have htl := fun z => el_Nd_tl hd z
  have hlo := fun z z2 => el_Nd_lo hd (i := i) (k := 0) z z2 (by omega)
  obtain ⟨h7, h8, _⟩ := hd
  unfold wpX_termAt
  dsimp only
  rw [nI_clamp (by omega), h7, h8]
  refine ⟨(vp_in_nI (by omega) (by omega)), pk_eq i b (fun e => ⟨(vp_in_nI (by omega) (by omega)), ?_⟩) (fun e => el_cellOf hn h7 (by omega) ⟨(vp_in_nI (by omega) (by omega)), ?_⟩)⟩
  · rw [e, show min b p = b by omega] at hp; exact hp
  · rw [nI_clamp (by omega)]
    by_cases z : i ≤ p
    · rw [show min i p = i by omega] at hp
      have := hlo (by omega) z
      rw [Nat.add_zero] at this
      rw [this]; exact hp
    · obtain ⟨t1, t2, t3, _⟩ := htl (by omega)
      have e2 : i - b - 1 = c - b := by omega
      rw [e2]
      rw [show min i p = c by omega] at hp
      dsimp only at t3
      rw [Nat.add_zero] at t3
      rw [t3]; exact hp
theorem el_stp14 {s e : Nat → Int32} (he : el_Ent s e) : el_stp s e 14 = if e 1 = 4 then s 14 ||| ((1 : Int32) <<< (e 3 &&& 31)) else if e 1 = 5 then s 14 &&& (((1 : Int32) <<< (e 3 &&& 31)) ^^^ (-1)) else s 14 := by
  rcases he with h | h | ⟨nd, hnd, h3, h | ⟨h, hx⟩⟩
  · rw [el_stp_14 h]
    obtain ⟨hk, _⟩ := h
    rw [if_neg (by rcases hk with z | z | z <;> rw [z] <;> decide), if_neg (by rcases hk with z | z | z <;> rw [z] <;> decide)]
  · rw [el_stp_3 h, h]; rfl
  · rw [el_stp_4 h, if_pos h, pk_us]
  · rw [el_stp_5 h, h, pk_us]; rfl
theorem el_changedBy {post : Int32 → Prop} {i : Nat} {y : Int32} (hn : n < 5) (hd : el_Nd G M n b c l p a7 a8 a9 a10 a11 a12 a13) (hw : el_WF G M K) (h1 : c < i) (h2 : i ≤ l) (hy : y = el_ap G (min (i - 1) p) 14) (hp : post (el_ap G (min i p) 14)) : wpX_changedBy post (f, w, h, x, a1, a2, a3, a4, a5, a6, a7, a8, a9, a10, a11, a12, a13, a14, a15, a16, a17) (nI n) (nI i) y := by
  have hb := el_Nd_le hd
  have key : ∀ e : Nat → Int32, (∀ k, k < 7 → a10 (112 * n + 7 * (i - b - 1) + k) = e k) → el_ap G (min i p) 14 = (if e 1 = 4 then y ||| ((1 : Int32) <<< (e 3 &&& 31)) else if e 1 = 5 then y &&& (((1 : Int32) <<< (e 3 &&& 31)) ^^^ (-1)) else y) → wpX_changedBy post (f, w, h, x, a1, a2, a3, a4, a5, a6, a7, a8, a9, a10, a11, a12, a13, a14, a15, a16, a17) (nI n) (nI i) y := by
    intro e he hE
    obtain ⟨h7, _⟩ := hd
    rw [hE] at hp
    unfold wpX_changedBy
    dsimp only
    refine el_cellOf hn h7 (by omega) ?_
    rw [nI_1, el_a3, nI_clamp (by omega), nI_clamp (by omega), he 1 (by omega), he 3 (by omega)]
    refine ⟨(vp_in_nI (by omega) (by omega)), br_c (fun z => ⟨(vp_in_nI (by omega) (by omega)), ?_⟩) (fun z => ⟨(vp_in_nI (by omega) (by omega)), br_c (fun z2 => ⟨(vp_in_nI (by omega) (by omega)), ?_⟩) (fun z2 => ?_)⟩)⟩
    · rw [if_pos z] at hp; exact hp
    · rw [if_neg z, if_pos z2] at hp; exact hp
    · rw [if_neg z, if_neg z2] at hp; exact hp
  by_cases z : i ≤ p
  · refine key (G i) (fun k hk => el_Nd_lo hd (by omega) z hk) ?_
    have he := hw.2.2.2.2.2 (i - 1) (by omega)
    rw [show i - 1 + 1 = i by omega] at he
    have e1 : el_ap G i = el_stp (el_ap G (i - 1)) (G i) := by
      rw [show i = (i - 1) + 1 by omega]; rfl
    rw [show min i p = i by omega, e1, el_stp14 he, hy, show min (i - 1) p = i - 1 by omega]
  · obtain ⟨t1, t2, _, ⟨t4, _⟩, _⟩ := el_Nd_tl hd (by omega)
    refine key (fun k => a10 (112 * n + 7 * (c - b) + k)) (fun k hk => by rw [show i - b - 1 = c - b by omega]) ?_
    dsimp only at t4 ⊢
    rw [if_neg (by rcases t4 with z | z | z <;> rw [z] <;> decide), if_neg (by rcases t4 with z | z | z <;> rw [z] <;> decide), hy, show min i p = p by omega, show min (i - 1) p = p by omega]
theorem el_membersFor {post : Int32 → Prop} (hn : n < 5) (hd : el_Nd G M n b c l p a7 a8 a9 a10 a11 a12 a13) (hw : el_WF G M K) (hp : post (nI (el_cf G p))) : wpX_membersFor post (f, w, h, x, a1, a2, a3, a4, a5, a6, a7, a8, a9, a10, a11, a12, a13, a14, a15, a16, a17) (nI n) := by
  have hb := el_Nd_le hd
  have h12 := hd.2.2.2.2.2.2.1 14 (by omega)
  have h11 := hd.2.2.2.1
  rw [← (el_wf_cf hw (show p ≤ M by omega)).2.2] at hp
  unfold wpX_membersFor
  dsimp only
  rw [el_m15, el_a14, nI_clamp (by omega), nI_clamp (by omega), h12, h11, nI_1]
  refine ⟨(vp_in_nI (by omega) (by omega)), nm_e ⟨(vp_in_nI (by omega) (by omega)), nm_e ?_⟩⟩
  refine pk_loop (fun m i s => wX_membersFor_22 post (nI n) f w h x a1 a2 a3 a4 a5 a6 a7 a8 a9 a10 a11 a12 a13 a14 a15 a16 a17 m s (nI i)) (fun i s => c < i ∧ s = el_ap G (min (i - 1) p) 14) (l + 1) (c + 1) _ (by omega) ?_ ?_ ?_
  · refine ⟨by omega, ?_⟩
    rw [show min (c + 1 - 1) p = c by omega]
  · intro m s hs
    unfold wX_membersFor_22
    refine el_lastOf hn hd ?_
    refine pk_lt l (l + 1) (fun _ => ?_) (fun z => absurd z (by omega))
    rw [hs.2, show min (l + 1 - 1) p = p by omega]; exact hp
  · intro m i s hi hs hk
    obtain ⟨q, hs⟩ := hs
    unfold wX_membersFor_22
    refine el_lastOf hn hd ?_
    refine pk_lt l i (fun z => absurd z (by omega)) (fun _ => ?_)
    refine el_changedBy hn hd hw q (by omega) hs ?_
    exact nm_r (nI_1 i) (hk _ ⟨by omega, by rw [show i + 1 - 1 = i by omega]⟩)
/-- joined -/
def el_jn (a1 a2 : Nat → Int32) (n o : Nat) : Bool := decide (¬ a1 n = 0 ∧ ¬ a1 o = 0 ∧ a2 n = a2 o)
theorem el_areJoined {post : Int32 → Prop} {o : Nat} (hn : n < 5) (ho : o < 5) (h1 : el_jn a1 a2 n o = true → post 1) (h0 : el_jn a1 a2 n o = false → post 0) : wpX_areJoined post (f, w, h, x, a1, a2, a3, a4, a5, a6, a7, a8, a9, a10, a11, a12, a13, a14, a15, a16, a17) (nI n) (nI o) := by
  unfold wpX_areJoined
  dsimp only
  rw [nI_clamp (by omega), nI_clamp (by omega)]
  refine ⟨(vp_in_nI (by omega) (by omega)), br_c (fun z => h0 ?_) (fun z => ⟨(vp_in_nI (by omega) (by omega)), br_c (fun z2 => h0 ?_) (fun z2 => ⟨(vp_in_nI (by omega) (by omega)), (vp_in_nI (by omega) (by omega)), br_c (fun z3 => h1 ?_) (fun z3 => h0 ?_)⟩)⟩)⟩
  · exact decide_eq_false (fun t => t.1 z)
  · exact decide_eq_false (fun t => t.2.1 z2)
  · exact decide_eq_true ⟨z, z2, z3⟩
  · exact decide_eq_false (fun t => z3 t.2.2)
theorem el_reachedBy {post : Int32 → Prop} (hn : n < 5) (hp : post (nI (el_set (el_jn a1 a2 n) 5))) : wpX_reachedBy post (f, w, h, x, a1, a2, a3, a4, a5, a6, a7, a8, a9, a10, a11, a12, a13, a14, a15, a16, a17) (nI n) := by
  unfold wpX_reachedBy
  dsimp only
  refine pk_loop (fun m i s => wX_reachedBy_4 post (nI n) f w h x a1 a2 a3 a4 a5 a6 a7 a8 a9 a10 a11 a12 a13 a14 a15 a16 a17 m s (nI i)) (fun i s => s = nI (el_set (el_jn a1 a2 n) i)) 5 0 _ (by omega) rfl ?_ ?_
  · intro m s hs
    refine pk_le 5 5 (fun _ => ?_) (fun z => absurd z (by omega))
    rw [hs]; exact hp
  · intro m i s hi hs hk
    refine pk_le 5 i (fun z => absurd z (by omega)) (fun _ => ?_)
    refine el_areJoined hn hi (fun e => ?_) (fun e => ?_)
    · refine br_f (by decide) (nm_e (nm_r (nI_1 i) (hk _ ?_)))
      rw [hs]; exact el_set_or _ hi e
    · refine br_t rfl (nm_e (nm_r (nI_1 i) (hk _ ?_)))
      rw [hs]; exact el_set_no _ e
end
theorem el_ones {post : Int32 → Prop} {m : Nat} (hm : m < 32) (hp : post (nI (el_cnt (fun k => m.testBit k)))) : wpX_ones post () (nI m) := by
  unfold wpX_ones
  have st : ∀ i, i < 5 → ∀ y : Nat, nI y + ((nI m >>> (nI i &&& 31)) &&& 1) = nI (y + (m.testBit i).toNat) := by
    intro i hi y
    rw [el_bt m hm i hi]
    cases m.testBit i
    · show nI y + nI 0 = _
      rw [nI_add]; rfl
    · show nI y + nI 1 = _
      rw [nI_add]; rfl
  refine ⟨6, ?_⟩
  show wX_ones_4 post (nI m) 6 (nI 0) (nI 0)
  refine br_f (by decide) (nm_r (st 0 (by omega) 0) (nm_r (nI_1 0) ?_))
  refine br_f (by decide) (nm_r (st 1 (by omega) _) (nm_r (nI_1 1) ?_))
  refine br_f (by decide) (nm_r (st 2 (by omega) _) (nm_r (nI_1 2) ?_))
  refine br_f (by decide) (nm_r (st 3 (by omega) _) (nm_r (nI_1 3) ?_))
  refine br_f (by decide) (nm_r (st 4 (by omega) _) (nm_r (nI_1 4) ?_))
  refine br_t (by decide) ?_
  have e : 0 + (m.testBit 0).toNat + (m.testBit 1).toNat + (m.testBit 2).toNat + (m.testBit 3).toNat + (m.testBit 4).toNat = el_cnt (fun k => m.testBit k) := by
    unfold el_cnt; dsimp only; omega
  rw [e]; exact hp
theorem el_cnt_le (s : Nat → Bool) : el_cnt s ≤ 5 := by
  have := Bool.toNat_le (s 0)
  have := Bool.toNat_le (s 1)
  have := Bool.toNat_le (s 2)
  have := Bool.toNat_le (s 3)
  have := Bool.toNat_le (s 4)
  unfold el_cnt; omega
theorem el_isMost {post : Int32 → Prop} {m : Nat} {s : Nat → Bool} {y : Int32} (hy : y = nI (el_set s 5)) (hm : m < 32) (h1 : el_maj s m → post 1) (h0 : ¬ el_maj s m → post 0) : wpX_isMost post () y (nI m) := by
  unfold wpX_isMost
  rw [hy, el_andb _ (el_set5 s) _ hm]
  have e : el_cnt (fun k => (el_set s 5 &&& m).testBit k) = el_cnt (fun k => s k && m.testBit k) :=
    el_cnt_and _ _ s (fun k => m.testBit k) (fun k hk => by rw [Nat.testBit_and, el_set_bit s k hk])
  have l1 := el_cnt_le (fun k => s k && m.testBit k)
  have l2 := el_cnt_le (fun k => m.testBit k)
  refine el_ones (el_andl _ (el_set5 s) _ hm) (el_ones hm ?_)
  rw [e]
  refine pk_le (2 * el_cnt (fun k => s k && m.testBit k)) (el_cnt (fun k => m.testBit k)) (fun z => h0 ?_) (fun z => h1 ?_) (pk_mul 2 _)
  · unfold el_maj; omega
  · unfold el_maj; omega
end
section
/-! giving up, the leader, carrying out, counting -/
theorem el_bit1 {A B : Prop} {m n : Nat} (hm : m < 32) (hn : n < 5) (hA : m.testBit n = true → A) (hB : m.testBit n = false → B) : (((nI m >>> (nI n &&& 31)) &&& 1) = 1 → A) ∧ (¬ ((nI m >>> (nI n &&& 31)) &&& 1) = 1 → B) := by
  rw [el_bt m hm n hn]
  cases e : m.testBit n
  · exact br_f (by decide) (hB e)
  · exact br_t (by rfl) (hA e)
theorem el_bit0 {A B : Prop} {m n : Nat} (hm : m < 32) (hn : n < 5) (hA : m.testBit n = false → A) (hB : m.testBit n = true → B) : (((nI m >>> (nI n &&& 31)) &&& 1) = 0 → A) ∧ (¬ ((nI m >>> (nI n &&& 31)) &&& 1) = 0 → B) := by
  rw [el_bt m hm n hn]
  cases e : m.testBit n
  · exact br_t (by rfl) (hA e)
  · exact br_f (by decide) (hB e)
/-- a node that may go on leading -/
def el_hold (a1 a2 : Nat → Int32) (m n : Nat) : Prop := ¬ a1 n = 0 ∧ m.testBit n = true ∧ el_maj (el_jn a1 a2 n) m
section
variable {f w h x : Int32} {a1 a2 a3 a4 a5 a6 a7 a8 a9 a10 a11 a12 a13 a14 a15 a16 a17 : Nat → Int32} {G : Nat → Nat → Int32} {M K n b c l p : Nat} {B C L P : Nat → Nat}
theorem el_giveUp {post : St1 → Prop} (hL : el_LG G M B C L P a7 a8 a9 a10 a11 a12 a13) (hw : el_WF G M K)
    (hp : ∀ b3 : Nat → Int32, (∀ n, n < 5 → (el_hold a1 a2 (el_cf G (P n)) n → b3 n = a3 n) ∧ (¬ el_hold a1 a2 (el_cf G (P n)) n → b3 n = 0)) → post (f, w, h, x, a1, a2, b3, a4, a5, a6, a7, a8, a9, a10, a11, a12, a13, a14, a15, a16, a17)) : wpX_giveUp post (f, w, h, x, a1, a2, a3, a4, a5, a6, a7, a8, a9, a10, a11, a12, a13, a14, a15, a16, a17) := by
  unfold wpX_giveUp
  dsimp only
  refine pk_loop (fun m i s => wX_giveUp_2 post f w h x m (nI i) a1 a2 s a4 a5 a6 a7 a8 a9 a10 a11 a12 a13 a14 a15 a16 a17) (fun i s => ∀ n, n < 5 → (n < i → (el_hold a1 a2 (el_cf G (P n)) n → s n = a3 n) ∧ (¬ el_hold a1 a2 (el_cf G (P n)) n → s n = 0)) ∧ (i ≤ n → s n = a3 n)) 5 0 a3 (by omega) (fun n _ => ⟨fun z => absurd z (by omega), fun _ => rfl⟩) ?_ ?_
  · intro m s hs
    refine pk_le 5 5 (fun _ => hp s (fun n hn => (hs n hn).1 hn)) (fun z => absurd z (by omega))
  · intro m i s hi hs hk
    refine pk_le 5 i (fun z => absurd z (by omega)) (fun _ => ?_)
    have hd := hL i hi
    have hcf := el_wf_cf hw (el_Nd_le hd).2.2.1
    have step : ∀ v : Int32, ((el_hold a1 a2 (el_cf G (P i)) i → v = a3 i) ∧ (¬ el_hold a1 a2 (el_cf G (P i)) i → v = 0)) → wX_giveUp_2 post f w h x m (nI (i + 1)) a1 a2 (upd s i v) a4 a5 a6 a7 a8 a9 a10 a11 a12 a13 a14 a15 a16 a17 := by
      intro v hv
      refine hk _ (fun n hn => ⟨fun z => ?_, fun z => ?_⟩)
      · by_cases e : n = i
        · subst e; rw [pk_us]; exact hv
        · rw [pk_un e]; exact (hs n hn).1 (by omega)
      · rw [pk_un (by omega)]; exact (hs n hn).2 (by omega)
    have no : ¬ el_hold a1 a2 (el_cf G (P i)) i → wX_giveUp_49 post (wX_giveUp_2 post f w h x m) (nI i) f w h x a1 a2 s a4 a5 a6 a7 a8 a9 a10 a11 a12 a13 a14 a15 a16 a17 := by
      intro hno
      unfold wX_giveUp_49 wX_giveUp_50
      refine br_t rfl ⟨(vp_in_nI (by omega) (by omega)), ?_⟩
      rw [nI_clamp (by omega)]
      exact nm_e (nm_r (nI_1 i) (step 0 ⟨fun z => absurd z hno, fun _ => rfl⟩))
    refine el_membersFor hi hd hw ?_
    refine el_reachedBy hi ?_
    rw [nI_clamp (by omega)]
    refine ⟨(vp_in_nI (by omega) (by omega)), br_c (fun z => no (fun t => t.1 z)) (fun z => ?_)⟩
    refine el_bit1 hcf.1 hi (fun z2 => ?_) (fun z2 => no (fun t => by rw [t.2.1] at z2; exact absurd z2 (by decide)))
    refine el_isMost rfl hcf.1 (fun z3 => ?_) (fun z3 => ?_)
    · refine br_f (by decide) ?_
      unfold wX_giveUp_50
      refine br_f (by decide) ⟨(vp_in_nI (by omega) (by omega)), (vp_in_nI (by omega) (by omega)), ?_⟩
      rw [nI_clamp (by omega)]
      exact nm_e (nm_r (nI_1 i) (step (s i) ⟨fun _ => (hs i hi).2 (by omega), fun t => absurd ⟨z, z2, z3⟩ t⟩))
    · exact br_t rfl (no (fun t => z3 t.2.2))
theorem el_leaderIs {post : Int32 → Prop} (hn : n < 5) (h1 : a3 n = 1) (h0 : ∀ m, m < n → a3 m ≠ 1) (hp : post (nI n)) : wpX_leaderNow post (f, w, h, x, a1, a2, a3, a4, a5, a6, a7, a8, a9, a10, a11, a12, a13, a14, a15, a16, a17) := by
  unfold wpX_leaderNow
  dsimp only
  refine pk_loop (σ := Unit) (fun m i _ => wX_leaderNow_2 post f w h x a1 a2 a3 a4 a5 a6 a7 a8 a9 a10 a11 a12 a13 a14 a15 a16 a17 m (nI i)) (fun _ _ => True) n 0 () (by omega) trivial ?_ ?_
  · intro m _ _
    refine pk_le 5 n (fun z => absurd z (by omega)) (fun _ => ?_)
    rw [nI_clamp (by omega)]
    exact ⟨(vp_in_nI (by omega) (by omega)), br_t h1 hp⟩
  · intro m i _ hi _ hk
    refine pk_le 5 i (fun z => absurd z (by omega)) (fun _ => ?_)
    rw [nI_clamp (by omega)]
    exact ⟨(vp_in_nI (by omega) (by omega)), br_f (h0 i hi) (nm_r (nI_1 i) (hk () trivial))⟩
theorem el_leaderNo {post : Int32 → Prop} (h0 : ∀ m, m < 5 → a3 m ≠ 1) (hp : post (-1)) : wpX_leaderNow post (f, w, h, x, a1, a2, a3, a4, a5, a6, a7, a8, a9, a10, a11, a12, a13, a14, a15, a16, a17) := by
  unfold wpX_leaderNow
  dsimp only
  refine pk_loop (σ := Unit) (fun m i _ => wX_leaderNow_2 post f w h x a1 a2 a3 a4 a5 a6 a7 a8 a9 a10 a11 a12 a13 a14 a15 a16 a17 m (nI i)) (fun _ _ => True) 5 0 () (by omega) trivial ?_ ?_
  · intro m _ _
    exact pk_le 5 5 (fun _ => hp) (fun z => absurd z (by omega))
  · intro m i _ hi _ hk
    refine pk_le 5 i (fun z => absurd z (by omega)) (fun _ => ?_)
    rw [nI_clamp (by omega)]
    exact ⟨(vp_in_nI (by omega) (by omega)), br_f (h0 i hi) (nm_r (nI_1 i) (hk () trivial))⟩
theorem el_reg {a s : Nat → Int32} {i N : Nat} {v : Int32} (hs : ∀ k, k < N → a (b + k) = s k) : ∀ k, k < N → upd a (b + i) v (b + k) = upd s i v k := by
  intro k hk
  by_cases e : k = i
  · subst e; rw [pk_us, pk_us]
  · rw [pk_un e, pk_un (by omega)]; exact hs k hk
theorem el_carryOut {post : St1 → Prop} {q : Nat} {s e : Nat → Int32} (hn : n < 5) (hq : q + 6 < 560) (he : ∀ k, k < 7 → a10 (q + k) = e k) (hs : ∀ k, k < 15 → a12 (15 * n + k) = s k) (hE : el_Ent s e)
    (hp : ∀ b12 : Nat → Int32, (∀ k, k < 15 → b12 (15 * n + k) = el_stp s e k) → (∀ j, j < 15 * n ∨ 15 * n + 15 ≤ j → b12 j = a12 j) → post (f, w, h, x, a1, a2, a3, a4, a5, a6, a7, a8, a9, a10, a11, b12, a13, a14, a15, a16, a17)) : wpX_carryOut post (f, w, h, x, a1, a2, a3, a4, a5, a6, a7, a8, a9, a10, a11, a12, a13, a14, a15, a16, a17) (nI n) (nI q) := by
  unfold wpX_carryOut
  dsimp only
  rw [nI_1, nI_clamp (by omega), he 1 (by omega), el_m15]
  refine ⟨(vp_in_nI (by omega) (by omega)), nm_e (nm_e ?_)⟩
  have mem : ∀ z0 : Int32, (∃ nd : Nat, nd < 5 ∧ e 3 = nI nd) → z0 = e 1 → (e 1 = 4 ∨ e 1 = 5) → wX_carryOut_25 post (nI q) z0 (nI (15 * n)) f w h x a1 a2 a3 a4 a5 a6 a7 a8 a9 a10 a11 a12 a13 a14 a15 a16 a17 := by
    intro z0 hnd hz hk
    subst hz
    unfold wX_carryOut_25
    rw [el_a3, nI_clamp (by omega), he 3 (by omega), el_a14, nI_clamp (by omega), hs 14 (by omega)]
    refine ⟨(vp_in_nI (by omega) (by omega)), nm_e ?_⟩
    refine br_c (fun z => ⟨(vp_in_nI (by omega) (by omega)), (vp_in_nI (by omega) (by omega)), nm_e (hp _ ?_ ?_)⟩) (fun z => ⟨(vp_in_nI (by omega) (by omega)), (vp_in_nI (by omega) (by omega)), nm_e (hp _ ?_ ?_)⟩)
    · rw [el_stp_4 z]; exact el_reg hs
    · intro j hj; exact pk_un (by omega)
    · rw [el_stp_5 (hk.resolve_left z)]; exact el_reg hs
    · intro j hj; exact pk_un (by omega)
  rcases hE with hc | h3 | ⟨nd, hnd, h3, hk⟩
  · obtain ⟨hk, se, ke, nu, h1, h2, _, h4, h5, h6, h7, h8⟩ := hc
    have k4 : ¬ e 1 = 4 := by rcases hk with z | z | z <;> rw [z] <;> decide
    have k5 : ¬ e 1 = 5 := by rcases hk with z | z | z <;> rw [z] <;> decide
    have k3 : ¬ e 1 = 3 := by rcases hk with z | z | z <;> rw [z] <;> decide
    have fin : ∀ v : Int32, v = (if e 1 = 0 then e 5 else if e 1 = 1 then s ke + e 5 else if s ke = e 5 then e 6 else s ke) → wX_carryOut_181 post (nI q) (nI (15 * n)) (nI se) (s ke) v (nI (15 * n + ke)) f w h x a1 a2 a3 a4 a5 a6 a7 a8 a9 a10 a11 a12 a13 a14 a15 a16 a17 := by
      intro v hv
      unfold wX_carryOut_181
      rw [el_a4, nI_clamp (by omega), nI_clamp (by omega), he 4 (by omega), el_a6, nI_add, nI_clamp (by omega), el_a10, nI_add, nI_clamp (by omega)]
      refine ⟨(vp_in_nI (by omega) (by omega)), nm_e ⟨(vp_in_nI (by omega) (by omega)), (vp_in_nI (by omega) (by omega)), nm_e ⟨(vp_in_nI (by omega) (by omega)), nm_e (hp _ ?_ ?_)⟩⟩⟩
      · rw [el_stp_cmd hk h1 h2 h5 h6, ← hv]
        have e1 : 15 * n + 6 + se = 15 * n + (6 + se) := by omega
        have e2 : 15 * n + 10 + se = 15 * n + (10 + se) := by omega
        rw [e1, e2]
        exact el_reg (el_reg (el_reg hs))
      · intro j hj
        rw [pk_un (by omega), pk_un (by omega), pk_un (by omega)]
    refine br_f k4 (br_f k5 (br_f k3 ?_))
    rw [el_a2, nI_clamp (by omega), he 2 (by omega), h5, el_a3, nI_clamp (by omega), he 3 (by omega), h6, nI_add]
    refine ⟨(vp_in_nI (by omega) (by omega)), nm_e ⟨(vp_in_nI (by omega) (by omega)), nm_e ⟨(vp_in_nI (by omega) (by omega)), nm_r (e' := s ke) (by rw [nI_clamp (by omega)]; exact hs ke (by omega)) ⟨?_, ?_⟩⟩⟩⟩
    · rw [el_a5]; exact (vp_in_nI (by omega) (by omega))
    · rw [el_a5, nI_clamp (by omega), he 5 (by omega)]
      refine nm_e (br_c (fun z => fin _ (by rw [if_pos z])) (fun z => br_c (fun z2 => fin _ (by rw [if_neg z, if_pos z2])) (fun z2 => br_c (fun z3 => ⟨?_, ?_⟩) (fun z3 => fin _ (by rw [if_neg z, if_neg z2, if_neg z3])))))
      · rw [el_a6]; exact (vp_in_nI (by omega) (by omega))
      · rw [el_a6, nI_clamp (by omega), he 6 (by omega)]
        exact fin _ (by rw [if_neg z, if_neg z2, if_pos z3])
  · refine br_f (by rw [h3]; decide) (br_f (by rw [h3]; decide) (br_t h3 (hp a12 ?_ (fun j _ => rfl))))
    rw [el_stp_3 h3]; exact hs
  · rcases hk with z | ⟨z, _⟩
    · exact br_t z (mem _ ⟨nd, hnd, h3⟩ rfl (Or.inl z))
    · exact br_f (by rw [z]; decide) (br_t z (mem _ ⟨nd, hnd, h3⟩ rfl (Or.inr z)))
/-- a node's picture needs its own places alone -/
theorem el_Nd_fr {b7 b8 b9 b10 b11 b12 b13 : Nat → Int32} (hd : el_Nd G M n b c l p a7 a8 a9 a10 a11 a12 a13) (h7 : b7 n = a7 n) (h8 : b8 n = a8 n) (h9 : b9 n = a9 n) (h10 : ∀ k, k < 112 → b10 (112 * n + k) = a10 (112 * n + k)) (h11 : b11 n = a11 n) (h12 : ∀ k, k < 15 → b12 (15 * n + k) = a12 (15 * n + k)) (h13 : ∀ k, k < 15 → b13 (15 * n + k) = a13 (15 * n + k)) : el_Nd G M n b c l p b7 b8 b9 b10 b11 b12 b13 := by
  have hb := el_Nd_le hd
  obtain ⟨k7, k8, k9, k11, kb, k10, k12, k13, kt⟩ := hd
  refine ⟨by rw [h7, k7], by rw [h8, k8], by rw [h9, k9], by rw [h11, k11], kb, fun i k z1 z2 z3 => ?_, fun k z => by rw [h12 k z, k12 k z], fun k z => by rw [h13 k z, k13 k z], ?_⟩
  · rw [Nat.add_assoc, h10 _ (by omega), ← Nat.add_assoc]; exact k10 i k z1 z2 z3
  · rcases kt with z | ⟨z1, z2, ⟨t1, t2, t3⟩⟩
    · exact Or.inl z
    · refine Or.inr ⟨z1, z2, ?_⟩
      have cell : ∀ k, k < 7 → b10 (112 * n + 7 * (c - b) + k) = a10 (112 * n + 7 * (c - b) + k) := by
        intro k hk
        rw [Nat.add_assoc, h10 _ (by omega)]
      unfold el_Tail el_Cmd at *
      dsimp only at *
      rw [cell 0 (by omega), cell 1 (by omega), cell 2 (by omega), cell 3 (by omega), cell 4 (by omega)]
      exact ⟨t1, t2, t3⟩
theorem el_countTo {post : St1 → Prop} {idx : Nat} (hn : n < 5) (hd : el_Nd G M n b c l p a7 a8 a9 a10 a11 a12 a13) (hw : el_WF G M K) (hidx : idx ≤ p)
    (hp : ∀ b11 b12 : Nat → Int32, el_Nd G M n b (max c idx) l p a7 a8 a9 a10 b11 b12 a13 → (∀ j, j ≠ n → b11 j = a11 j) → (∀ j, j < 15 * n ∨ 15 * n + 15 ≤ j → b12 j = a12 j) → post (f, w, h, x, a1, a2, a3, a4, a5, a6, a7, a8, a9, a10, b11, b12, a13, a14, a15, a16, a17)) : wpX_countTo post (f, w, h, x, a1, a2, a3, a4, a5, a6, a7, a8, a9, a10, a11, a12, a13, a14, a15, a16, a17) (nI n) (nI idx) := by
  have hb := el_Nd_le hd
  unfold wpX_countTo
  dsimp only
  refine pk_loop (fun m i s => wX_countTo_0 post (nI n) (nI idx) m f w h x a1 a2 a3 a4 a5 a6 a7 a8 a9 a10 s.1 s.2 a13 a14 a15 a16 a17) (fun i s => c ≤ i ∧ el_Nd G M n b i l p a7 a8 a9 a10 s.1 s.2 a13 ∧ (∀ j, j ≠ n → s.1 j = a11 j) ∧ (∀ j, j < 15 * n ∨ 15 * n + 15 ≤ j → s.2 j = a12 j)) (max c idx) c (a11, a12) (by omega) ⟨by omega, hd, fun _ _ => rfl, fun _ _ => rfl⟩ ?_ ?_
  · rintro m ⟨s1, s2⟩ ⟨_, hs, hs1, hs2⟩
    unfold wX_countTo_0
    rw [nI_clamp (by omega), hs.2.2.2.1]
    refine ⟨(vp_in_nI (by omega) (by omega)), pk_le idx (max c idx) (fun _ => ?_) (fun z => absurd z (by omega))⟩
    exact hp _ _ hs hs1 hs2
  · rintro m i ⟨s1, s2⟩ hi ⟨hci, hs, hs1, hs2⟩ hk
    dsimp only at hs hs1 hs2 hk ⊢
    have e11 := hs.2.2.2.1
    unfold wX_countTo_0
    rw [nI_clamp (by omega), e11]
    refine ⟨(vp_in_nI (by omega) (by omega)), pk_le idx i (fun z => absurd z (by omega)) (fun _ => ⟨(vp_in_nI (by omega) (by omega)), ?_⟩)⟩
    refine el_lastOf hn hs ?_
    refine pk_le l i (fun z => absurd z (by omega)) (fun _ => ⟨(vp_in_nI (by omega) (by omega)), (vp_in_nI (by omega) (by omega)), nm_r (by rw [nI_1]) ⟨(vp_in_nI (by omega) (by omega)), ?_⟩⟩)
    rw [pk_us]
    have hE := hw.2.2.2.2.2 i (by omega)
    refine el_cellOf hn hs.1 (by omega) ?_
    refine el_carryOut (s := el_ap G i) (e := G (i + 1)) hn (by omega) (fun k hk => ?_) (fun k hk => hs.2.2.2.2.2.2.1 k hk) hE (fun b12 h1 h2 => ?_)
    · exact el_Nd_lo hs (by omega) (by omega) hk
    · refine hk (upd s1 n (nI (i + 1)), b12) ⟨by omega, ?_, fun j hj => (pk_un hj).trans (hs1 j hj), fun j hj => (h2 j hj).trans (hs2 j hj)⟩
      obtain ⟨k7, k8, k9, k11, kb, k10, k12, k13, kt⟩ := hs
      refine ⟨k7, k8, k9, pk_us, by omega, k10, h1, k13, Or.inl ?_⟩
      rcases kt with z | z
      · exact z
      · omega
theorem el_countMost {post : St1 → Prop} {Y : Nat → Nat} (hn : n < 5) (hd : el_Nd G M n b c M M a7 a8 a9 a10 a11 a12 a13) (hw : el_WF G M K) (h4 : a4 n = G M 0) (hY : ∀ o, o < 5 → a15 (5 * n + o) = nI (Y o) ∧ Y o ≤ 1000000)
    (hp : ∀ (c' : Nat) (b11 b12 : Nat → Int32), el_Nd G M n b c' M M a7 a8 a9 a10 b11 b12 a13 → c ≤ c' → (el_maj (fun o => decide (M ≤ Y o)) (el_cf G M) → c' = M) → (∀ j, j ≠ n → b11 j = a11 j) → (∀ j, j < 15 * n ∨ 15 * n + 15 ≤ j → b12 j = a12 j) → post (f, w, h, x, a1, a2, a3, a4, a5, a6, a7, a8, a9, a10, b11, b12, a13, a14, a15, a16, a17)) : wpX_countMost post (f, w, h, x, a1, a2, a3, a4, a5, a6, a7, a8, a9, a10, a11, a12, a13, a14, a15, a16, a17) (nI n) := by
  have hb := el_Nd_le hd
  have hcf := el_wf_cf hw (Nat.le_refl M)
  unfold wpX_countMost
  dsimp only
  refine el_membersFor hn hd hw ?_
  refine el_lastOf hn hd ?_
  refine ⟨M + 1, pk_loopD (fun m i s => wX_countMost_12 post (nI n) (nI (el_cf G M)) m (nI i) f w h x a1 a2 a3 a4 a5 a6 a7 a8 a9 a10 s.1 s.2 a13 a14 a15 a16 a17) (fun i s => i ≤ M ∧ ∃ c', el_Nd G M n b c' M M a7 a8 a9 a10 s.1 s.2 a13 ∧ c ≤ c' ∧ (i < M → el_maj (fun o => decide (M ≤ Y o)) (el_cf G M) → c' = M) ∧ (∀ j, j ≠ n → s.1 j = a11 j) ∧ (∀ j, j < 15 * n ∨ 15 * n + 15 ≤ j → s.2 j = a12 j)) ?_ ?_ M (a11, a12) ⟨Nat.le_refl M, c, hd, Nat.le_refl c, fun z => absurd z (by omega), fun _ _ => rfl, fun _ _ => rfl⟩⟩
  · rintro m ⟨s1, s2⟩ ⟨hi, c', hs, hc, hm, hs1, hs2⟩
    dsimp only at hs hs1 hs2 ⊢
    have hb' := el_Nd_le hs
    unfold wX_countMost_12
    rw [nI_clamp (by omega), hs.2.2.2.1]
    refine ⟨(vp_in_nI (by omega) (by omega)), pk_le 0 c' (fun _ => hp c' s1 s2 hs hc (fun z => ?_) hs1 hs2) (fun z => absurd z (by omega))⟩
    by_cases e : 0 < M
    · exact hm e z
    · omega
  · rintro m i ⟨s1, s2⟩ ⟨hi, c', hs, hc, hm, hs1, hs2⟩ hk
    dsimp only at hs hs1 hs2 hk ⊢
    have hb' := el_Nd_le hs
    unfold wX_countMost_12
    rw [nI_clamp (by omega), hs.2.2.2.1]
    refine ⟨(vp_in_nI (by omega) (by omega)), pk_le (i + 1) c' (fun z => hp c' s1 s2 hs hc (fun z => ?_) hs1 hs2) (fun z => ?_)⟩
    · by_cases e : i + 1 < M
      · exact hm e z
      · omega
    · refine pk_loop (fun m' j s => wX_countMost_28 post (wX_countMost_12 post (nI n) (nI (el_cf G M)) m) (nI n) (nI (el_cf G M)) (nI (i + 1)) f w h x a1 a2 a3 a4 a5 a6 a7 a8 a9 a10 s1 s2 a13 a14 a15 a16 a17 m' s (nI j)) (fun j s => s = nI (el_set (fun o => decide (i + 1 ≤ Y o)) j)) 5 0 _ (by omega) rfl ?_ ?_
      · intro m' s hs'
        refine pk_le 5 5 (fun _ => ?_) (fun z => absurd z (by omega))
        have goon : ¬ (i + 1 = M ∧ el_maj (fun o => decide (i + 1 ≤ Y o)) (el_cf G M)) → wX_countMost_12 post (nI n) (nI (el_cf G M)) m (nI i) f w h x a1 a2 a3 a4 a5 a6 a7 a8 a9 a10 s1 s2 a13 a14 a15 a16 a17 := by
          intro hno
          refine hk (s1, s2) ⟨by omega, c', hs, hc, fun zi zm => ?_, hs1, hs2⟩
          by_cases e : i + 1 < M
          · exact hm e zm
          · exact absurd ⟨by omega, by rw [show i + 1 = M by omega]; exact zm⟩ hno
        refine el_termAt hn hs (by omega) (by omega) ?_
        rw [nI_clamp (by omega), h4, show min (i + 1) M = i + 1 by omega]
        refine ⟨(vp_in_nI (by omega) (by omega)), br_c (fun q => ?_) (fun q => nm_r (pk_m1 i) (goon (fun t => q (by rw [t.1]))))⟩
        refine el_isMost hs' hcf.1 (fun q2 => ?_) (fun q2 => br_t rfl (nm_r (pk_m1 i) (goon (fun t => q2 t.2))))
        refine br_f (by decide) ?_
        refine el_countTo hn hs hw (by omega) (fun b11 b12 h1 h2 h3 => ?_)
        refine nm_r (pk_m1 i) (hk (b11, b12) ⟨by omega, _, h1, by omega, fun zi zm => ?_, fun j hj => (h2 j hj).trans (hs1 j hj), fun j hj => (h3 j hj).trans (hs2 j hj)⟩)
        by_cases e : i + 1 < M
        · have := hm e zm; omega
        · omega
      · intro m' j s hj hs' hk'
        refine pk_le 5 j (fun z => absurd z (by omega)) (fun _ => ?_)
        obtain ⟨y1, y2⟩ := hY j hj
        rw [el_m5, nI_add, nI_clamp (by omega), y1]
        refine ⟨(vp_in_nI (by omega) (by omega)), pk_lt (Y j) (i + 1) (fun q => nm_e (nm_r (nI_1 j) (hk' _ ?_))) (fun q => nm_e (nm_r (nI_1 j) (hk' _ ?_)))⟩
        · rw [hs']; exact el_set_no _ (decide_eq_false (by omega))
        · rw [hs']; exact el_set_or _ hj (decide_eq_true q)
end
end
section
/-! the queue -/
/-- the messages on their way, in order -/
def el_Qu (f w : Int32) (a16 : Nat → Int32) (ql : List (Nat → Int32)) : Prop := ∃ fi : Nat, fi < 64 ∧ f = nI fi ∧ w = nI ql.length ∧ ql.length ≤ 8 ∧ ∀ i m, ql[i]? = some m → ∀ k, k < 16 → a16 (16 * ((fi + i) % 64) + k) = m k
theorem el_Qu_add {fi : Nat} {a16 b16 : Nat → Int32} {ql : List (Nat → Int32)} {m : Nat → Int32} (hf : fi < 64) (hl : ql.length < 8) (hq : ∀ i m, ql[i]? = some m → ∀ k, k < 16 → a16 (16 * ((fi + i) % 64) + k) = m k)
    (ho : ∀ j, j < 16 * ((fi + ql.length) % 64) ∨ 16 * ((fi + ql.length) % 64) + 16 ≤ j → b16 j = a16 j) (hm : ∀ k, k < 16 → b16 (16 * ((fi + ql.length) % 64) + k) = m k) : el_Qu (nI fi) (nI (ql.length + 1)) b16 (ql ++ [m]) := by
  refine ⟨fi, hf, rfl, by rw [List.length_append]; rfl, by rw [List.length_append]; show ql.length + 1 ≤ 8; omega, fun i m' hi k hk => ?_⟩
  by_cases e : i < ql.length
  · rw [List.getElem?_append_left e] at hi
    rw [ho _ (by omega)]
    exact hq i m' hi k hk
  · have e2 : i = ql.length := by
      have := (List.getElem?_eq_some_iff.mp hi).1
      rw [List.length_append] at this
      have : i < ql.length + 1 := this
      omega
    subst e2
    rw [List.getElem?_append_right (Nat.le_refl _), Nat.sub_self] at hi
    have : m = m' := by
      have hh : some m = some m' := hi
      exact Option.some.inj hh
    rw [← this]; exact hm k hk
/-- what a leader n sends to o whose next one is nx -/
def el_Snd (G : Nat → Nat → Int32) (M n o b c nx : Nat) (t : Int32) (m : Nat → Int32) : Prop :=
  m 1 = nI n ∧ m 2 = nI o ∧ m 3 = t ∧ ((nx ≤ b ∧ m 0 = 8 ∧ m 4 = nI b ∧ m 5 = G b 0) ∨ (b < nx ∧ m 0 = 5 ∧ m 4 = nI (nx - 1) ∧ m 5 = G (nx - 1) 0 ∧ m 6 = nI c ∧ ((nx ≤ M ∧ m 7 = 1 ∧ ∀ k, k < 7 → m (8 + k) = G nx k) ∨ (nx = M + 1 ∧ m 7 = 0))))
section
variable {f w h x : Int32} {a1 a2 a3 a4 a5 a6 a7 a8 a9 a10 a11 a12 a13 a14 a15 a16 a17 : Nat → Int32} {G : Nat → Nat → Int32} {M K n b c l p : Nat} {B C L P : Nat → Nat} {ql : List (Nat → Int32)}
theorem el_post {post : Int32 → St1 → Prop} {fr : Nat} {s to y4 y5 y6 : Int32} (hq : el_Qu f w a16 ql) (hl : ql.length < 8) (hfr : fr < 5)
    (hp : ∀ (q : Nat) (b16 m : Nat → Int32), m 0 = s → m 1 = nI fr → m 2 = to → m 3 = a4 fr → m 4 = y4 → m 5 = y5 → m 6 = y6 → m 7 = 0 → el_Qu f (w + 1) b16 (ql ++ [m]) → q + 16 ≤ 1024 → (∀ k, k < 16 → b16 (q + k) = m k) →
      (∀ c16 m' : Nat → Int32, (∀ j, j < q ∨ q + 16 ≤ j → c16 j = b16 j) → (∀ k, k < 16 → c16 (q + k) = m' k) → el_Qu f (w + 1) c16 (ql ++ [m'])) → post (nI q) (f, (w + 1), h, x, a1, a2, a3, a4, a5, a6, a7, a8, a9, a10, a11, a12, a13, a14, a15, b16, a17)) : wpX_post post (f, w, h, x, a1, a2, a3, a4, a5, a6, a7, a8, a9, a10, a11, a12, a13, a14, a15, a16, a17) s (nI fr) to y4 y5 y6 := by
  obtain ⟨fi, hf, e1, e2, hle, hc⟩ := hq
  have mo : (fi + ql.length) % 64 < 64 := Nat.mod_lt _ (by omega)
  generalize hqd : 16 * ((fi + ql.length) % 64) = q at *
  unfold wpX_post
  dsimp only
  refine ⟨by decide, nm_r (e' := nI q) ?_ ?_⟩
  · rw [e1, e2, nI_add, ← hqd]
    have : nI (fi + ql.length) - nI (fi + ql.length) / 64 * 64 = nI ((fi + ql.length) % 64) := pk_rem (d := 64) (by omega) (by omega) (by omega)
    rw [this, el_m16]
  · refine br_f (by rw [e2]; exact nI_ge (b := 64) (by omega) (by omega)) (nm_e ?_)
    unfold wX_post_36
    rw [nI_1, el_a2, el_a3, el_a4, el_a5, el_a6, el_a7, nI_clamp (by omega), nI_clamp (by omega), nI_clamp (by omega), nI_clamp (by omega), nI_clamp (by omega), nI_clamp (by omega), nI_clamp (by omega), nI_clamp (by omega), nI_clamp (by omega)]
    refine ⟨(vp_in_nI (by omega) (by omega)), nm_e ⟨(vp_in_nI (by omega) (by omega)), nm_e ⟨(vp_in_nI (by omega) (by omega)), nm_e ⟨(vp_in_nI (by omega) (by omega)), (vp_in_nI (by omega) (by omega)), nm_e ⟨(vp_in_nI (by omega) (by omega)), nm_e ⟨(vp_in_nI (by omega) (by omega)), nm_e ⟨(vp_in_nI (by omega) (by omega)), nm_e ⟨(vp_in_nI (by omega) (by omega)), nm_e ?_⟩⟩⟩⟩⟩⟩⟩⟩
    have wq : w + 1 = nI (ql.length + 1) := by rw [e2, nI_1]
    have out : ∀ j, j < q ∨ q + 16 ≤ j → upd (upd (upd (upd (upd (upd (upd (upd a16 q s) (q + 1) (nI fr)) (q + 2) to) (q + 3) (a4 fr)) (q + 4) y4) (q + 5) y5) (q + 6) y6) (q + 7) 0 j = a16 j := by
      intro j hj
      rw [pk_un (by omega), pk_un (by omega), pk_un (by omega), pk_un (by omega), pk_un (by omega), pk_un (by omega), pk_un (by omega), pk_un (by omega)]
    have re : ∀ c16 m' : Nat → Int32, (∀ j, j < q ∨ q + 16 ≤ j → c16 j = upd (upd (upd (upd (upd (upd (upd (upd a16 q s) (q + 1) (nI fr)) (q + 2) to) (q + 3) (a4 fr)) (q + 4) y4) (q + 5) y5) (q + 6) y6) (q + 7) 0 j) → (∀ k, k < 16 → c16 (q + k) = m' k) → el_Qu f (w + 1) c16 (ql ++ [m']) := by
      intro c16 m' h1 h2
      rw [e1, wq]
      refine el_Qu_add hf (by omega) hc (fun j hj => ?_) (fun k hk => ?_)
      · rw [hqd] at hj; rw [h1 j hj, out j hj]
      · rw [hqd]; exact h2 k hk
    refine hp q _ (fun k => upd (upd (upd (upd (upd (upd (upd (upd a16 q s) (q + 1) (nI fr)) (q + 2) to) (q + 3) (a4 fr)) (q + 4) y4) (q + 5) y5) (q + 6) y6) (q + 7) 0 (q + k)) ?_ ?_ ?_ ?_ ?_ ?_ ?_ ?_ (re _ _ (fun j _ => rfl) (fun k _ => rfl)) (by omega) (fun k _ => rfl) re
    · dsimp only [Nat.add_zero]
      rw [pk_un (by omega), pk_un (by omega), pk_un (by omega), pk_un (by omega), pk_un (by omega), pk_un (by omega), pk_un (by omega), pk_us]
    · rw [pk_un (by omega), pk_un (by omega), pk_un (by omega), pk_un (by omega), pk_un (by omega), pk_un (by omega), pk_us]
    · rw [pk_un (by omega), pk_un (by omega), pk_un (by omega), pk_un (by omega), pk_un (by omega), pk_us]
    · rw [pk_un (by omega), pk_un (by omega), pk_un (by omega), pk_un (by omega), pk_us]
    · rw [pk_un (by omega), pk_un (by omega), pk_un (by omega), pk_us]
    · rw [pk_un (by omega), pk_un (by omega), pk_us]
    · rw [pk_un (by omega), pk_us]
    · rw [pk_us]
theorem el_sendTo {post : St1 → Prop} {o nx : Nat} (hn : n < 5) (ho : o < 5) (hd : el_Nd G M n b c M M a7 a8 a9 a10 a11 a12 a13) (hx : a14 (5 * n + o) = nI nx) (h1 : 1 ≤ nx) (h2 : nx ≤ M + 1) (hq : el_Qu f w a16 ql) (hl : ql.length < 8)
    (hp : ∀ b16 m : Nat → Int32, el_Snd G M n o b c nx (a4 n) m → el_Qu f (w + 1) b16 (ql ++ [m]) → post (f, (w + 1), h, x, a1, a2, a3, a4, a5, a6, a7, a8, a9, a10, a11, a12, a13, a14, a15, b16, a17)) : wpX_sendTo post (f, w, h, x, a1, a2, a3, a4, a5, a6, a7, a8, a9, a10, a11, a12, a13, a14, a15, a16, a17) (nI n) (nI o) := by
  have hb := el_Nd_le hd
  have e7 := hd.1
  have e8 := hd.2.1
  have e11 := hd.2.2.2.1
  unfold wpX_sendTo
  dsimp only
  rw [el_m5, nI_add, nI_clamp (by omega), nI_clamp (by omega), hx, e7]
  refine ⟨(vp_in_nI (by omega) (by omega)), nm_e ⟨(vp_in_nI (by omega) (by omega)), pk_lt b nx (fun z => ?_) (fun z => ?_)⟩⟩
  · rw [el_s1 h1, e11]
    refine el_termAt hn hd (by omega) (by omega) ⟨(vp_in_nI (by omega) (by omega)), ?_⟩
    rw [show min (nx - 1) M = nx - 1 by omega]
    refine el_post hq hl hn (fun q b16 m m0 m1 m2 m3 m4 m5 m6 m7 hQ hq2 hm hre => ?_)
    refine el_lastOf hn hd ?_
    refine pk_lt M nx (fun z2 => ?_) (fun z2 => ?_)
    · exact hp b16 m ⟨m1, m2, m3, Or.inr ⟨z, m0, m4, m5, m6, Or.inr ⟨by omega, m7⟩⟩⟩ hQ
    · refine el_cellOf hn e7 z ?_
      rw [el_a7, nI_clamp (by omega)]
      refine ⟨(vp_in_nI (by omega) (by omega)), nm_e ?_⟩
      refine pk_loop (fun m' i s => wX_sendTo_105 post (nI q) (nI (112 * n + 7 * (nx - b - 1))) f (w + 1) h x m' (nI i) a1 a2 a3 a4 a5 a6 a7 a8 a9 a10 a11 a12 a13 a14 a15 s a17) (fun i s => (∀ j, j < q + 7 ∨ q + 15 ≤ j → s j = b16 j) ∧ s (q + 7) = 1 ∧ (∀ k, k < i → s (q + 8 + k) = G nx k)) 7 0 _ (by omega) ⟨fun j hj => pk_un (by omega), pk_us, fun k hk => absurd hk (by omega)⟩ ?_ ?_
      · rintro m' s ⟨h3, h4, h5⟩
        refine pk_le 7 7 (fun _ => ?_) (fun z => absurd z (by omega))
        refine hp s (fun k => s (q + k)) ⟨?_, ?_, ?_, Or.inr ⟨z, ?_, ?_, ?_, ?_, Or.inl ⟨z2, h4, fun k hk => ?_⟩⟩⟩ (hre s _ (fun j hj => h3 j (by omega)) (fun k _ => rfl))
        · dsimp only; rw [h3 _ (by omega), hm _ (by omega), m1]
        · dsimp only; rw [h3 _ (by omega), hm _ (by omega), m2]
        · dsimp only; rw [h3 _ (by omega), hm _ (by omega), m3]
        · dsimp only; rw [h3 _ (by omega), hm _ (by omega), m0]
        · dsimp only; rw [h3 _ (by omega), hm _ (by omega), m4]
        · dsimp only; rw [h3 _ (by omega), hm _ (by omega), m5]
        · dsimp only; rw [h3 _ (by omega), hm _ (by omega), m6]
        · dsimp only; rw [← Nat.add_assoc]; exact h5 k hk
      · rintro m' i s hi ⟨h3, h4, h5⟩ hk
        refine pk_le 7 i (fun z => absurd z (by omega)) (fun _ => ?_)
        rw [nI_add, nI_clamp (by omega), el_a8, nI_add, nI_clamp (by omega)]
        refine ⟨(vp_in_nI (by omega) (by omega)), (vp_in_nI (by omega) (by omega)), nm_e (nm_r (nI_1 i) (hk _ ⟨fun j hj => ?_, ?_, fun k hk => ?_⟩))⟩
        · rw [pk_un (by omega)]; exact h3 j hj
        · rw [pk_un (by omega)]; exact h4
        · by_cases e : k = i
          · subst e; rw [pk_us]; exact el_Nd_lo hd z z2 (by omega)
          · rw [pk_un (by omega)]; exact h5 k (by omega)
  · rw [e8]
    refine ⟨(vp_in_nI (by omega) (by omega)), (vp_in_nI (by omega) (by omega)), ?_⟩
    refine el_post hq hl hn (fun q b16 m m0 m1 m2 m3 m4 m5 m6 m7 hQ hq2 hm hre => ?_)
    exact hp b16 m ⟨m1, m2, m3, Or.inl ⟨z, m0, m4, m5⟩⟩ hQ
end
/-- messages and their nodes, side by side, with weights -/
def el_MQ (R : Nat → (Nat → Int32) → Nat → Prop) : List Nat → List (Nat → Int32) → Nat → Prop
  | [], [], _ => True
  | o :: os, m :: ms, W => ∃ v, v < W ∧ R o m v ∧ el_MQ R os ms (W - v - 1)
  | _, _, _ => False
theorem el_MQ_add {R : Nat → (Nat → Int32) → Nat → Prop} {o v : Nat} {m : Nat → Int32} (hr : R o m v) : ∀ (os : List Nat) (ms : List (Nat → Int32)) (W : Nat), el_MQ R os ms W → el_MQ R (os ++ [o]) (ms ++ [m]) (W + v + 1)
  | [], [], W, _ => ⟨v, by omega, hr, trivial⟩
  | o' :: os, m' :: ms, W, ⟨v', h1, h2, h3⟩ => ⟨v', by omega, h2, by
      have := el_MQ_add hr os ms _ h3
      rw [show W + v + 1 - v' - 1 = W - v' - 1 + v + 1 by omega]; exact this⟩
  | [], _ :: _, _, hh => hh.elim
  | _ :: _, [], _, hh => hh.elim
theorem el_MQ_mono {R R' : Nat → (Nat → Int32) → Nat → Prop} : ∀ (os : List Nat) (ms : List (Nat → Int32)) (W W' : Nat), (∀ o m v, o ∈ os → R o m v → R' o m v) → W ≤ W' → el_MQ R os ms W → el_MQ R' os ms W'
  | [], [], _, _, _, _, _ => trivial
  | o :: os, m :: ms, W, W', hr, hw, ⟨v, h1, h2, h3⟩ => ⟨v, by omega, hr o m v (List.mem_cons_self) h2, el_MQ_mono os ms _ _ (fun o' m' v' ho => hr o' m' v' (List.mem_cons_of_mem _ ho)) (by omega) h3⟩
  | [], _ :: _, _, _, _, _, hh => hh.elim
  | _ :: _, [], _, _, _, _, hh => hh.elim
theorem el_MQ_len {R : Nat → (Nat → Int32) → Nat → Prop} : ∀ (os : List Nat) (ms : List (Nat → Int32)) (W : Nat), el_MQ R os ms W → os.length = ms.length ∧ ms.length ≤ W
  | [], [], _, _ => ⟨rfl, Nat.zero_le _⟩
  | o :: os, m :: ms, W, ⟨v, h1, h2, h3⟩ => by
      have := el_MQ_len os ms _ h3
      refine ⟨by show os.length + 1 = ms.length + 1; omega, by show ms.length + 1 ≤ W; omega⟩
  | [], _ :: _, _, hh => hh.elim
  | _ :: _, [], _, hh => hh.elim
section
variable {f w h x : Int32} {a1 a2 a3 a4 a5 a6 a7 a8 a9 a10 a11 a12 a13 a14 a15 a16 a17 : Nat → Int32} {G : Nat → Nat → Int32} {M K n b c l p : Nat} {B C L P : Nat → Nat} {ql : List (Nat → Int32)}
theorem el_deliverAll {post : St1 → Prop} (J : Nat → List (Nat → Int32) → St1 → Prop) (W : Nat) (hW : W ≤ 5000) (hq : el_Qu f w a16 ql) (hJ : J W ql (f, w, h, x, a1, a2, a3, a4, a5, a6, a7, a8, a9, a10, a11, a12, a13, a14, a15, a16, a17)) (hlen : ∀ W ql s, J W ql s → ql.length ≤ W)
    (hs : ∀ (W : Nat) (m : Nat → Int32) (ql : List (Nat → Int32)) (f w h x : Int32) (a1 a2 a3 a4 a5 a6 a7 a8 a9 a10 a11 a12 a13 a14 a15 a16 a17 : Nat → Int32) (f' w' : Int32) (b17 : Nat → Int32) (post' : St1 → Prop), J W (m :: ql) (f, w, h, x, a1, a2, a3, a4, a5, a6, a7, a8, a9, a10, a11, a12, a13, a14, a15, a16, a17) → el_Qu f' w' a16 ql → ql.length < 8 → (∀ k, k < 16 → b17 k = m k) →
      (∀ (W' : Nat) (ql' : List (Nat → Int32)) (f w h x : Int32) (a1 a2 a3 a4 a5 a6 a7 a8 a9 a10 a11 a12 a13 a14 a15 a16 a17 : Nat → Int32), W' < W → J W' ql' (f, w, h, x, a1, a2, a3, a4, a5, a6, a7, a8, a9, a10, a11, a12, a13, a14, a15, a16, a17) → el_Qu f w a16 ql' → post' (f, w, h, x, a1, a2, a3, a4, a5, a6, a7, a8, a9, a10, a11, a12, a13, a14, a15, a16, a17)) →
      ∃ fr to : Nat, fr < 5 ∧ to < 5 ∧ m 1 = nI fr ∧ m 2 = nI to ∧ (el_jn a1 a2 fr to = true → wpX_deliver post' (f', w', h, x, a1, a2, a3, a4, a5, a6, a7, a8, a9, a10, a11, a12, a13, a14, a15, a16, b17) (m 0) (nI fr) (nI to)) ∧ (el_jn a1 a2 fr to = false → post' (f', w', h, x, a1, a2, a3, a4, a5, a6, a7, a8, a9, a10, a11, a12, a13, a14, a15, a16, b17)))
    (hp : ∀ (W : Nat) (f w h x : Int32) (a1 a2 a3 a4 a5 a6 a7 a8 a9 a10 a11 a12 a13 a14 a15 a16 a17 : Nat → Int32), J W [] (f, w, h, x, a1, a2, a3, a4, a5, a6, a7, a8, a9, a10, a11, a12, a13, a14, a15, a16, a17) → el_Qu f w a16 [] → post (f, w, h, x, a1, a2, a3, a4, a5, a6, a7, a8, a9, a10, a11, a12, a13, a14, a15, a16, a17)) : wpX_deliverAll post (f, w, h, x, a1, a2, a3, a4, a5, a6, a7, a8, a9, a10, a11, a12, a13, a14, a15, a16, a17) := by
  unfold wpX_deliverAll
  dsimp only
  refine pk_loop (fun m i (s : St1) => wX_deliverAll_2 post m (nI i) s.1 s.2.1 s.2.2.1 s.2.2.2.1 s.2.2.2.2.1 s.2.2.2.2.2.1 s.2.2.2.2.2.2.1 s.2.2.2.2.2.2.2.1 s.2.2.2.2.2.2.2.2.1 s.2.2.2.2.2.2.2.2.2.1 s.2.2.2.2.2.2.2.2.2.2.1 s.2.2.2.2.2.2.2.2.2.2.2.1 s.2.2.2.2.2.2.2.2.2.2.2.2.1 s.2.2.2.2.2.2.2.2.2.2.2.2.2.1 s.2.2.2.2.2.2.2.2.2.2.2.2.2.2.1 s.2.2.2.2.2.2.2.2.2.2.2.2.2.2.2.1 s.2.2.2.2.2.2.2.2.2.2.2.2.2.2.2.2.1 s.2.2.2.2.2.2.2.2.2.2.2.2.2.2.2.2.2.1 s.2.2.2.2.2.2.2.2.2.2.2.2.2.2.2.2.2.2.1 s.2.2.2.2.2.2.2.2.2.2.2.2.2.2.2.2.2.2.2.1 s.2.2.2.2.2.2.2.2.2.2.2.2.2.2.2.2.2.2.2.2) (fun i s => ∃ (W : Nat) (ql : List (Nat → Int32)), i + W ≤ 5000 ∧ J W ql (s.1, s.2.1, s.2.2.1, s.2.2.2.1, s.2.2.2.2.1, s.2.2.2.2.2.1, s.2.2.2.2.2.2.1, s.2.2.2.2.2.2.2.1, s.2.2.2.2.2.2.2.2.1, s.2.2.2.2.2.2.2.2.2.1, s.2.2.2.2.2.2.2.2.2.2.1, s.2.2.2.2.2.2.2.2.2.2.2.1, s.2.2.2.2.2.2.2.2.2.2.2.2.1, s.2.2.2.2.2.2.2.2.2.2.2.2.2.1, s.2.2.2.2.2.2.2.2.2.2.2.2.2.2.1, s.2.2.2.2.2.2.2.2.2.2.2.2.2.2.2.1, s.2.2.2.2.2.2.2.2.2.2.2.2.2.2.2.2.1, s.2.2.2.2.2.2.2.2.2.2.2.2.2.2.2.2.2.1, s.2.2.2.2.2.2.2.2.2.2.2.2.2.2.2.2.2.2.1, s.2.2.2.2.2.2.2.2.2.2.2.2.2.2.2.2.2.2.2.1, s.2.2.2.2.2.2.2.2.2.2.2.2.2.2.2.2.2.2.2.2) ∧ el_Qu s.1 s.2.1 s.2.2.2.2.2.2.2.2.2.2.2.2.2.2.2.2.2.2.2.1 ql) 5000 0 (f, w, h, x, a1, a2, a3, a4, a5, a6, a7, a8, a9, a10, a11, a12, a13, a14, a15, a16, a17) (by omega) ⟨W, ql, by omega, hJ, hq⟩ ?_ ?_
  · rintro m ⟨f, w, h, x, a1, a2, a3, a4, a5, a6, a7, a8, a9, a10, a11, a12, a13, a14, a15, a16, a17⟩ ⟨W, ql, h1, h2, h3⟩
    have hl := hlen _ _ _ h2
    refine pk_le 5000 5000 (fun _ => ?_) (fun z => absurd z (by omega))
    have : ql = [] := List.length_eq_zero_iff.mp (by omega)
    subst this
    exact hp W _ _ _ _ _ _ _ _ _ _ _ _ _ _ _ _ _ _ _ _ _ h2 h3
  · rintro m i ⟨f, w, h, x, a1, a2, a3, a4, a5, a6, a7, a8, a9, a10, a11, a12, a13, a14, a15, a16, a17⟩ hi ⟨W, ql, h1, h2, h3⟩ hk
    dsimp only at h2 h3 hk ⊢
    have hl := hlen _ _ _ h2
    unfold wX_deliverAll_2
    refine pk_le 5000 i (fun z => absurd z (by omega)) (fun _ => ?_)
    obtain ⟨fi, hf, e1, e2, hle, hc⟩ := id h3
    match ql, h1, h2, h3, e2, hle, hc with
    | [], h1, h2, h3, e2, hle, hc =>
      rw [e2]
      refine br_t (by decide) ?_
      rw [← e2]
      exact hp W _ _ _ _ _ _ _ _ _ _ _ _ _ _ _ _ _ _ _ _ _ h2 h3
    | mm :: ql, h1, h2, h3, e2, hle, hc =>
      have hln : (mm :: ql).length = ql.length + 1 := rfl
      rw [hln] at e2 hle
      refine br_f (by rw [e2]; exact nI_nle (by omega) (by omega)) ?_
      refine pk_loop (fun m' j s => wX_deliverAll_18 post (wX_deliverAll_2 post m) (nI i) f w h x m' (nI j) a1 a2 a3 a4 a5 a6 a7 a8 a9 a10 a11 a12 a13 a14 a15 a16 s) (fun j s => ∀ k, k < j → s k = mm k) 16 0 _ (by omega) (fun k hk => absurd hk (by omega)) ?_ ?_
      · intro m' s hs'
        unfold wX_deliverAll_18
        refine pk_le 16 16 (fun _ => ⟨by decide, ?_⟩) (fun z => absurd z (by omega))
        have ef : (f + 1) - (f + 1) / 64 * 64 = nI ((fi + 1) % 64) := by
          rw [e1, nI_1]; exact pk_rem (d := 64) (by omega) (by omega) (by omega)
        have ew : w - 1 = nI ql.length := by rw [e2]; exact nI_pred _
        refine nm_r ef (nm_r ew ?_)
        have hQ : el_Qu (nI ((fi + 1) % 64)) (nI ql.length) a16 ql := by
          refine ⟨(fi + 1) % 64, Nat.mod_lt _ (by omega), rfl, rfl, by omega, fun i m hi k hk => ?_⟩
          rw [show ((fi + 1) % 64 + i) % 64 = (fi + (i + 1)) % 64 by omega]
          exact hc (i + 1) m hi k hk
        obtain ⟨fr, to, hfr, hto, m1, m2, hdel, hnot⟩ := hs W mm ql f w h x a1 a2 a3 a4 a5 a6 a7 a8 a9 a10 a11 a12 a13 a14 a15 a16 a17 (nI ((fi + 1) % 64)) (nI ql.length) s (fun u => match u with | (f, w, h, x, a1, a2, a3, a4, a5, a6, a7, a8, a9, a10, a11, a12, a13, a14, a15, a16, a17) => (∀ y : Int32, y = nI i + 1 → wX_deliverAll_2 post m y f w h x a1 a2 a3 a4 a5 a6 a7 a8 a9 a10 a11 a12 a13 a14 a15 a16 a17)) h2 hQ (by omega) (fun k hk => hs' k hk) (by
          intro W' ql' f w h x a1 a2 a3 a4 a5 a6 a7 a8 a9 a10 a11 a12 a13 a14 a15 a16 a17 hW' hJ' hq'
          exact nm_r (nI_1 i) (hk (f, w, h, x, a1, a2, a3, a4, a5, a6, a7, a8, a9, a10, a11, a12, a13, a14, a15, a16, a17) ⟨W', ql', by omega, hJ', hq'⟩))
        rw [hs' 0 (by omega), hs' 1 (by omega), hs' 2 (by omega), m1, m2]
        refine el_areJoined hfr hto (fun z => br_f (by decide) ?_) (fun z => br_t rfl ?_)
        · exact hdel z
        · exact hnot z
      · intro m' j s hj hs' hk'
        refine pk_le 16 j (fun z => absurd z (by omega)) (fun _ => ?_)
        rw [e1, el_m16, nI_add, nI_clamp (by omega), nI_clamp (by omega)]
        refine ⟨(vp_in_nI (by omega) (by omega)), (vp_in_nI (by omega) (by omega)), nm_e (nm_r (nI_1 j) ?_)⟩
        rw [← e1]
        refine hk' _ (fun k hk => ?_)
        by_cases e : k = j
        · subst e; rw [pk_us]
          have := hc 0 mm rfl k (by omega)
          rw [show (fi + 0) % 64 = fi by omega] at this
          exact this
        · rw [pk_un e]; exact hs' k (by omega)
end
end
section
/-! changes of one node's log: fold, newEntry, takeEntry -/
/-- only node n's places differ -/
def el_Fr (n : Nat) (a7 a8 a9 a10 a11 a12 a13 b7 b8 b9 b10 b11 b12 b13 : Nat → Int32) : Prop :=
  (∀ j, j ≠ n → b7 j = a7 j ∧ b8 j = a8 j ∧ b9 j = a9 j ∧ b11 j = a11 j) ∧ (∀ j, j < 112 * n ∨ 112 * n + 112 ≤ j → b10 j = a10 j) ∧ (∀ j, j < 15 * n ∨ 15 * n + 15 ≤ j → b12 j = a12 j ∧ b13 j = a13 j)
theorem el_Fr_rfl {n : Nat} {a7 a8 a9 a10 a11 a12 a13 : Nat → Int32} : el_Fr n a7 a8 a9 a10 a11 a12 a13 a7 a8 a9 a10 a11 a12 a13 := ⟨fun _ _ => ⟨rfl, rfl, rfl, rfl⟩, fun _ _ => rfl, fun _ _ => ⟨rfl, rfl⟩⟩
theorem el_Fr_tr {n : Nat} {a7 a8 a9 a10 a11 a12 a13 b7 b8 b9 b10 b11 b12 b13 c7 c8 c9 c10 c11 c12 c13 : Nat → Int32} (h : el_Fr n a7 a8 a9 a10 a11 a12 a13 b7 b8 b9 b10 b11 b12 b13) (h2 : el_Fr n b7 b8 b9 b10 b11 b12 b13 c7 c8 c9 c10 c11 c12 c13) : el_Fr n a7 a8 a9 a10 a11 a12 a13 c7 c8 c9 c10 c11 c12 c13 := by
  obtain ⟨p1, p2, p3⟩ := h
  obtain ⟨q1, q2, q3⟩ := h2
  refine ⟨fun j hj => ?_, fun j hj => (q2 j hj).trans (p2 j hj), fun j hj => ⟨(q3 j hj).1.trans (p3 j hj).1, (q3 j hj).2.trans (p3 j hj).2⟩⟩
  obtain ⟨u1, u2, u3, u4⟩ := p1 j hj
  obtain ⟨v1, v2, v3, v4⟩ := q1 j hj
  exact ⟨v1.trans u1, v2.trans u2, v3.trans u3, v4.trans u4⟩
def el_up (g : Nat → Nat) (n v : Nat) : Nat → Nat := fun m => if m = n then v else g m
theorem el_up_s {g : Nat → Nat} {n v : Nat} : el_up g n v n = v := by unfold el_up; rw [if_pos rfl]
theorem el_up_n {g : Nat → Nat} {n v m : Nat} (h : m ≠ n) : el_up g n v m = g m := by unfold el_up; rw [if_neg h]
theorem el_Nd_Fr {G : Nat → Nat → Int32} {M m n b c l p : Nat} {a7 a8 a9 a10 a11 a12 a13 b7 b8 b9 b10 b11 b12 b13 : Nat → Int32} (h : el_Nd G M m b c l p a7 a8 a9 a10 a11 a12 a13) (hf : el_Fr n a7 a8 a9 a10 a11 a12 a13 b7 b8 b9 b10 b11 b12 b13) (hm : m ≠ n) : el_Nd G M m b c l p b7 b8 b9 b10 b11 b12 b13 := by
  obtain ⟨p1, p2, p3⟩ := hf
  obtain ⟨u1, u2, u3, u4⟩ := p1 m hm
  exact el_Nd_fr h u1 u2 u3 (fun k hk => p2 _ (by omega)) u4 (fun k hk => (p3 _ (by omega)).1) (fun k hk => (p3 _ (by omega)).2)
theorem el_LG_up {G : Nat → Nat → Int32} {M n b c l p : Nat} {B C L P : Nat → Nat} {a7 a8 a9 a10 a11 a12 a13 b7 b8 b9 b10 b11 b12 b13 : Nat → Int32} (h : el_LG G M B C L P a7 a8 a9 a10 a11 a12 a13) (hd : el_Nd G M n b c l p b7 b8 b9 b10 b11 b12 b13) (hf : el_Fr n a7 a8 a9 a10 a11 a12 a13 b7 b8 b9 b10 b11 b12 b13) : el_LG G M (el_up B n b) (el_up C n c) (el_up L n l) (el_up P n p) b7 b8 b9 b10 b11 b12 b13 := by
  intro m hm
  by_cases e : m = n
  · subst e; rw [el_up_s, el_up_s, el_up_s, el_up_s]; exact hd
  · rw [el_up_n e, el_up_n e, el_up_n e, el_up_n e]; exact el_Nd_Fr (h m hm) hf e
section
variable {f w h x : Int32} {a1 a2 a3 a4 a5 a6 a7 a8 a9 a10 a11 a12 a13 a14 a15 a16 a17 : Nat → Int32} {G : Nat → Nat → Int32} {M K n b c l p : Nat} {B C L P : Nat → Nat}
theorem el_fold {post : St1 → Prop} (hn : n < 5) (hd : el_Nd G M n b c l p a7 a8 a9 a10 a11 a12 a13)
    (hp : ∀ b7 b8 b9 b10 b13 : Nat → Int32, el_Nd G M n c c l p b7 b8 b9 b10 a11 a12 b13 → el_Fr n a7 a8 a9 a10 a11 a12 a13 b7 b8 b9 b10 a11 a12 b13 → (∀ i k, c < i → i ≤ l → k < 7 → b10 (112 * n + 7 * (i - c - 1) + k) = a10 (112 * n + 7 * (i - b - 1) + k)) → post (f, w, h, x, a1, a2, a3, a4, a5, a6, b7, b8, b9, b10, a11, a12, b13, a14, a15, a16, a17)) : wpX_fold post (f, w, h, x, a1, a2, a3, a4, a5, a6, a7, a8, a9, a10, a11, a12, a13, a14, a15, a16, a17) (nI n) := by
  have hb := el_Nd_le hd
  obtain ⟨k7, k8, k9, k11, kb, k10, k12, k13, kt⟩ := id hd
  unfold wpX_fold
  dsimp only
  rw [nI_clamp (by omega), k7, k11, pk_sub (by omega)]
  refine ⟨(vp_in_nI (by omega) (by omega)), (vp_in_nI (by omega) (by omega)), nm_e (pk_eq (c - b) 0 (fun z => ?_) (fun z => ⟨(vp_in_nI (by omega) (by omega)), ?_⟩))⟩
  · have : b = c := by omega
    subst this
    exact hp _ _ _ _ _ hd el_Fr_rfl (fun _ _ _ _ _ => rfl)
  · refine el_termAt hn hd (by omega) (by omega) ⟨(vp_in_nI (by omega) (by omega)), nm_e (nm_r (e' := nI (112 * n + 0)) ?_ ?_)⟩
    · rw [Nat.add_zero]; exact pk_mul 112 n
    rw [show min c p = c by omega]
    refine pk_loop (fun m j s => wX_fold_41 post (nI n) (nI (c - b)) f w h x m (nI (112 * n + j)) a1 a2 a3 a4 a5 a6 a7 (upd a8 n (G c 0)) a9 s a11 a12 a13 a14 a15 a16 a17) (fun j s => (∀ t, t < 112 → s (112 * n + t) = if t < j then a10 (112 * n + t + 7 * (c - b)) else a10 (112 * n + t)) ∧ (∀ t, t < 112 * n ∨ 112 * n + 112 ≤ t → s t = a10 t)) (7 * (l - c)) 0 _ (by omega) ⟨fun t ht => by rw [if_neg (by omega)], fun t ht => rfl⟩ ?_ ?_
    · rintro m s ⟨hs1, hs2⟩
      unfold wX_fold_41
      rw [nI_clamp (by omega), k9, el_m16, nI_add, pk_sub (by omega), el_m7, show 7 * (16 * n + (l - b) - (c - b)) = 112 * n + 7 * (l - c) by omega]
      refine ⟨(vp_in_nI (by omega) (by omega)), pk_le (112 * n + 7 * (l - c)) (112 * n + 7 * (l - c)) (fun _ => ⟨(vp_in_nI (by omega) (by omega)), (vp_in_nI (by omega) (by omega)), nm_r (e' := upd a9 n (nI (l - c))) (by rw [pk_sub (by omega), show l - b - (c - b) = l - c by omega]) ⟨(vp_in_nI (by omega) (by omega)), (vp_in_nI (by omega) (by omega)), nm_r (e' := upd a7 n (nI c)) (by rw [k11]) ?_⟩⟩) (fun z => absurd z (by omega))⟩
      refine pk_loop (fun m j s' => wX_fold_108 post (nI n) f w h x m (nI j) a1 a2 a3 a4 a5 a6 (upd a7 n (nI c)) (upd a8 n (G c 0)) (upd a9 n (nI (l - c))) s a11 a12 s' a14 a15 a16 a17) (fun j s' => (∀ t, t < j → s' (15 * n + t) = a12 (15 * n + t)) ∧ (∀ t, t < 15 * n ∨ 15 * n + 15 ≤ t → s' t = a13 t)) 15 0 _ (by omega) ⟨fun t ht => absurd ht (by omega), fun t ht => rfl⟩ ?_ ?_
      · rintro m' s' ⟨hs3, hs4⟩
        refine pk_le 15 15 (fun _ => hp _ _ _ _ _ ?_ ?_ ?_) (fun z => absurd z (by omega))
        · refine ⟨pk_us, pk_us, pk_us, k11, by omega, fun i k z1 z2 z3 => ?_, k12, fun k hk => by rw [hs3 k hk]; exact k12 k hk, ?_⟩
          · rw [Nat.add_assoc, hs1 _ (by omega), if_pos (by omega), ← Nat.add_assoc, show 112 * n + 7 * (i - c - 1) + k + 7 * (c - b) = 112 * n + 7 * (i - b - 1) + k by omega]
            exact k10 i k (by omega) z2 z3
          · rcases kt with z | ⟨z1, z2, ⟨t1, t2, t3⟩⟩
            · exact Or.inl z
            · refine Or.inr ⟨z1, z2, ?_⟩
              have cell : ∀ k, k < 7 → s (112 * n + 7 * (c - c) + k) = a10 (112 * n + 7 * (c - b) + k) := by
                intro k hk
                rw [Nat.add_assoc, hs1 _ (by omega), if_pos (by omega), show 112 * n + (7 * (c - c) + k) + 7 * (c - b) = 112 * n + 7 * (c - b) + k by omega]
              unfold el_Tail el_Cmd at *
              dsimp only at *
              rw [cell 0 (by omega), cell 1 (by omega), cell 2 (by omega), cell 3 (by omega), cell 4 (by omega)]
              exact ⟨t1, t2, t3⟩
        · exact ⟨fun j hj => ⟨pk_un hj, pk_un hj, pk_un hj, rfl⟩, hs2, fun j hj => ⟨rfl, hs4 j hj⟩⟩
        · intro i k z1 z2 z3
          rw [Nat.add_assoc, hs1 _ (by omega), if_pos (by omega), ← Nat.add_assoc, show 112 * n + 7 * (i - c - 1) + k + 7 * (c - b) = 112 * n + 7 * (i - b - 1) + k by omega]
      · rintro m' j s' hj ⟨hs3, hs4⟩ hk
        refine pk_le 15 j (fun z => absurd z (by omega)) (fun _ => ?_)
        rw [el_m15, nI_add, nI_clamp (by omega)]
        refine ⟨(vp_in_nI (by omega) (by omega)), (vp_in_nI (by omega) (by omega)), nm_e (nm_r (nI_1 j) (hk _ ⟨fun t ht => ?_, fun t ht => ?_⟩))⟩
        · by_cases e : t = j
          · subst e; rw [pk_us]
          · rw [pk_un (by omega)]; exact hs3 t (by omega)
        · rw [pk_un (by omega)]; exact hs4 t ht
    · rintro m j s hj ⟨hs1, hs2⟩ hk
      unfold wX_fold_41
      rw [nI_clamp (by omega), k9, el_m16, nI_add, pk_sub (by omega), el_m7, show 7 * (16 * n + (l - b) - (c - b)) = 112 * n + 7 * (l - c) by omega]
      refine ⟨(vp_in_nI (by omega) (by omega)), pk_le (112 * n + 7 * (l - c)) (112 * n + j) (fun z => absurd z (by omega)) (fun _ => ?_)⟩
      rw [el_m7, nI_add, nI_clamp (by omega), nI_clamp (by omega)]
      refine ⟨(vp_in_nI (by omega) (by omega)), (vp_in_nI (by omega) (by omega)), nm_e (nm_r (nI_1 _) (hk _ ⟨fun t ht => ?_, fun t ht => ?_⟩))⟩
      · by_cases e : t = j
        · subst e
          rw [pk_us, if_pos (by omega), show 112 * n + t + 7 * (c - b) = 112 * n + (t + 7 * (c - b)) by omega, hs1 _ (by omega), if_neg (by omega)]
        · rw [pk_un (by omega), hs1 t ht]
          by_cases e2 : t < j
          · rw [if_pos e2, if_pos (by omega)]
          · rw [if_neg e2, if_neg (by omega)]
      · rw [pk_un (by omega)]; exact hs2 t ht
/-- one place more behind the last entry: its cell -/
theorem el_newEntry {post : Int32 → St1 → Prop} (hn : n < 5) (hd : el_Nd G M n b c l p a7 a8 a9 a10 a11 a12 a13)
    (hp : ∀ (b' : Nat) (b7 b8 b9 b10 b13 : Nat → Int32), b' ≤ l → l + 1 ≤ b' + 16 → el_Nd G M n b' c l p b7 b8 b9 b10 a11 a12 b13 → el_Fr n a7 a8 a9 a10 a11 a12 a13 b7 b8 b9 b10 a11 a12 b13 → (∀ i k, b' < i → i ≤ l → k < 7 → b10 (112 * n + 7 * (i - b' - 1) + k) = a10 (112 * n + 7 * (i - b - 1) + k)) → post (nI (112 * n + 7 * (l - b'))) (f, w, h, x, a1, a2, a3, a4, a5, a6, b7, b8, (upd b9 n (nI (l + 1 - b'))), b10, a11, a12, b13, a14, a15, a16, a17)) : wpX_newEntry post (f, w, h, x, a1, a2, a3, a4, a5, a6, a7, a8, a9, a10, a11, a12, a13, a14, a15, a16, a17) (nI n) := by
  have hb := el_Nd_le hd
  have fin : ∀ (b' : Nat) (b7 b8 b9 b10 b13 : Nat → Int32), b' ≤ l → l + 1 ≤ b' + 16 → el_Nd G M n b' c l p b7 b8 b9 b10 a11 a12 b13 → el_Fr n a7 a8 a9 a10 a11 a12 a13 b7 b8 b9 b10 a11 a12 b13 → (∀ i k, b' < i → i ≤ l → k < 7 → b10 (112 * n + 7 * (i - b' - 1) + k) = a10 (112 * n + 7 * (i - b - 1) + k)) → wX_newEntry_16 post (nI n) f w h x a1 a2 a3 a4 a5 a6 b7 b8 b9 b10 a11 a12 b13 a14 a15 a16 a17 := by
    intro b' b7 b8 b9 b10 b13 h1 h2 h3 h4 h5
    unfold wX_newEntry_16
    rw [nI_clamp (by omega), h3.2.2.1]
    refine ⟨(vp_in_nI (by omega) (by omega)), (vp_in_nI (by omega) (by omega)), nm_r (e' := upd b9 n (nI (l + 1 - b'))) (by rw [nI_1, show l - b' + 1 = l + 1 - b' by omega]) ?_⟩
    unfold wpX_lastOf
    dsimp only
    rw [nI_clamp (by omega), pk_us, h3.1, nI_add, show b' + (l + 1 - b') = l + 1 by omega]
    refine ⟨(vp_in_nI (by omega) (by omega)), (vp_in_nI (by omega) (by omega)), ?_⟩
    refine el_cellOf hn h3.1 (by omega) ?_
    rw [show l + 1 - b' - 1 = l - b' by omega]
    exact hp b' b7 b8 b9 b10 b13 h1 h2 h3 h4 h5
  unfold wpX_newEntry
  dsimp only
  rw [nI_clamp (by omega), hd.2.2.1]
  refine ⟨(vp_in_nI (by omega) (by omega)), pk_eq (l - b) 16 (fun z => ?_) (fun z => ?_)⟩
  · exact el_fold hn hd (fun b7 b8 b9 b10 b13 h1 h2 h3 => fin c b7 b8 b9 b10 b13 (by omega) (by omega) h1 h2 h3)
  · exact fin b a7 a8 a9 a10 a13 (by omega) (by omega) hd el_Fr_rfl (fun _ _ _ _ _ => rfl)
/-- an entry written behind the last one -/
theorem el_Nd_put {G' : Nat → Nat → Int32} {M' : Nat} {b9' b10' : Nat → Int32} (hd : el_Nd G M n b c l l a7 a8 a9 a10 a11 a12 a13) (hM : l + 1 ≤ M') (hM' : M' ≤ 1000000) (hl : l + 1 ≤ b + 16) (hc : l + 1 ≤ c + 3) (hG : ∀ i, i ≤ l → G' i = G i) (h9 : b9' n = nI (l + 1 - b)) (ho : ∀ k, k < 7 * (l - b) → b10' (112 * n + k) = a10 (112 * n + k)) (hw : ∀ k, k < 7 → b10' (112 * n + 7 * (l - b) + k) = G' (l + 1) k) : el_Nd G' M' n b c (l + 1) (l + 1) a7 a8 b9' b10' a11 a12 a13 := by
  have hb := el_Nd_le hd
  obtain ⟨k7, k8, k9, k11, kb, k10, k12, k13, kt⟩ := hd
  have ea : ∀ i, i ≤ l → el_ap G' i = el_ap G i := fun i hi => el_ap_congr i (fun j hj => hG j (by omega))
  refine ⟨k7, by rw [hG b (by omega)]; exact k8, h9, k11, by omega, fun i k z1 z2 z3 => ?_, fun k hk => by rw [ea c (by omega)]; exact k12 k hk, fun k hk => by rw [ea b (by omega)]; exact k13 k hk, Or.inl rfl⟩
  by_cases e : i = l + 1
  · subst e
    rw [show l + 1 - b - 1 = l - b by omega]; exact hw k z3
  · rw [hG i (by omega), Nat.add_assoc, ho _ (by omega), ← Nat.add_assoc]
    exact k10 i k z1 (by omega) z3
theorem el_takeEntry {post : St1 → Prop} {idx : Nat} (hn : n < 5) (hd : el_Nd G M n b c l p a7 a8 a9 a10 a11 a12 a13) (hw : el_WF G M K) (h1 : b < idx) (h2 : idx ≤ p + 1) (h3 : idx ≤ M) (h4 : p ≤ c + 2) (hm : ∀ k, k < 7 → a17 (8 + k) = G idx k)
    (hp : ∀ (b' l' p' : Nat) (b7 b8 b9 b10 b13 : Nat → Int32), el_Nd G M n b' c l' p' b7 b8 b9 b10 a11 a12 b13 → el_Fr n a7 a8 a9 a10 a11 a12 a13 b7 b8 b9 b10 a11 a12 b13 → (l' = l ∧ p' = p ∧ idx ≤ p) ∨ (l' = idx ∧ p' = idx ∧ idx = p + 1) → post (f, w, h, x, a1, a2, a3, a4, a5, a6, b7, b8, b9, b10, a11, a12, b13, a14, a15, a16, a17)) : wpX_takeEntry post (f, w, h, x, a1, a2, a3, a4, a5, a6, a7, a8, a9, a10, a11, a12, a13, a14, a15, a16, a17) (nI n) (nI idx) := by
  have hb := el_Nd_le hd
  have tk : idx = p + 1 → wX_takeEntry_26 post (nI n) (nI idx) f w h x a1 a2 a3 a4 a5 a6 a7 a8 a9 a10 a11 a12 a13 a14 a15 a16 a17 := by
    intro e
    unfold wX_takeEntry_26
    rw [nI_clamp (by omega), hd.1, el_s1 (by omega), pk_sub (by omega)]
    refine ⟨(vp_in_nI (by omega) (by omega)), (vp_in_nI (by omega) (by omega)), nm_e ?_⟩
    have hd2 : el_Nd G M n b c p p a7 a8 (upd a9 n (nI (idx - 1 - b))) a10 a11 a12 a13 := by
      obtain ⟨k7, k8, k9, k11, kb, k10, k12, k13, kt⟩ := hd
      exact ⟨k7, k8, by rw [pk_us, show idx - 1 - b = p - b by omega], k11, by omega, k10, k12, k13, Or.inl rfl⟩
    refine el_newEntry hn hd2 (fun b' b7 b8 b9 b10 b13 q1 q2 q3 q4 _ => ?_)
    have hb' := el_Nd_le q3
    refine pk_loop (fun m i s => wX_takeEntry_51 post (nI (112 * n + 7 * (p - b'))) f w h x m (nI i) a1 a2 a3 a4 a5 a6 b7 b8 (upd b9 n (nI (p + 1 - b'))) s a11 a12 b13 a14 a15 a16 a17) (fun i s => (∀ j, j < 112 * n + 7 * (p - b') ∨ 112 * n + 7 * (p - b') + 7 ≤ j → s j = b10 j) ∧ (∀ k, k < i → s (112 * n + 7 * (p - b') + k) = G idx k)) 7 0 _ (by omega) ⟨fun j _ => rfl, fun k hk => absurd hk (by omega)⟩ ?_ ?_
    · rintro m s ⟨s1, s2⟩
      refine pk_le 7 7 (fun _ => ?_) (fun z => absurd z (by omega))
      refine hp b' idx idx _ _ _ _ _ ?_ ?_ (Or.inr ⟨rfl, rfl, e⟩)
      · have := el_Nd_put (G' := G) (M' := M) (b9' := upd b9 n (nI (p + 1 - b'))) (b10' := s) q3 (by omega) (by omega) (by omega) (by omega) (fun _ _ => rfl) pk_us (fun k hk => s1 _ (by omega)) (fun k hk => by rw [← e]; exact s2 k hk)
        rw [e]; exact this
      · obtain ⟨u1, u2, u3⟩ := q4
        refine ⟨fun j hj => ?_, fun j hj => by rw [s1 j (by omega)]; exact u2 j hj, u3⟩
        obtain ⟨v1, v2, v3, v4⟩ := u1 j hj
        exact ⟨v1, v2, by rw [pk_un hj, v3, pk_un hj], v4⟩
    · rintro m i s hi ⟨s1, s2⟩ hk
      refine pk_le 7 i (fun z => absurd z (by omega)) (fun _ => ?_)
      have e8 : 8 + nI i = nI (8 + i) := nI_add 8 i
      rw [e8, nI_add, nI_clamp (by omega), nI_clamp (by omega)]
      refine ⟨(vp_in_nI (by omega) (by omega)), (vp_in_nI (by omega) (by omega)), nm_e (nm_r (nI_1 i) (hk _ ⟨fun j hj => ?_, fun k hk => ?_⟩))⟩
      · rw [pk_un (by omega)]; exact s1 j hj
      · by_cases ek : k = i
        · subst ek; rw [pk_us]; exact hm k (by omega)
        · rw [pk_un (by omega)]; exact s2 k (by omega)
  unfold wpX_takeEntry
  dsimp only
  refine el_lastOf hn hd ?_
  refine pk_lt l idx (fun z => tk (by omega)) (fun z => ?_)
  refine el_termAt hn hd (by omega) z ?_
  have m8 := hm 0 (by omega)
  rw [Nat.add_zero] at m8
  rw [m8]
  by_cases e : idx ≤ p
  · rw [show min idx p = idx by omega]
    exact br_t rfl (hp b l p _ _ _ _ _ hd el_Fr_rfl (Or.inl ⟨rfl, rfl, e⟩))
  · obtain ⟨t1, t2, t3, t4, t5⟩ := el_Nd_tl hd (by omega)
    rw [show min idx p = c by omega]
    refine br_f ?_ (tk (by omega))
    have g1 := hw.2.2.2.1 c (by omega)
    have g2 := hw.2.2.2.1 idx h3
    have g3 := t5 (by omega)
    have g4 := hw.1
    rw [show c + 1 = idx by omega] at g3
    rw [g1.1, g2.1, nI_eq (by omega) (by omega)]
    omega
end
end
section
/-! what a follower does with a leader's message -/
section
variable {f w h x : Int32} {a1 a2 a3 a4 a5 a6 a7 a8 a9 a10 a11 a12 a13 a14 a15 a16 a17 : Nat → Int32} {G : Nat → Nat → Int32} {M K n b c l p : Nat} {B C L P : Nat → Nat} {ql : List (Nat → Int32)}
theorem el_enterTerm {post : St1 → Prop} {t t0 : Nat} (hn : n < 5) (h4 : a4 n = nI t0) (ht : t < 2 ^ 31) (ht0 : t0 < 2 ^ 31) (hp0 : t ≤ t0 → post (f, w, h, x, a1, a2, a3, a4, a5, a6, a7, a8, a9, a10, a11, a12, a13, a14, a15, a16, a17)) (hp1 : t0 < t → post (f, w, h, x, a1, a2, (upd a3 n 0), (upd a4 n (nI t)), (upd a5 n (-1)), a6, a7, a8, a9, a10, a11, a12, a13, a14, a15, a16, a17)) : wpX_enterTerm post (f, w, h, x, a1, a2, a3, a4, a5, a6, a7, a8, a9, a10, a11, a12, a13, a14, a15, a16, a17) (nI n) (nI t) := by
  unfold wpX_enterTerm
  dsimp only
  rw [nI_clamp (by omega), h4]
  exact ⟨(vp_in_nI (by omega) (by omega)), pk_le t t0 hp0 (fun z => ⟨(vp_in_nI (by omega) (by omega)), nm_e ⟨(vp_in_nI (by omega) (by omega)), nm_e ⟨(vp_in_nI (by omega) (by omega)), nm_e (hp1 z)⟩⟩⟩)⟩
theorem el_enterTerm' {post : St1 → Prop} {t t0 : Nat} (hn : n < 5) (h4 : a4 n = nI t0) (ht : t < 2 ^ 31) (ht0 : t0 < 2 ^ 31)
    (hp : ∀ b3 b4 b5 : Nat → Int32, (∀ j, j ≠ n → b3 j = a3 j) → (∀ j, j ≠ n → b4 j = a4 j) → (∀ j, j ≠ n → b5 j = a5 j) → b4 n = nI (max t0 t) → (t0 < t → b3 n = 0 ∧ b5 n = -1) → (t ≤ t0 → b3 n = a3 n ∧ b5 n = a5 n) → post (f, w, h, x, a1, a2, b3, b4, b5, a6, a7, a8, a9, a10, a11, a12, a13, a14, a15, a16, a17)) : wpX_enterTerm post (f, w, h, x, a1, a2, a3, a4, a5, a6, a7, a8, a9, a10, a11, a12, a13, a14, a15, a16, a17) (nI n) (nI t) := by
  refine el_enterTerm hn h4 ht ht0 (fun z => ?_) (fun z => ?_)
  · exact hp a3 a4 a5 (fun _ _ => rfl) (fun _ _ => rfl) (fun _ _ => rfl) (by rw [h4, show max t0 t = t0 by omega]) (fun q => absurd q (by omega)) (fun _ => ⟨rfl, rfl⟩)
  · exact hp _ _ _ (fun j hj => pk_un hj) (fun j hj => pk_un hj) (fun j hj => pk_un hj) (by rw [pk_us, show max t0 t = t by omega]) (fun _ => ⟨pk_us, pk_us⟩) (fun q => absurd q (by omega))
/-- a reply of node n to fr: it has all up to hh, or lacks what is behind hh -/
def el_Rep (fr n bf : Nat) (M q p' c' p : Nat) (m : Nat → Int32) : Prop :=
  m 1 = nI n ∧ m 2 = nI fr ∧ ((m 0 = 6 ∧ ∃ hh, m 4 = nI hh ∧ hh ≤ p' ∧ bf ≤ hh ∧ (bf < M → bf < hh) ∧ (hh = M → q ≤ c')) ∨ (m 0 = 7 ∧ p < bf ∧ p' = p ∧ ∃ hh, m 4 = nI hh ∧ p ≤ hh ∧ hh < bf))
theorem el_append {post : St1 → Prop} {fr t t0 bf q : Nat} (hfr : fr < 5) (hn : n < 5) (hd : el_Nd G M n b c l p a7 a8 a9 a10 a11 a12 a13) (hw : el_WF G M K) (hlc : l ≤ c + 2) (h4 : a4 n = nI t0) (ht : t0 ≤ t) (htK : t ≤ K)
    (m3 : a17 3 = nI t) (m4 : a17 4 = nI bf) (m5 : a17 5 = G bf 0) (m6 : a17 6 = nI q) (hbf : bf ≤ M) (hq : q ≤ M) (hq2 : M ≤ q + 2) (m7 : (bf + 1 ≤ M ∧ a17 7 = 1 ∧ ∀ k, k < 7 → a17 (8 + k) = G (bf + 1) k) ∨ (bf = M ∧ a17 7 = 0)) (hQ : el_Qu f w a16 ql) (hql : ql.length < 8)
    (hp : ∀ (b3 b4 b5 b7 b8 b9 b10 b11 b12 b13 b16 m : Nat → Int32) (b' c' l' p' : Nat), (∀ j, j ≠ n → b3 j = a3 j) → b3 n = 0 → (∀ j, j ≠ n → b4 j = a4 j) → b4 n = nI t → el_Nd G M n b' c' l' p' b7 b8 b9 b10 b11 b12 b13 → el_Fr n a7 a8 a9 a10 a11 a12 a13 b7 b8 b9 b10 b11 b12 b13 → c ≤ c' → p ≤ p' → (p' < l' → l' = l ∧ c' = c ∧ p' = p) → l' ≤ c' + 2 → el_Qu f (w + 1) b16 (ql ++ [m]) → el_Rep fr n bf M q p' c' p m → post (f, (w + 1), h, x, a1, a2, b3, b4, b5, a6, b7, b8, b9, b10, b11, b12, b13, a14, a15, b16, a17)) : wpX_append post (f, w, h, x, a1, a2, a3, a4, a5, a6, a7, a8, a9, a10, a11, a12, a13, a14, a15, a16, a17) (nI fr) (nI n) := by
  have hb := el_Nd_le hd
  have hK := hw.1
  unfold wpX_append
  dsimp only
  rw [nI_clamp (by omega), h4, m3]
  refine ⟨(vp_in_nI (by omega) (by omega)), pk_le t0 t (fun _ => ?_) (fun z => absurd z (by omega))⟩
  refine el_enterTerm' hn h4 (by omega) (by omega) (fun b3 b4 b5 e3 e4 _ e4n _ _ => ?_)
  rw [show max t0 t = t by omega] at e4n
  dsimp only
  rw [m4, m5, hd.1]
  refine ⟨(vp_in_nI (by omega) (by omega)), nm_e (nm_e ⟨(vp_in_nI (by omega) (by omega)), pk_le b bf (fun z1 => ?_) (fun z1 => ⟨(vp_in_nI (by omega) (by omega)), ?_⟩)⟩)⟩
  · have o3 : ∀ j, j ≠ n → upd b3 n 0 j = a3 j := fun j hj => by rw [pk_un hj]; exact e3 j hj
    have lack : p < bf → wX_append_93 post (nI fr) (nI n) (nI bf) f w h x a1 a2 (upd b3 n 0) b4 b5 a6 a7 a8 a9 a10 a11 a12 a13 a14 a15 a16 a17 := by
      intro zz
      have snd : ∀ hh, p ≤ hh → hh < bf → wX_append_115 post (nI fr) (nI n) (nI hh) f w h x a1 a2 (upd b3 n 0) b4 b5 a6 a7 a8 a9 a10 a11 a12 a13 a14 a15 a16 a17 := by
        intro hh g1 g2
        unfold wX_append_115
        refine el_post hQ hql hn (fun q' b16 m n0 n1 n2 n3 n4 n5 n6 n7 hQ' _ _ _ => ?_)
        exact hp (upd b3 n 0) b4 b5 _ _ _ _ _ _ _ b16 m b c l p o3 pk_us e4 e4n hd el_Fr_rfl (by omega) (by omega) (fun _ => ⟨rfl, rfl, rfl⟩) hlc hQ' ⟨n1, n2, Or.inr ⟨n0, zz, rfl, hh, n4, g1, g2⟩⟩
      unfold wX_append_93
      refine el_lastOf hn hd ?_
      rw [el_s1 (by omega)]
      refine pk_le l (bf - 1) (fun z2 => ?_) (fun z2 => snd _ (by omega) (by omega))
      refine el_lastOf hn hd ?_
      exact snd _ (by omega) (by omega)
    have tail157 : ∀ (hs b' l' p' : Nat) (b7 b8 b9 b10 b13 : Nat → Int32), el_Nd G M n b' c l' p' b7 b8 b9 b10 a11 a12 b13 → el_Fr n a7 a8 a9 a10 a11 a12 a13 b7 b8 b9 b10 a11 a12 b13 → p ≤ p' → hs ≤ p' → bf ≤ hs → (bf < M → bf < hs) → (p' < l' → l' = l ∧ p' = p ∧ hs ≤ p) → (l' ≤ c + 2 ∨ l' ≤ hs) → wX_append_157 post (nI fr) (nI n) (nI hs) f w h x a1 a2 (upd b3 n 0) b4 b5 a6 b7 b8 b9 b10 a11 a12 b13 a14 a15 a16 a17 := by
      intro hs b' l' p' b7 b8 b9 b10 b13 g1 g2 g3 g4 g5 g6 g7 g8
      have hb' := el_Nd_le g1
      have fin : ∀ zz, zz = min q hs → wX_append_183 post (nI fr) (nI n) (nI hs) (nI zz) (nI n) f w h x a1 a2 (upd b3 n 0) b4 b5 a6 b7 b8 b9 b10 a11 a12 b13 a14 a15 a16 a17 := by
        intro zz ez
        unfold wX_append_183
        refine el_countTo hn g1 hw (by omega) (fun b11 b12 k1 k2 k3 => ?_)
        refine el_post hQ hql hn (fun q' b16 m n0 n1 n2 n3 n4 n5 n6 n7 hQ' _ _ _ => ?_)
        refine hp (upd b3 n 0) b4 b5 b7 b8 b9 b10 b11 b12 b13 b16 m b' (max c zz) l' p' o3 pk_us e4 e4n k1 ?_ (by omega) g3 (fun z => ?_) (by omega) hQ' ⟨n1, n2, Or.inl ⟨n0, hs, n4, g4, g5, g6, fun z => by omega⟩⟩
        · obtain ⟨v1, v2, v3⟩ := g2
          refine ⟨fun j hj => ?_, v2, fun j hj => ⟨k3 j hj, (v3 j hj).2⟩⟩
          obtain ⟨r1, r2, r3, r4⟩ := v1 j hj
          exact ⟨r1, r2, r3, k2 j hj⟩
        · have := g7 z
          have t2 := el_Nd_tl g1 z
          exact ⟨this.1, by omega, this.2.1⟩
      unfold wX_append_157
      rw [m6]
      exact pk_le hs q (fun z2 => fin hs (by omega)) (fun z2 => fin q (by omega))
    refine el_lastOf hn hd ?_
    refine pk_lt l bf (fun z2 => lack (by omega)) (fun z2 => ?_)
    refine el_termAt hn hd z1 z2 ?_
    by_cases e : bf ≤ p
    · rw [show min bf p = bf by omega]
      refine br_t rfl ?_
      rcases m7 with ⟨g1, g2, g3⟩ | ⟨g1, g2⟩
      · refine br_t g2 (nm_r (nI_1 bf) ?_)
        refine el_takeEntry hn hd hw (by omega) (by omega) g1 (by omega) g3 (fun b' l' p' b7 b8 b9 b10 b13 k1 k2 k3 => ?_)
        refine tail157 (bf + 1) b' l' p' b7 b8 b9 b10 b13 k1 k2 (by omega) (by omega) (by omega) (fun _ => by omega) (fun z => by omega) (by omega)
      · refine br_f (by rw [g2]; decide) ?_
        exact tail157 bf b l p a7 a8 a9 a10 a13 hd el_Fr_rfl (by omega) e (by omega) (fun z => by omega) (fun z => ⟨rfl, rfl, e⟩) (Or.inl hlc)
    · obtain ⟨t1, t2, t3, t4, t5⟩ := el_Nd_tl hd (by omega)
      refine br_f ?_ (lack (by omega))
      have g1 := hw.2.2.2.1 c (by omega)
      have g2 := hw.2.2.2.1 bf hbf
      have g3 := t5 (by omega)
      rw [show c + 1 = bf by omega] at g3
      rw [show min bf p = c by omega, g1.1, g2.1, nI_eq (by omega) (by omega)]
      omega
  · refine el_post hQ hql hn (fun q' b16 m n0 n1 n2 n3 n4 n5 n6 n7 hQ' _ _ _ => ?_)
    exact hp (upd b3 n 0) b4 b5 _ _ _ _ _ _ _ b16 m b c l p (fun j hj => by rw [pk_un hj]; exact e3 j hj) pk_us e4 e4n hd el_Fr_rfl (by omega) (by omega) (fun _ => ⟨rfl, rfl, rfl⟩) hlc hQ' ⟨n1, n2, Or.inl ⟨n0, b, n4, by omega, by omega, fun _ => by omega, fun z => by omega⟩⟩
end
end
section
/-! snapshots; what a leader hears -/
section
variable {f w h x : Int32} {a1 a2 a3 a4 a5 a6 a7 a8 a9 a10 a11 a12 a13 a14 a15 a16 a17 : Nat → Int32} {G : Nat → Nat → Int32} {M K n b c l p : Nat} {B C L P : Nat → Nat} {ql : List (Nat → Int32)}
theorem el_takeSnapshot {post : St1 → Prop} {fr t t0 bF cF lF pF : Nat} (hfr : fr < 5) (hn : n < 5) (hne : fr ≠ n) (hd : el_Nd G M n b c l p a7 a8 a9 a10 a11 a12 a13) (hF : el_Nd G M fr bF cF lF pF a7 a8 a9 a10 a11 a12 a13) (hK : K ≤ 1000000) (hlc : l ≤ c + 2) (h4 : a4 n = nI t0) (ht : t0 ≤ t) (htK : t ≤ K)
    (m3 : a17 3 = nI t) (m4 : a17 4 = nI bF) (m5 : a17 5 = G bF 0) (hQ : el_Qu f w a16 ql) (hql : ql.length < 8)
    (hp : ∀ (b3 b4 b5 b7 b8 b9 b11 b12 b13 b16 m : Nat → Int32) (b' c' l' p' : Nat), (∀ j, j ≠ n → b3 j = a3 j) → b3 n = 0 → (∀ j, j ≠ n → b4 j = a4 j) → b4 n = nI t → el_Nd G M n b' c' l' p' b7 b8 b9 a10 b11 b12 b13 → el_Fr n a7 a8 a9 a10 a11 a12 a13 b7 b8 b9 a10 b11 b12 b13 → c ≤ c' → bF ≤ c' → (p' < l' → l' = l ∧ c' = c ∧ p' = p) → l' ≤ c' + 2 → el_Qu f (w + 1) b16 (ql ++ [m]) → m 0 = 6 → m 1 = nI n → m 2 = nI fr → m 4 = nI c' → post (f, (w + 1), h, x, a1, a2, b3, b4, b5, a6, b7, b8, b9, a10, b11, b12, b13, a14, a15, b16, a17)) : wpX_takeSnapshot post (f, w, h, x, a1, a2, a3, a4, a5, a6, a7, a8, a9, a10, a11, a12, a13, a14, a15, a16, a17) (nI fr) (nI n) := by
  have hb := el_Nd_le hd
  have hbF := el_Nd_le hF
  unfold wpX_takeSnapshot
  dsimp only
  rw [nI_clamp (by omega), h4, m3]
  refine ⟨(vp_in_nI (by omega) (by omega)), pk_le t0 t (fun _ => ?_) (fun z => absurd z (by omega))⟩
  refine el_enterTerm' hn h4 (by omega) (by omega) (fun b3 b4 b5 e3 e4 _ e4n _ _ => ?_)
  rw [show max t0 t = t by omega] at e4n
  have o3 : ∀ j, j ≠ n → upd b3 n 0 j = a3 j := fun j hj => by rw [pk_un hj]; exact e3 j hj
  have fin : ∀ (b7 b8 b9 b11 b12 b13 : Nat → Int32) (b' c' l' p' : Nat), el_Nd G M n b' c' l' p' b7 b8 b9 a10 b11 b12 b13 → el_Fr n a7 a8 a9 a10 a11 a12 a13 b7 b8 b9 a10 b11 b12 b13 → c ≤ c' → bF ≤ c' → (p' < l' → l' = l ∧ c' = c ∧ p' = p) → l' ≤ c' + 2 → wX_takeSnapshot_150 post (nI fr) (nI n) f w h x a1 a2 (upd b3 n 0) b4 b5 a6 b7 b8 b9 a10 b11 b12 b13 a14 a15 a16 a17 := by
    intro b7 b8 b9 b11 b12 b13 b' c' l' p' g1 g2 g3 g4 g5 g6
    unfold wX_takeSnapshot_150
    rw [nI_clamp (by omega), g1.2.2.2.1]
    refine ⟨(vp_in_nI (by omega) (by omega)), ?_⟩
    refine el_post hQ hql hn (fun q' b16 m n0 n1 n2 n3 n4 n5 n6 n7 hQ' _ _ _ => ?_)
    exact hp _ b4 b5 b7 b8 b9 b11 b12 b13 b16 m b' c' l' p' o3 pk_us e4 e4n g1 g2 g3 g4 g5 g6 hQ' n0 n1 n2 n4
  dsimp only
  rw [m4, m5, hd.2.2.2.1]
  refine ⟨(vp_in_nI (by omega) (by omega)), nm_e ⟨(vp_in_nI (by omega) (by omega)), pk_le bF c (fun z => ?_) (fun z => ⟨(vp_in_nI (by omega) (by omega)), nm_e ⟨(vp_in_nI (by omega) (by omega)), nm_e ⟨(vp_in_nI (by omega) (by omega)), nm_e ⟨(vp_in_nI (by omega) (by omega)), nm_e ?_⟩⟩⟩⟩)⟩⟩
  · exact fin a7 a8 a9 a11 a12 a13 b c l p hd el_Fr_rfl (by omega) z (fun _ => ⟨rfl, rfl, rfl⟩) hlc
  · refine pk_loop (fun m i (s : (Nat → Int32) × (Nat → Int32)) => wX_takeSnapshot_94 post (nI fr) (nI n) f w h x m (nI i) a1 a2 (upd b3 n 0) b4 b5 a6 (upd a7 n (nI bF)) (upd a8 n (G bF 0)) (upd a9 n 0) a10 (upd a11 n (nI bF)) s.1 s.2 a14 a15 a16 a17) (fun i s => (∀ k, k < i → s.1 (15 * n + k) = a13 (15 * fr + k) ∧ s.2 (15 * n + k) = a13 (15 * fr + k)) ∧ (∀ j, j < 15 * n ∨ 15 * n + 15 ≤ j → s.1 j = a12 j ∧ s.2 j = a13 j)) 15 0 (a12, a13) (by omega) ⟨fun k hk => absurd hk (by omega), fun j _ => ⟨rfl, rfl⟩⟩ ?_ ?_
    · rintro m ⟨s1, s2⟩ ⟨h1, h2⟩
      dsimp only at h1 h2
      refine pk_le 15 15 (fun _ => ?_) (fun z => absurd z (by omega))
      refine fin _ _ _ _ _ _ bF bF bF bF ?_ ?_ (by omega) (by omega) (fun z => absurd z (by omega)) (by omega)
      · refine ⟨pk_us, pk_us, by rw [pk_us, Nat.sub_self]; rfl, pk_us, by omega, fun i k z1 z2 => absurd z2 (by omega), fun k hk => ?_, fun k hk => ?_, Or.inl rfl⟩
        · exact (h1 k hk).1.trans (hF.2.2.2.2.2.2.2.1 k hk)
        · exact (h1 k hk).2.trans (hF.2.2.2.2.2.2.2.1 k hk)
      · exact ⟨fun j hj => ⟨pk_un hj, pk_un hj, pk_un hj, pk_un hj⟩, fun _ _ => rfl, h2⟩
    · rintro m i ⟨s1, s2⟩ hi ⟨h1, h2⟩ hk
      dsimp only at h1 h2 ⊢
      refine pk_le 15 i (fun z => absurd z (by omega)) (fun _ => ?_)
      rw [el_m15, nI_add, nI_clamp (by omega), el_m15, nI_add, nI_clamp (by omega), (h2 (15 * fr + i) (by omega)).2]
      refine ⟨(vp_in_nI (by omega) (by omega)), (vp_in_nI (by omega) (by omega)), nm_e ⟨(vp_in_nI (by omega) (by omega)), (vp_in_nI (by omega) (by omega)), nm_e (nm_r (nI_1 i) (hk (upd s1 (15 * n + i) (a13 (15 * fr + i)), upd s2 (15 * n + i) (a13 (15 * fr + i))) ⟨fun k hk => ?_, fun j hj => ?_⟩))⟩⟩
      · dsimp only
        by_cases e : k = i
        · subst e; rw [pk_us, pk_us]; exact ⟨rfl, rfl⟩
        · rw [pk_un (by omega), pk_un (by omega)]; exact h1 k (by omega)
      · dsimp only
        rw [pk_un (by omega), pk_un (by omega)]; exact h2 j hj
/-- a leader hears that another one lacks what is behind hh -/
theorem el_hearLacks {post : St1 → Prop} {o hh : Nat} (hn : n < 5) (ho : o < 5) (h3 : a3 n = 1) (hd : el_Nd G M n b c M M a7 a8 a9 a10 a11 a12 a13) (m4 : a17 4 = nI hh) (hh2 : hh ≤ M) (hQ : el_Qu f w a16 ql) (hql : ql.length < 8)
    (hp : ∀ b14 b16 m : Nat → Int32, b14 = upd a14 (5 * n + o) (nI (hh + 1)) → el_Snd G M n o b c (hh + 1) (a4 n) m → el_Qu f (w + 1) b16 (ql ++ [m]) → post (f, (w + 1), h, x, a1, a2, a3, a4, a5, a6, a7, a8, a9, a10, a11, a12, a13, b14, a15, b16, a17)) : wpX_hear post (f, w, h, x, a1, a2, a3, a4, a5, a6, a7, a8, a9, a10, a11, a12, a13, a14, a15, a16, a17) 7 (nI o) (nI n) := by
  have hb := el_Nd_le hd
  unfold wpX_hear
  dsimp only
  rw [nI_clamp (by omega), h3, el_m5, nI_add, m4, nI_1]
  refine ⟨(vp_in_nI (by omega) (by omega)), br_t rfl (nm_e (br_t rfl ⟨(vp_in_nI (by omega) (by omega)), nm_e ?_⟩))⟩
  rw [nI_clamp (by omega)]
  refine el_sendTo hn ho hd pk_us (by omega) (by omega) hQ hql (fun b16 m g1 g2 => ?_)
  exact hp _ b16 m rfl g1 g2
/-- a leader hears that another one has all up to hh -/
theorem el_hearHas {post : St1 → Prop} {o hh : Nat} {Y : Nat → Nat} (hn : n < 5) (ho : o < 5) (h3 : a3 n = 1) (hd : el_Nd G M n b c M M a7 a8 a9 a10 a11 a12 a13) (hw : el_WF G M K) (h4 : a4 n = G M 0) (hY : ∀ o, o < 5 → a15 (5 * n + o) = nI (Y o) ∧ Y o ≤ 1000000) (m4 : a17 4 = nI hh) (hh2 : hh ≤ M) (hh3 : Y o ≤ hh) (hQ : el_Qu f w a16 ql) (hql : ql.length < 8)
    (hp0 : ∀ (c' : Nat) (b11 b12 b14 b15 : Nat → Int32), hh = M → b14 = upd a14 (5 * n + o) (nI (hh + 1)) → b15 = upd a15 (5 * n + o) (nI hh) → el_Nd G M n b c' M M a7 a8 a9 a10 b11 b12 a13 → c ≤ c' → (el_maj (fun q => decide (M ≤ el_up Y o hh q)) (el_cf G M) → c' = M) → (∀ j, j ≠ n → b11 j = a11 j) → (∀ j, j < 15 * n ∨ 15 * n + 15 ≤ j → b12 j = a12 j) → post (f, w, h, x, a1, a2, a3, a4, a5, a6, a7, a8, a9, a10, b11, b12, a13, b14, b15, a16, a17))
    (hp1 : ∀ (c' : Nat) (b11 b12 b14 b15 b16 m : Nat → Int32), hh < M → b14 = upd a14 (5 * n + o) (nI (hh + 1)) → b15 = upd a15 (5 * n + o) (nI hh) → el_Nd G M n b c' M M a7 a8 a9 a10 b11 b12 a13 → c ≤ c' → (el_maj (fun q => decide (M ≤ el_up Y o hh q)) (el_cf G M) → c' = M) → (∀ j, j ≠ n → b11 j = a11 j) → (∀ j, j < 15 * n ∨ 15 * n + 15 ≤ j → b12 j = a12 j) → el_Snd G M n o b c' (hh + 1) (a4 n) m → el_Qu f (w + 1) b16 (ql ++ [m]) → post (f, (w + 1), h, x, a1, a2, a3, a4, a5, a6, a7, a8, a9, a10, b11, b12, a13, b14, b15, b16, a17)) : wpX_hear post (f, w, h, x, a1, a2, a3, a4, a5, a6, a7, a8, a9, a10, a11, a12, a13, a14, a15, a16, a17) 6 (nI o) (nI n) := by
  have hb := el_Nd_le hd
  obtain ⟨y1, y2⟩ := hY o ho
  have main : wX_hear_84 post (nI o) (nI n) (nI (5 * n + o)) (nI hh) (nI (5 * n + o)) f w h x a1 a2 a3 a4 a5 a6 a7 a8 a9 a10 a11 a12 a13 a14 a15 a16 a17 := by
    unfold wX_hear_84
    rw [nI_clamp (by omega)]
    refine ⟨(vp_in_nI (by omega) (by omega)), nm_e ⟨(vp_in_nI (by omega) (by omega)), (vp_in_nI (by omega) (by omega)), nm_r (e' := upd a14 (5 * n + o) (nI (hh + 1))) (by rw [pk_us, nI_1]) ?_⟩⟩
    refine el_countMost (Y := el_up Y o hh) hn hd hw h4 (fun q hq => ?_) (fun c' b11 b12 g1 g2 g3 g4 g5 => ?_)
    · by_cases e : q = o
      · subst e; rw [el_up_s, pk_us]; exact ⟨rfl, by omega⟩
      · rw [el_up_n e, pk_un (by omega)]; exact hY q hq
    · dsimp only
      rw [pk_us]
      refine ⟨(vp_in_nI (by omega) (by omega)), ?_⟩
      refine el_lastOf hn g1 ?_
      refine pk_lt M (hh + 1) (fun z => ?_) (fun z => ?_)
      · exact hp0 c' b11 b12 _ _ (by omega) rfl rfl g1 g2 g3 g4 g5
      · refine el_sendTo hn ho g1 pk_us (by omega) (by omega) hQ hql (fun b16 m k1 k2 => ?_)
        exact hp1 c' b11 b12 _ _ b16 m (by omega) rfl rfl g1 g2 g3 g4 g5 k1 k2
  unfold wpX_hear
  dsimp only
  rw [nI_clamp (by omega), h3, el_m5, nI_add, m4]
  refine ⟨(vp_in_nI (by omega) (by omega)), br_t rfl (nm_e (br_f (by decide) ⟨(vp_in_nI (by omega) (by omega)), ?_⟩))⟩
  rw [nI_clamp (by omega), y1]
  refine pk_le hh (Y o) (fun z => ⟨(vp_in_nI (by omega) (by omega)), ?_⟩) (fun z => main)
  rw [show Y o = hh by omega]; exact main
end
end
section
/-! a leader brings the members that it reaches up to its log -/
/-- the state of things while n leads: G is its log, all of it -/
def el_Ld (G : Nat → Nat → Int32) (M K N n : Nat) (B C L P T : Nat → Nat) (a3 a4 a7 a8 a9 a10 a11 a12 a13 : Nat → Int32) : Prop :=
  el_WF G M K ∧ n < 5 ∧ el_LG G M B C L P a7 a8 a9 a10 a11 a12 a13 ∧ (∀ m, m < 5 → a4 m = nI (T m)) ∧ (∀ m, m < 5 → T m ≤ T n) ∧ (T n = el_gt G M ∧ T n ≤ K) ∧ (a3 n = 1 ∧ ∀ m, m < 5 → m ≠ n → a3 m = 0) ∧ (P n = M ∧ L n = M) ∧ (N ≤ C n ∧ M ≤ N + 2) ∧ (∀ m, m < 5 → L m ≤ C m + 2) ∧ (∀ m, m < 5 → el_gt G (P m) ≤ T m) ∧ (∀ m, m < 5 → P m < L m → C m < M) ∧ (∀ m m', m < 5 → m' < 5 → P m < L m → P m' < L m' → C m = C m' → m = m')
/-- what it knows of the others -/
def el_NM (n M : Nat) (P X Y : Nat → Nat) (a14 a15 : Nat → Int32) : Prop := ∀ o, o < 5 → a14 (5 * n + o) = nI (X o) ∧ a15 (5 * n + o) = nI (Y o) ∧ X o ≤ M + 1 ∧ Y o ≤ M ∧ (o ≠ n → Y o < X o ∧ Y o ≤ P o) ∧ (o = n → Y o = M)
/-- a message between the leader n and o, and how much it may still bring about -/
def el_Msg (G : Nat → Nat → Int32) (M n c0 bn t o c p y : Nat) (m : Nat → Int32) (v : Nat) : Prop :=
  o < 5 ∧ o ≠ n ∧
  ((m 0 = 8 ∧ m 1 = nI n ∧ m 2 = nI o ∧ m 3 = nI t ∧ m 4 = nI bn ∧ m 5 = G bn 0 ∧ y < bn ∧ v = 2 * (M - bn) + 5) ∨
   (m 0 = 5 ∧ m 1 = nI n ∧ m 2 = nI o ∧ m 3 = nI t ∧ ∃ bf q, m 4 = nI bf ∧ m 5 = G bf 0 ∧ m 6 = nI q ∧ c0 ≤ q ∧ q ≤ M ∧ M ≤ q + 2 ∧ bn ≤ bf ∧ bf ≤ M ∧ y ≤ bf ∧ ((bf + 1 ≤ M ∧ m 7 = 1 ∧ ∀ k, k < 7 → m (8 + k) = G (bf + 1) k) ∨ (bf = M ∧ m 7 = 0)) ∧ v = (if bf ≤ p then (if bf < M then 2 * (M - bf) + 1 else 3) else 2 * (M - bn) + 10 + 2 * (bf - bn) + 1)) ∨
   (m 0 = 6 ∧ m 1 = nI o ∧ m 2 = nI n ∧ ∃ hh, m 4 = nI hh ∧ hh ≤ p ∧ hh ≤ M ∧ y ≤ hh ∧ bn ≤ hh ∧ (hh = M → c0 ≤ c) ∧ v = 2 * (M - hh) + 2) ∨
   (m 0 = 7 ∧ m 1 = nI o ∧ m 2 = nI n ∧ ∃ hh, m 4 = nI hh ∧ hh < M ∧ y ≤ hh ∧ v = 2 * (M - bn) + 10 + 2 * (hh + 1 - bn)))
/-- what is sent is such a message -/
theorem el_Snd_Msg {G : Nat → Nat → Int32} {M n o b c nx t p y c0 cO : Nat} {m : Nat → Int32} (h : el_Snd G M n o b c nx (nI t) m) (ho : o < 5) (hne : o ≠ n) (h1 : y < nx) (h2 : c0 ≤ c) (h3 : c ≤ M) (h4 : M ≤ c + 2) (h5 : b ≤ c) (h6 : nx ≤ M + 1) :
    ∃ v, el_Msg G M n c0 b t o cO p y m v ∧ v ≤ 4 * (M - b) + 11 ∧ (nx - 1 ≤ p → b ≤ nx - 1 → nx - 1 < M → v < 2 * (M - (nx - 1)) + 2) ∧ (nx - 1 < M → v < 2 * (M - b) + 10 + 2 * (nx - b)) := by
  obtain ⟨e1, e2, e3, ⟨z, e0, e4, e5⟩ | ⟨z, e0, e4, e5, e6, z2⟩⟩ := h
  · exact ⟨_, ⟨ho, hne, Or.inl ⟨e0, e1, e2, e3, e4, e5, by omega, rfl⟩⟩, by omega, fun _ _ _ => by omega, fun _ => by omega⟩
  · have z3 : (nx - 1 + 1 ≤ M ∧ m 7 = 1 ∧ ∀ k, k < 7 → m (8 + k) = G (nx - 1 + 1) k) ∨ (nx - 1 = M ∧ m 7 = 0) := by
      rcases z2 with ⟨g1, g2, g3⟩ | ⟨g1, g2⟩
      · refine Or.inl ⟨by omega, g2, ?_⟩
        rw [show nx - 1 + 1 = nx by omega]; exact g3
      · exact Or.inr ⟨by omega, g2⟩
    have mm := fun v (hv : v = (if nx - 1 ≤ p then (if nx - 1 < M then 2 * (M - (nx - 1)) + 1 else 3) else 2 * (M - b) + 10 + 2 * (nx - 1 - b) + 1)) => (⟨ho, hne, Or.inr (Or.inl ⟨e0, e1, e2, e3, nx - 1, c, e4, e5, e6, h2, h3, h4, by omega, by omega, by omega, z3, hv⟩)⟩ : el_Msg G M n c0 b t o cO p y m v)
    refine ⟨_, mm _ rfl, ?_, fun g1 g2 g3 => ?_, fun g => ?_⟩
    · split <;> (try split) <;> omega
    · rw [if_pos g1, if_pos g3]; omega
    · split <;> (try split) <;> omega
section
variable {f w h x : Int32} {a1 a2 a3 a4 a5 a6 a7 a8 a9 a10 a11 a12 a13 a14 a15 a16 a17 b3 b4 b7 b8 b9 b10 b11 b12 b13 : Nat → Int32} {G : Nat → Nat → Int32} {M K N n o b c l p : Nat} {B C L P T X Y : Nat → Nat} {ql : List (Nat → Int32)}
/-- a follower's log has grown -/
theorem el_Ld_fol (hl : el_Ld G M K N n B C L P T a3 a4 a7 a8 a9 a10 a11 a12 a13) (ho : o < 5) (hne : o ≠ n) (h3 : ∀ j, j ≠ o → b3 j = a3 j) (h3o : b3 o = 0) (h4 : ∀ j, j ≠ o → b4 j = a4 j) (h4o : b4 o = nI (T n)) (hd : el_Nd G M o b c l p b7 b8 b9 b10 b11 b12 b13) (hf : el_Fr o a7 a8 a9 a10 a11 a12 a13 b7 b8 b9 b10 b11 b12 b13) (ht : p < l → l = L o ∧ c = C o ∧ p = P o) (hlc : l ≤ c + 2) :
    el_Ld G M K N n (el_up B o b) (el_up C o c) (el_up L o l) (el_up P o p) (el_up T o (T n)) b3 b4 b7 b8 b9 b10 b11 b12 b13 := by
  obtain ⟨q1, q2, q3, q4, q5, q6, q7, q8, q9, q10, q11, q12, q13⟩ := hl
  have hno : n ≠ o := fun z => hne z.symm
  refine ⟨q1, q2, el_LG_up q3 hd hf, fun m hm => ?_, fun m hm => ?_, ?_, ⟨?_, fun m hm hmn => ?_⟩, ?_, ?_, fun m hm => ?_, fun m hm => ?_, fun m hm hz => ?_, fun m m' hm hm' hz hz' hc => ?_⟩
  · by_cases e : m = o
    · subst e; rw [el_up_s]; exact h4o
    · rw [el_up_n e, h4 m e]; exact q4 m hm
  · rw [el_up_n hno]
    by_cases e : m = o
    · subst e; rw [el_up_s]; exact Nat.le_refl _
    · rw [el_up_n e]; exact q5 m hm
  · rw [el_up_n hno]; exact q6
  · rw [h3 n hno]; exact q7.1
  · by_cases e : m = o
    · subst e; exact h3o
    · rw [h3 m e]; exact q7.2 m hm hmn
  · rw [el_up_n hno, el_up_n hno]; exact q8
  · rw [el_up_n hno]; exact q9
  · by_cases e : m = o
    · subst e; rw [el_up_s, el_up_s]; exact hlc
    · rw [el_up_n e, el_up_n e]; exact q10 m hm
  · by_cases e : m = o
    · subst e; rw [el_up_s, el_up_s, q6.1]
      exact el_wf_gt q1 (el_Nd_le hd).2.2.1 (Nat.le_refl M)
    · rw [el_up_n e, el_up_n e]; exact q11 m hm
  · by_cases e : m = o
    · subst e; rw [el_up_s, el_up_s] at hz
      obtain ⟨t1, t2, t3⟩ := ht hz
      rw [el_up_s, t2]; exact q12 m hm (by omega)
    · rw [el_up_n e, el_up_n e] at hz
      rw [el_up_n e]; exact q12 m hm hz
  · have key : ∀ j, j < 5 → el_up P o p j < el_up L o l j → P j < L j ∧ el_up C o c j = C j := by
      intro j hj zj
      by_cases e : j = o
      · subst e; rw [el_up_s, el_up_s] at zj
        obtain ⟨t1, t2, t3⟩ := ht zj
        rw [el_up_s]; omega
      · rw [el_up_n e, el_up_n e] at zj
        rw [el_up_n e]; exact ⟨zj, rfl⟩
    obtain ⟨k1, k2⟩ := key m hm hz
    obtain ⟨k3, k4⟩ := key m' hm' hz'
    rw [k2, k4] at hc
    exact q13 m m' hm hm' k1 k3 hc
/-- the leader has counted on -/
theorem el_Ld_cnt (hl : el_Ld G M K N n B C L P T a3 a4 a7 a8 a9 a10 a11 a12 a13) (hd : el_Nd G M n (B n) c M M a7 a8 a9 a10 b11 b12 a13) (hc : C n ≤ c) (h11 : ∀ j, j ≠ n → b11 j = a11 j) (h12 : ∀ j, j < 15 * n ∨ 15 * n + 15 ≤ j → b12 j = a12 j) :
    el_Ld G M K N n B (el_up C n c) L P T a3 a4 a7 a8 a9 a10 b11 b12 a13 := by
  obtain ⟨q1, q2, q3, q4, q5, q6, q7, q8, q9, q10, q11, q12, q13⟩ := hl
  refine ⟨q1, q2, fun m hm => ?_, q4, q5, q6, q7, q8, ?_, fun m hm => ?_, q11, fun m hm hz => ?_, fun m m' hm hm' hz hz' hcc => ?_⟩
  · by_cases e : m = n
    · subst e; rw [el_up_s, q8.1, q8.2]; exact hd
    · rw [el_up_n e]
      exact el_Nd_Fr (q3 m hm) (n := n) ⟨fun j hj => ⟨rfl, rfl, rfl, h11 j hj⟩, fun _ _ => rfl, fun j hj => ⟨h12 j hj, rfl⟩⟩ e
  · rw [el_up_s]; omega
  · by_cases e : m = n
    · subst e; rw [el_up_s]; have := q10 m hm; omega
    · rw [el_up_n e]; exact q10 m hm
  · by_cases e : m = n
    · subst e; rw [q8.1, q8.2] at hz; omega
    · rw [el_up_n e]; exact q12 m hm hz
  · have e1 : m ≠ n := fun e => by subst e; rw [q8.1, q8.2] at hz; omega
    have e2 : m' ≠ n := fun e => by subst e; rw [q8.1, q8.2] at hz'; omega
    rw [el_up_n e1, el_up_n e2] at hcc
    exact q13 m m' hm hm' hz hz' hcc
end
/-- while messages are on their way -/
def el_JS (G : Nat → Nat → Int32) (M K N n c0 : Nat) (C0 : Nat → Nat) (h x : Int32) (a1 a2 a6 : Nat → Int32) (W : Nat) (ql : List (Nat → Int32)) (s : St1) : Prop :=
  s.2.2.1 = h ∧ s.2.2.2.1 = x ∧ s.2.2.2.2.1 = a1 ∧ s.2.2.2.2.2.1 = a2 ∧ s.2.2.2.2.2.2.2.2.2.1 = a6 ∧ ∃ (B C L P T X Y : Nat → Nat) (os : List Nat), el_Ld G M K N n B C L P T s.2.2.2.2.2.2.1 s.2.2.2.2.2.2.2.1 s.2.2.2.2.2.2.2.2.2.2.1 s.2.2.2.2.2.2.2.2.2.2.2.1 s.2.2.2.2.2.2.2.2.2.2.2.2.1 s.2.2.2.2.2.2.2.2.2.2.2.2.2.1 s.2.2.2.2.2.2.2.2.2.2.2.2.2.2.1 s.2.2.2.2.2.2.2.2.2.2.2.2.2.2.2.1 s.2.2.2.2.2.2.2.2.2.2.2.2.2.2.2.2.1 ∧ el_NM n M P X Y s.2.2.2.2.2.2.2.2.2.2.2.2.2.2.2.2.2.1 s.2.2.2.2.2.2.2.2.2.2.2.2.2.2.2.2.2.2.1 ∧ (el_maj (fun o => decide (M ≤ Y o)) (el_cf G M) → C n = M) ∧ c0 ≤ C n ∧ (∀ o, o < 5 → C0 o ≤ C o) ∧ os.Nodup ∧ ql.length ≤ 5 ∧ el_MQ (fun o m v => el_Msg G M n c0 (B n) (T n) o (C o) (P o) (Y o) m v) os ql W ∧ (∀ o, o < 5 → o ≠ n → (el_cf G M).testBit o = true → el_jn a1 a2 n o = true → o ∈ os ∨ (Y o = M ∧ c0 ≤ C o)) ∧ (∀ o, o ∈ os → (el_cf G M).testBit o = true) ∧ (∀ m, m < 5 → m ≠ n → P m = C m ∨ ((el_cf G M).testBit m = true ∧ el_jn a1 a2 n m = true))
theorem el_jn_symm {a1 a2 : Nat → Int32} {n o : Nat} : el_jn a1 a2 n o = el_jn a1 a2 o n := by
  unfold el_jn
  refine decide_eq_decide.mpr ⟨fun t => ⟨t.2.1, t.1, t.2.2.symm⟩, fun t => ⟨t.2.1, t.1, t.2.2.symm⟩⟩
end
section
/-! one message delivered while n leads -/
theorem el_nd_rot {o : Nat} {os : List Nat} (h : (o :: os).Nodup) : (os ++ [o]).Nodup := by
  obtain ⟨h1, h2⟩ := List.nodup_cons.mp h
  refine List.nodup_append.mpr ⟨h2, List.nodup_cons.mpr ⟨fun z => absurd z (List.not_mem_nil), List.nodup_nil⟩, fun a ha b hb e => ?_⟩
  have : b = o := List.mem_singleton.mp hb
  subst this; subst e; exact h1 ha
section
variable {G : Nat → Nat → Int32} {M K N n c0 : Nat} {C0 : Nat → Nat} {h0 x0 : Int32} {A1 A2 A6 : Nat → Int32}
theorem el_JS_step (W : Nat) (m : Nat → Int32) (ql : List (Nat → Int32)) (f w h x : Int32) (a1 a2 a3 a4 a5 a6 a7 a8 a9 a10 a11 a12 a13 a14 a15 a16 a17 : Nat → Int32) (f' w' : Int32) (b17 : Nat → Int32) (post' : St1 → Prop) (hJ : el_JS G M K N n c0 C0 h0 x0 A1 A2 A6 W (m :: ql) (f, w, h, x, a1, a2, a3, a4, a5, a6, a7, a8, a9, a10, a11, a12, a13, a14, a15, a16, a17)) (hQ : el_Qu f' w' a16 ql) (hql : ql.length < 8) (h17 : ∀ k, k < 16 → b17 k = m k)
    (hp : ∀ (W' : Nat) (ql' : List (Nat → Int32)) (f w h x : Int32) (a1 a2 a3 a4 a5 a6 a7 a8 a9 a10 a11 a12 a13 a14 a15 a16 a17 : Nat → Int32), W' < W → el_JS G M K N n c0 C0 h0 x0 A1 A2 A6 W' ql' (f, w, h, x, a1, a2, a3, a4, a5, a6, a7, a8, a9, a10, a11, a12, a13, a14, a15, a16, a17) → el_Qu f w a16 ql' → post' (f, w, h, x, a1, a2, a3, a4, a5, a6, a7, a8, a9, a10, a11, a12, a13, a14, a15, a16, a17)) :
    ∃ fr to : Nat, fr < 5 ∧ to < 5 ∧ m 1 = nI fr ∧ m 2 = nI to ∧ (el_jn a1 a2 fr to = true → wpX_deliver post' (f', w', h, x, a1, a2, a3, a4, a5, a6, a7, a8, a9, a10, a11, a12, a13, a14, a15, a16, b17) (m 0) (nI fr) (nI to)) ∧ (el_jn a1 a2 fr to = false → post' (f', w', h, x, a1, a2, a3, a4, a5, a6, a7, a8, a9, a10, a11, a12, a13, a14, a15, a16, b17)) := by
  obtain ⟨eh, ex, e1, e2, e6, B, C, L, P, T, X, Y, os, hl, hnm, hcm, hc0, hC0, hnd, hlen, hmq, hnear, hos, hpc⟩ := hJ
  dsimp only at eh ex e1 e2 e6 hl hnm
  subst eh ex e1 e2 e6
  match os, hnd, hmq, hnear, hos with
  | [], hnd, hmq, hnear, hos => exact hmq.elim
  | o :: os, hnd, hmq, hnear, hos =>
    have hmo : (el_cf G M).testBit o = true := hos o List.mem_cons_self
    have hos' : ∀ o', o' ∈ os → (el_cf G M).testBit o' = true := fun o' z => hos o' (List.mem_cons_of_mem _ z)
    have hos2 : ∀ o', o' ∈ os ++ [o] → (el_cf G M).testBit o' = true := by
      intro o' z
      rcases List.mem_append.mp z with z | z
      · exact hos' o' z
      · rw [List.mem_singleton.mp z]; exact hmo
    obtain ⟨v, hv, hmsg, hrest⟩ := hmq
    have hlen' : ql.length + 1 ≤ 5 := hlen
    have hno : o ∉ os := (List.nodup_cons.mp hnd).1
    have hnd' : os.Nodup := (List.nodup_cons.mp hnd).2
    obtain ⟨ho, hne, hcase⟩ := hmsg
    have hon : n ≠ o := fun z => hne z.symm
    obtain ⟨q1, q2, q3, q4, q5, q6, q7, q8, q9, q10, q11, q12, q13⟩ := id hl
    have hdN := q3 n q2
    rw [q8.1, q8.2] at hdN
    have hbN := el_Nd_le hdN
    have hdO := q3 o ho
    have hbO := el_Nd_le hdO
    have hK := q1.1
    have hT : a4 n = nI (T n) := q4 n q2
    have hT2 : a4 n = G M 0 := by rw [hT, q6.1]; exact (q1.2.2.2.1 M (Nat.le_refl M)).1.symm
    -- the message is lost
    have drop : el_jn a1 a2 n o = false → post' (f', w', h, x, a1, a2, a3, a4, a5, a6, a7, a8, a9, a10, a11, a12, a13, a14, a15, a16, b17) := by
      intro hj
      refine hp (W - v - 1) ql _ _ _ _ _ _ _ _ _ _ _ _ _ _ _ _ _ _ _ _ _ (by omega) ⟨rfl, rfl, rfl, rfl, rfl, B, C, L, P, T, X, Y, os, hl, hnm, hcm, hc0, hC0, hnd', by omega, hrest, fun o' g1 g2 g3 g4 => ?_, hos', hpc⟩ hQ
      rcases hnear o' g1 g2 g3 g4 with g | g
      · rcases List.mem_cons.mp g with e | e
        · subst e; rw [hj] at g4; exact absurd g4 (by decide)
        · exact Or.inl e
      · exact Or.inr g
    -- the follower o has answered
    have fol : ∀ (b3 b4 b5 b7 b8 b9 b10 b11 b12 b13 b16 mm : Nat → Int32) (b' c' l' p' v' : Nat), el_jn a1 a2 n o = true → (∀ j, j ≠ o → b3 j = a3 j) → b3 o = 0 → (∀ j, j ≠ o → b4 j = a4 j) → b4 o = nI (T n) → el_Nd G M o b' c' l' p' b7 b8 b9 b10 b11 b12 b13 → el_Fr o a7 a8 a9 a10 a11 a12 a13 b7 b8 b9 b10 b11 b12 b13 → C o ≤ c' → Y o ≤ p' → (p' < l' → l' = L o ∧ c' = C o ∧ p' = P o) → l' ≤ c' + 2 → el_Qu f' (w' + 1) b16 (ql ++ [mm]) → el_Msg G M n c0 (B n) (T n) o c' p' (Y o) mm v' → v' < v → post' (f', (w' + 1), h, x, a1, a2, b3, b4, b5, a6, b7, b8, b9, b10, b11, b12, b13, a14, a15, b16, b17) := by
      intro b3 b4 b5 b7 b8 b9 b10 b11 b12 b13 b16 mm b' c' l' p' v' hjo g1 g2 g3 g4 g5 g6 g7 g8 g9 g10 g11 g12 g13
      refine hp (W - v - 1 + v' + 1) (ql ++ [mm]) _ _ _ _ _ _ _ _ _ _ _ _ _ _ _ _ _ _ _ _ _ (by omega) ⟨rfl, rfl, rfl, rfl, rfl, el_up B o b', el_up C o c', el_up L o l', el_up P o p', el_up T o (T n), X, Y, os ++ [o], el_Ld_fol hl ho hne g1 g2 g3 g4 g5 g6 g9 g10, fun o' ho' => ?_, ?_, ?_, fun o' ho' => ?_, el_nd_rot hnd, ?_, ?_, fun o' k1 k2 k3 k4 => ?_, hos2, fun o' k1 k2 => ?_⟩ g11
      · obtain ⟨z1, z2, z3, z4, z5, z6⟩ := hnm o' ho'
        refine ⟨z1, z2, z3, z4, fun z => ⟨(z5 z).1, ?_⟩, z6⟩
        by_cases e : o' = o
        · subst e; rw [el_up_s]; exact g8
        · rw [el_up_n e]; exact (z5 z).2
      · rw [el_up_n hon]; exact hcm
      · rw [el_up_n hon]; exact hc0
      · by_cases e : o' = o
        · subst e; rw [el_up_s]; have := hC0 o' ho'; omega
        · rw [el_up_n e]; exact hC0 o' ho'
      · rw [List.length_append]; show ql.length + 1 ≤ 5; omega
      · rw [el_up_n hon, el_up_n hon]
        refine el_MQ_add (R := fun o' m v => el_Msg G M n c0 (B n) (T n) o' (el_up C o c' o') (el_up P o p' o') (Y o') m v) (o := o) (v := v') (m := mm) ?_ os ql _ ?_
        · show el_Msg G M n c0 (B n) (T n) o (el_up C o c' o) (el_up P o p' o) (Y o) mm v'
          rw [el_up_s, el_up_s]; exact g12
        · refine el_MQ_mono os ql _ _ (fun o' m' v'' ho' hm' => ?_) (Nat.le_refl _) hrest
          have e : o' ≠ o := fun z => hno (z ▸ ho')
          show el_Msg G M n c0 (B n) (T n) o' (el_up C o c' o') (el_up P o p' o') (Y o') m' v''
          rw [el_up_n e, el_up_n e]; exact hm'
      · rcases hnear o' k1 k2 k3 k4 with k | k
        · rcases List.mem_cons.mp k with e | e
          · exact Or.inl (by rw [e]; exact List.mem_append_right _ (List.mem_singleton.mpr rfl))
          · exact Or.inl (List.mem_append_left _ e)
        · refine Or.inr ⟨k.1, ?_⟩
          by_cases e : o' = o
          · subst e; rw [el_up_s]; omega
          · rw [el_up_n e]; exact k.2
      · by_cases e : o' = o
        · rw [e]; exact Or.inr ⟨hmo, hjo⟩
        · rw [el_up_n e, el_up_n e]; exact hpc o' k1 k2
    rcases hcase with ⟨m0, m1, m2, m3, m4, m5, hy, ev⟩ | ⟨m0, m1, m2, m3, bf, q, m4, m5, m6, hq1, hq2, hq3, hq4, hq5, hq6, m7, ev⟩ | ⟨m0, m1, m2, hh, m4, hh1, hh2, hh3, hh4, hh5, ev⟩ | ⟨m0, m1, m2, hh, m4, hh1, hh2, ev⟩
    · -- a snapshot
      refine ⟨n, o, q2, ho, m1, m2, fun hj => ?_, fun hj => drop hj⟩
      rw [m0]
      unfold wpX_deliver
      dsimp only
      refine br_f (by decide) (br_f (by decide) (br_f (by decide) (br_f (by decide) (br_f (by decide) (br_t rfl ?_)))))
      refine el_takeSnapshot q2 ho hon hdO hdN hK (q10 o ho) (q4 o ho) (q5 o ho) q6.2 (by rw [h17 3 (by omega), m3]) (by rw [h17 4 (by omega), m4]) (by rw [h17 5 (by omega), m5]) hQ hql ?_
      intro b3 b4 b5 b7 b8 b9 b11 b12 b13 b16 mm b' c' l' p' g1 g2 g3 g4 g5 g6 g7 g8 g9 g10 g11 g12 g13 g14 g15
      have hb' := el_Nd_le g5
      refine fol b3 b4 b5 b7 b8 b9 a10 b11 b12 b13 b16 mm b' c' l' p' (2 * (M - c') + 2) hj g1 g2 g3 g4 g5 g6 g7 (by omega) g9 g10 g11 ⟨ho, hne, Or.inr (Or.inr (Or.inl ⟨g12, g13, g14, c', g15, by omega, by omega, by omega, g8, fun z => by omega, rfl⟩))⟩ (by omega)
    · -- entries
      refine ⟨n, o, q2, ho, m1, m2, fun hj => ?_, fun hj => drop hj⟩
      rw [m0]
      unfold wpX_deliver
      dsimp only
      refine br_f (by decide) (br_f (by decide) (br_f (by decide) (br_f (by decide) (br_t rfl ?_))))
      have m7' : (bf + 1 ≤ M ∧ b17 7 = 1 ∧ ∀ k, k < 7 → b17 (8 + k) = G (bf + 1) k) ∨ (bf = M ∧ b17 7 = 0) := by
        rcases m7 with ⟨z1, z2, z3⟩ | ⟨z1, z2⟩
        · exact Or.inl ⟨z1, by rw [h17 7 (by omega), z2], fun k hk => by rw [h17 _ (by omega)]; exact z3 k hk⟩
        · exact Or.inr ⟨z1, by rw [h17 7 (by omega), z2]⟩
      refine el_append q2 ho hdO q1 (q10 o ho) (q4 o ho) (q5 o ho) q6.2 (by rw [h17 3 (by omega), m3]) (by rw [h17 4 (by omega), m4]) (by rw [h17 5 (by omega), m5]) (by rw [h17 6 (by omega), m6]) hq5 hq2 hq3 m7' hQ hql ?_
      intro b3 b4 b5 b7 b8 b9 b10 b11 b12 b13 b16 mm b' c' l' p' g1 g2 g3 g4 g5 g6 g7 g8 g9 g10 g11 g12
      have hb' := el_Nd_le g5
      have hyo := (hnm o ho).2.2.2.2.1 hne
      obtain ⟨r1, r2, ⟨r0, hh, r4, k1, k2, k3, k4⟩ | ⟨r0, k1, k2, hh, r4, k3, k4⟩⟩ := g12
      · refine fol b3 b4 b5 b7 b8 b9 b10 b11 b12 b13 b16 mm b' c' l' p' (2 * (M - hh) + 2) hj g1 g2 g3 g4 g5 g6 g7 (by omega) g9 g10 g11 ⟨ho, hne, Or.inr (Or.inr (Or.inl ⟨r0, r1, r2, hh, r4, k1, by omega, by omega, by omega, fun z => by have := k4 z; omega, rfl⟩))⟩ ?_
        rw [ev]
        split <;> (try split) <;> omega
      · refine fol b3 b4 b5 b7 b8 b9 b10 b11 b12 b13 b16 mm b' c' l' p' (2 * (M - B n) + 10 + 2 * (hh + 1 - B n)) hj g1 g2 g3 g4 g5 g6 g7 (by omega) g9 g10 g11 ⟨ho, hne, Or.inr (Or.inr (Or.inr ⟨r0, r1, r2, hh, r4, by omega, by omega, rfl⟩))⟩ ?_
        rw [ev, if_neg (by omega)]
        omega
    · -- the leader hears what o has
      refine ⟨o, n, ho, q2, m1, m2, fun hj => ?_, fun hj => drop (by rw [el_jn_symm]; exact hj)⟩
      rw [m0]
      unfold wpX_deliver
      dsimp only
      refine br_f (by decide) (br_f (by decide) (br_f (by decide) (br_f (by decide) (br_f (by decide) (br_f (by decide) ?_)))))
      have hY : ∀ o, o < 5 → a15 (5 * n + o) = nI (Y o) ∧ Y o ≤ 1000000 := fun o' ho' => ⟨(hnm o' ho').2.1, by have := (hnm o' ho').2.2.2.1; omega⟩
      have nm' : el_NM n M P (el_up X o (hh + 1)) (el_up Y o hh) (upd a14 (5 * n + o) (nI (hh + 1))) (upd a15 (5 * n + o) (nI hh)) := by
        intro o' ho'
        by_cases e : o' = o
        · subst e
          rw [el_up_s, el_up_s, pk_us, pk_us]
          exact ⟨rfl, rfl, by omega, by omega, fun _ => ⟨by omega, hh1⟩, fun z => absurd z hne⟩
        · rw [el_up_n e, el_up_n e, pk_un (by omega), pk_un (by omega)]
          exact hnm o' ho'
      have mq' : ∀ c' : Nat, el_MQ (fun o' m v => el_Msg G M n c0 (B n) (T n) o' (el_up C n c' o') (P o') (el_up Y o hh o') m v) os ql (W - v - 1) := by
        intro c'
        refine el_MQ_mono os ql _ _ (fun o' m' v'' ho' hm' => ?_) (Nat.le_refl _) hrest
        have e : o' ≠ o := fun z => hno (z ▸ ho')
        have e' : o' ≠ n := hm'.2.1
        show el_Msg G M n c0 (B n) (T n) o' (el_up C n c' o') (P o') (el_up Y o hh o') m' v''
        rw [el_up_n e, el_up_n e']; exact hm'
      refine el_hearHas q2 ho q7.1 hdN q1 hT2 hY (by rw [h17 4 (by omega), m4]) hh2 hh3 hQ hql ?_ ?_
      · intro c' b11 b12 b14 b15 g1 g2 g3 g4 g5 g6 g7 g8
        subst g2 g3
        refine hp (W - v - 1) ql _ _ _ _ _ _ _ _ _ _ _ _ _ _ _ _ _ _ _ _ _ (by omega) ⟨rfl, rfl, rfl, rfl, rfl, B, el_up C n c', L, P, T, el_up X o (hh + 1), el_up Y o hh, os, el_Ld_cnt hl g4 g5 g7 g8, nm', fun z => by rw [el_up_s]; exact g6 z, by rw [el_up_s]; omega, fun o' ho' => ?_, hnd', by omega, mq' c', fun o' k1 k2 k3 k4 => ?_, hos', fun o' k1 k2 => by rw [el_up_n k2]; exact hpc o' k1 k2⟩ hQ
        · by_cases e : o' = n
          · subst e; rw [el_up_s]; have := hC0 o' ho'; omega
          · rw [el_up_n e]; exact hC0 o' ho'
        · rw [el_up_n k2]
          by_cases e : o' = o
          · subst e; rw [el_up_s]; exact Or.inr ⟨g1, hh5 g1⟩
          · rw [el_up_n e]
            rcases hnear o' k1 k2 k3 k4 with k | k
            · rcases List.mem_cons.mp k with z | z
              · exact absurd z e
              · exact Or.inl z
            · exact Or.inr k
      · intro c' b11 b12 b14 b15 b16 mm g1 g2 g3 g4 g5 g6 g7 g8 g9 g10
        subst g2 g3
        rw [hT] at g9
        have hbc := el_Nd_le g4
        obtain ⟨v', s1, s2, s3, s4⟩ := el_Snd_Msg (p := P o) (y := hh) (c0 := c0) (cO := C o) g9 ho hne (by omega) (by omega) (by omega) (by omega) (by omega) (by omega)
        have s5 := s3 (by omega) (by omega) (by omega)
        rw [show hh + 1 - 1 = hh by omega] at s5
        refine hp (W - v - 1 + v' + 1) (ql ++ [mm]) _ _ _ _ _ _ _ _ _ _ _ _ _ _ _ _ _ _ _ _ _ (by omega) ⟨rfl, rfl, rfl, rfl, rfl, B, el_up C n c', L, P, T, el_up X o (hh + 1), el_up Y o hh, os ++ [o], el_Ld_cnt hl g4 g5 g7 g8, nm', fun z => by rw [el_up_s]; exact g6 z, by rw [el_up_s]; omega, fun o' ho' => ?_, el_nd_rot hnd, ?_, el_MQ_add ?_ os ql _ (mq' c'), fun o' k1 k2 k3 k4 => ?_, hos2, fun o' k1 k2 => by rw [el_up_n k2]; exact hpc o' k1 k2⟩ g10
        · by_cases e : o' = n
          · subst e; rw [el_up_s]; have := hC0 o' ho'; omega
          · rw [el_up_n e]; exact hC0 o' ho'
        · rw [List.length_append]; show ql.length + 1 ≤ 5; omega
        · show el_Msg G M n c0 (B n) (T n) o (el_up C n c' o) (P o) (el_up Y o hh o) mm v'
          rw [el_up_s, el_up_n hne]; exact s1
        · rw [el_up_n k2]
          by_cases e : o' = o
          · exact Or.inl (by rw [e]; exact List.mem_append_right _ (List.mem_singleton.mpr rfl))
          · rw [el_up_n e]
            rcases hnear o' k1 k2 k3 k4 with k | k
            · rcases List.mem_cons.mp k with z | z
              · exact absurd z e
              · exact Or.inl (List.mem_append_left _ z)
            · exact Or.inr k
    · -- the leader hears what o lacks
      refine ⟨o, n, ho, q2, m1, m2, fun hj => ?_, fun hj => drop (by rw [el_jn_symm]; exact hj)⟩
      rw [m0]
      unfold wpX_deliver
      dsimp only
      refine br_f (by decide) (br_f (by decide) (br_f (by decide) (br_f (by decide) (br_f (by decide) (br_f (by decide) ?_)))))
      refine el_hearLacks q2 ho q7.1 hdN (by rw [h17 4 (by omega), m4]) (by omega) hQ hql ?_
      intro b14 b16 mm g2 g9 g10
      subst g2
      rw [hT] at g9
      obtain ⟨v', s1, s2, s3, s4⟩ := el_Snd_Msg (p := P o) (y := Y o) (c0 := c0) (cO := C o) g9 ho hne (by omega) (by omega) (by omega) (by omega) (by omega) (by omega)
      have s5 := s4 (by omega)
      refine hp (W - v - 1 + v' + 1) (ql ++ [mm]) _ _ _ _ _ _ _ _ _ _ _ _ _ _ _ _ _ _ _ _ _ (by omega) ⟨rfl, rfl, rfl, rfl, rfl, B, C, L, P, T, el_up X o (hh + 1), Y, os ++ [o], hl, fun o' ho' => ?_, hcm, hc0, hC0, el_nd_rot hnd, ?_, el_MQ_add (R := fun o m v => el_Msg G M n c0 (B n) (T n) o (C o) (P o) (Y o) m v) s1 os ql _ hrest, fun o' k1 k2 k3 k4 => ?_, hos2, hpc⟩ g10
      · by_cases e : o' = o
        · subst e
          obtain ⟨z1, z2, z3, z4, z5, z6⟩ := hnm o' ho'
          rw [el_up_s]
          exact ⟨pk_us, z2, by omega, z4, fun z => ⟨by omega, (z5 z).2⟩, z6⟩
        · rw [el_up_n e]
          obtain ⟨z1, z2, z3, z4, z5, z6⟩ := hnm o' ho'
          exact ⟨(pk_un (by omega)).trans z1, z2, z3, z4, z5, z6⟩
      · rw [List.length_append]; show ql.length + 1 ≤ 5; omega
      · rcases hnear o' k1 k2 k3 k4 with k | k
        · rcases List.mem_cons.mp k with e | e
          · exact Or.inl (by rw [e]; exact List.mem_append_right _ (List.mem_singleton.mpr rfl))
          · exact Or.inl (List.mem_append_left _ e)
        · exact Or.inr k
end
end
section
/-! sendAll, spread -/
section
variable {f w h x : Int32} {a1 a2 a3 a4 a5 a6 a7 a8 a9 a10 a11 a12 a13 a14 a15 a16 a17 : Nat → Int32} {G : Nat → Nat → Int32} {M K N n : Nat} {B C L P T X Y : Nat → Nat}
theorem el_sendAll {post : St1 → Prop} (hl : el_Ld G M K N n B C L P T a3 a4 a7 a8 a9 a10 a11 a12 a13) (hnm : el_NM n M P X Y a14 a15) (hQ : el_Qu f w a16 [])
    (hp : ∀ (w' : Int32) (b16 : Nat → Int32) (ql : List (Nat → Int32)) (os : List Nat) (W : Nat), W ≤ 500 → el_Qu f w' b16 ql → os.Nodup → ql.length ≤ 5 → el_MQ (fun o m v => el_Msg G M n (C n) (B n) (T n) o (C o) (P o) (Y o) m v) os ql W → (∀ o, o < 5 → o ≠ n → (el_cf G M).testBit o = true → o ∈ os) → (∀ o, o ∈ os → (el_cf G M).testBit o = true) → post (f, w', h, x, a1, a2, a3, a4, a5, a6, a7, a8, a9, a10, a11, a12, a13, a14, a15, b16, a17)) : wpX_sendAll post (f, w, h, x, a1, a2, a3, a4, a5, a6, a7, a8, a9, a10, a11, a12, a13, a14, a15, a16, a17) (nI n) := by
  obtain ⟨q1, q2, q3, q4, q5, q6, q7, q8, q9, q10, q11, q12, q13⟩ := id hl
  have hd := q3 n q2
  rw [q8.1, q8.2] at hd
  have hb := el_Nd_le hd
  have hcf := el_wf_cf q1 (Nat.le_refl M)
  have hT := q4 n q2
  unfold wpX_sendAll
  dsimp only
  refine el_membersFor q2 hd q1 ?_
  refine pk_loop (fun m i (s : Int32 × (Nat → Int32)) => wX_sendAll_8 post (nI n) (nI (el_cf G M)) m (nI i) f s.1 h x a1 a2 a3 a4 a5 a6 a7 a8 a9 a10 a11 a12 a13 a14 a15 s.2 a17) (fun i s => ∃ (ql : List (Nat → Int32)) (os : List Nat) (W : Nat), W ≤ 80 * i ∧ el_Qu f s.1 s.2 ql ∧ os.Nodup ∧ ql.length ≤ i ∧ el_MQ (fun o m v => el_Msg G M n (C n) (B n) (T n) o (C o) (P o) (Y o) m v) os ql W ∧ (∀ o, o < i → o ≠ n → (el_cf G M).testBit o = true → o ∈ os) ∧ (∀ o, o ∈ os → o < i ∧ (el_cf G M).testBit o = true)) 5 0 (w, a16) (by omega) ⟨[], [], 0, by omega, hQ, List.nodup_nil, Nat.le_refl 0, trivial, fun o ho => absurd ho (by omega), fun o ho => absurd ho (List.not_mem_nil)⟩ ?_ ?_
  · rintro m ⟨s1, s2⟩ ⟨ql, os, W, g1, g2, g3, g4, g5, g6, g7⟩
    refine pk_le 5 5 (fun _ => hp s1 s2 ql os W (by omega) g2 g3 g4 g5 g6 (fun o ho => (g7 o ho).2)) (fun z => absurd z (by omega))
  · rintro m i ⟨s1, s2⟩ hi ⟨ql, os, W, g1, g2, g3, g4, g5, g6, g7⟩ hk
    dsimp only at g2 ⊢
    have skip : (¬ (i ≠ n ∧ (el_cf G M).testBit i = true)) → wX_sendAll_8 post (nI n) (nI (el_cf G M)) m (nI (i + 1)) f s1 h x a1 a2 a3 a4 a5 a6 a7 a8 a9 a10 a11 a12 a13 a14 a15 s2 a17 := by
      intro hno
      refine hk (s1, s2) ⟨ql, os, W, by omega, g2, g3, by omega, g5, fun o ho k1 k2 => ?_, fun o ho => ⟨by have := (g7 o ho).1; omega, (g7 o ho).2⟩⟩
      by_cases e : o = i
      · subst e; exact absurd ⟨k1, k2⟩ hno
      · exact g6 o (by omega) k1 k2
    unfold wX_sendAll_8
    refine pk_le 5 i (fun z => absurd z (by omega)) (fun _ => ?_)
    refine pk_eq i n (fun z => nm_r (nI_1 i) (skip (fun t => t.1 z))) (fun z => ?_)
    refine el_bit1 hcf.1 hi (fun z2 => ?_) (fun z2 => nm_r (nI_1 i) (skip (fun t => by rw [t.2] at z2; exact absurd z2 (by decide))))
    obtain ⟨x1, x2, x3, x4, x5, x6⟩ := hnm i hi
    have x7 := x5 z
    refine el_sendTo q2 hi hd x1 (by omega) (by omega) g2 (by omega) (fun b16 mm k1 k2 => ?_)
    rw [hT] at k1
    obtain ⟨v', s1', s2', s3', s4'⟩ := el_Snd_Msg (p := P i) (y := Y i) (c0 := C n) (cO := C i) k1 hi z (by omega) (by omega) (by omega) (by omega) (by omega) (by omega)
    refine nm_r (nI_1 i) (hk (s1 + 1, b16) ⟨ql ++ [mm], os ++ [i], W + v' + 1, by omega, k2, ?_, ?_, el_MQ_add (R := fun o m v => el_Msg G M n (C n) (B n) (T n) o (C o) (P o) (Y o) m v) s1' os ql _ g5, fun o ho k3 k4 => ?_, fun o ho => ?_⟩)
    · refine el_nd_rot (List.nodup_cons.mpr ⟨fun z => ?_, g3⟩)
      have := (g7 i z).1; omega
    · rw [List.length_append]; show ql.length + 1 ≤ i + 1; omega
    · by_cases e : o = i
      · exact List.mem_append_right _ (List.mem_singleton.mpr e)
      · exact List.mem_append_left _ (g6 o (by omega) k3 k4)
    · rcases List.mem_append.mp ho with e | e
      · have := g7 o e; exact ⟨by omega, this.2⟩
      · have e := List.mem_singleton.mp e; rw [e]; exact ⟨by omega, z2⟩
theorem el_spread {post : St1 → Prop} (hl : el_Ld G M K N n B C L P T a3 a4 a7 a8 a9 a10 a11 a12 a13) (hnm : el_NM n M P X Y a14 a15) (hQ : el_Qu f w a16 []) (hmaj : el_maj (el_jn a1 a2 n) (el_cf G M)) (hpc : ∀ m, m < 5 → m ≠ n → P m = C m ∨ ((el_cf G M).testBit m = true ∧ el_jn a1 a2 n m = true))
    (hp : ∀ (f w : Int32) (b3 b4 b5 b7 b8 b9 b10 b11 b12 b13 b14 b15 b16 b17 : Nat → Int32) (B' C' L' P' T' X' Y' : Nat → Nat), el_Ld G M K N n B' C' L' P' T' b3 b4 b7 b8 b9 b10 b11 b12 b13 → el_NM n M P' X' Y' b14 b15 → el_Qu f w b16 [] → (∀ o, o < 5 → C o ≤ C' o) → C' n = M → (∀ o, o < 5 → o ≠ n → (el_cf G M).testBit o = true → el_jn a1 a2 n o = true → C n ≤ C' o ∧ P' o = M) → (∀ m, m < 5 → m ≠ n → P' m = C' m ∨ ((el_cf G M).testBit m = true ∧ el_jn a1 a2 n m = true)) → post (f, w, h, x, a1, a2, b3, b4, b5, a6, b7, b8, b9, b10, b11, b12, b13, b14, b15, b16, b17)) : wpX_spread post (f, w, h, x, a1, a2, a3, a4, a5, a6, a7, a8, a9, a10, a11, a12, a13, a14, a15, a16, a17) (nI n) := by
  obtain ⟨q1, q2, q3, q4, q5, q6, q7, q8, q9, q10, q11, q12, q13⟩ := id hl
  have hd := q3 n q2
  rw [q8.1, q8.2] at hd
  have hT2 : a4 n = G M 0 := by rw [q4 n q2, q6.1]; exact (q1.2.2.2.1 M (Nat.le_refl M)).1.symm
  have hb := el_Nd_le hd
  unfold wpX_spread
  dsimp only
  refine el_countMost q2 hd q1 hT2 (fun o ho => ⟨(hnm o ho).2.1, by have := (hnm o ho).2.2.2.1; omega⟩) (fun c1 b11 b12 g1 g2 g3 g4 g5 => ?_)
  have hl1 := el_Ld_cnt hl g1 g2 g4 g5
  dsimp only
  refine el_sendAll hl1 hnm hQ (fun w' b16 ql os W k1 k2 k3 k4 k5 k6 k7 => ?_)
  rw [el_up_s] at k5
  have hmn : ∀ o, o < 5 → C o ≤ el_up C n c1 o := by
    intro o ho
    by_cases e : o = n
    · subst e; rw [el_up_s]; exact g2
    · rw [el_up_n e]; exact Nat.le_refl _
  refine el_deliverAll (el_JS G M K N n c1 C h x a1 a2 a6) W (by omega) k2 ⟨rfl, rfl, rfl, rfl, rfl, B, el_up C n c1, L, P, T, X, Y, os, hl1, hnm, fun z => by rw [el_up_s]; exact g3 z, by rw [el_up_s]; exact Nat.le_refl _, hmn, k3, k4, k5, fun o z1 z2 z3 z4 => Or.inl (k6 o z1 z2 z3), k7, fun m z1 z2 => by rw [el_up_n z2]; exact hpc m z1 z2⟩ ?_ ?_ ?_
  · rintro W ql s ⟨_, _, _, _, _, B', C', L', P', T', X', Y', os', _, _, _, _, _, _, _, hmq, _, _, _⟩
    exact (el_MQ_len os' ql W hmq).2
  · exact el_JS_step
  · rintro W f' w' h' x' c1' c2' c3 c4 c5 c6' c7 c8 c9 c10 c11 c12 c13 c14 c15 c16 c17 ⟨eh, ex, e1, e2, e6, B', C', L', P', T', X', Y', os', hl', hnm', hcm', hc0', hC0', hnd', hlen', hmq', hnear', hos', hpc'⟩ hQ'
    dsimp only at eh ex e1 e2 e6 hl' hnm'
    subst eh ex e1 e2 e6
    have eos : os' = [] := by
      have := (el_MQ_len os' [] W hmq').1
      exact List.length_eq_zero_iff.mp this
    subst eos
    have near : ∀ o, o < 5 → o ≠ n → (el_cf G M).testBit o = true → el_jn c1' c2' n o = true → Y' o = M ∧ c1 ≤ C' o := by
      intro o z1 z2 z3 z4
      rcases hnear' o z1 z2 z3 z4 with z | z
      · exact absurd z (List.not_mem_nil)
      · exact z
    refine hp f' w' c3 c4 c5 c7 c8 c9 c10 c11 c12 c13 c14 c15 c16 c17 B' C' L' P' T' X' Y' hl' hnm' hQ' hC0' (hcm' (el_maj_congr (fun k hk z1 z2 => ?_) hmaj)) (fun o z1 z2 z3 z4 => ?_) hpc'
    · refine decide_eq_true ?_
      by_cases e : k = n
      · exact Nat.le_of_eq ((hnm' k hk).2.2.2.2.2 e).symm
      · exact Nat.le_of_eq (near k hk e z1 z2).1.symm
    · obtain ⟨y1, y2⟩ := near o z1 z2 z3 z4
      refine ⟨by omega, ?_⟩
      have := ((hnm' o z1).2.2.2.2.1 z2).2
      have := (el_Nd_le (hl'.2.2.1 o z1)).2.2.1
      omega
end
end
section
/-! elections: asking for votes -/
/-- the log of n is not behind that of o -/
def el_utd (G : Nat → Nat → Int32) (C L : Nat → Nat) (n o : Nat) : Bool := decide (el_gt G (C o) < el_gt G (C n) ∨ (el_gt G (C n) = el_gt G (C o) ∧ L o ≤ L n))
theorem el_set_ins (s s' : Nat → Bool) {o : Nat} (ho : o < 5) (h : ∀ k, k < 5 → s' k = (s k || decide (k = o))) : nI (el_set s 5) ||| ((1 : Int32) <<< (nI o &&& 31)) = nI (el_set s' 5) := by
  rw [el_orb _ (el_set5 s) o ho]
  congr 1
  have bit : ∀ k, k < 5 → (el_set s 5 ||| 2 ^ o).testBit k = (el_set s' 5).testBit k := by
    intro k hk
    rw [el_ort _ (el_set5 s) o ho k hk, el_set_bit s k hk, el_set_bit s' k hk, h k hk]
  exact el_ext32 _ (el_orl _ (el_set5 s) o ho) _ (el_set5 s') ⟨bit 0 (by omega), bit 1 (by omega), bit 2 (by omega), bit 3 (by omega), bit 4 (by omega)⟩
theorem el_set_one (n : Nat) (hn : n < 5) : ((1 : Int32) <<< (nI n &&& 31)) = nI (el_set (fun k => decide (k = n)) 5) := by
  have := el_set_ins (fun _ => false) (fun k => decide (k = n)) hn (fun k _ => by rw [Bool.false_or])
  rw [← this]
  show _ = nI 0 ||| _
  rw [nI_0, Int32.zero_or]
section
variable {f w h x : Int32} {a1 a2 a3 a4 a5 a6 a7 a8 a9 a10 a11 a12 a13 a14 a15 a16 a17 : Nat → Int32} {G : Nat → Nat → Int32} {M K n o : Nat} {B C L T : Nat → Nat} {ql : List (Nat → Int32)}
theorem el_isUpToDate {post : Int32 → Prop} (ho : o < 5) (hn : n < 5) (hL : el_LG G M B C L C a7 a8 a9 a10 a11 a12 a13) (hw : el_WF G M K) (m4 : a17 4 = nI (L n)) (m5 : a17 5 = nI (el_gt G (C n))) (h1 : el_utd G C L n o = true → post 1) (h0 : el_utd G C L n o = false → post 0) : wpX_isUpToDate post (f, w, h, x, a1, a2, a3, a4, a5, a6, a7, a8, a9, a10, a11, a12, a13, a14, a15, a16, a17) (nI o) := by
  have hd := hL o ho
  have hb := el_Nd_le hd
  have hbn := el_Nd_le (hL n hn)
  have g := hw.2.2.2.1 (C o) (by omega)
  have gn := hw.2.2.2.1 (C n) (by omega)
  have hK := hw.1
  unfold wpX_isUpToDate
  dsimp only
  refine el_lastOf ho hd ?_
  refine el_termAt ho hd (by omega) (Nat.le_refl _) ?_
  rw [show min (L o) (C o) = C o by omega, g.1, m5, m4]
  refine pk_lt (el_gt G (C o)) (el_gt G (C n)) (fun z => h1 (decide_eq_true (Or.inl z))) (fun z => ?_)
  refine pk_eq (el_gt G (C n)) (el_gt G (C o)) (fun z2 => ?_) (fun z2 => h0 (decide_eq_false (by omega)))
  refine el_lastOf ho hd ?_
  exact pk_lt (L n) (L o) (fun z3 => h0 (decide_eq_false (by omega))) (fun z3 => h1 (decide_eq_true (Or.inr ⟨z2, z3⟩)))
theorem el_elect {post : St1 → Prop} {t t0 : Nat} (hn : n < 5) (ho : o < 5) (hL : el_LG G M B C L C a7 a8 a9 a10 a11 a12 a13) (hw : el_WF G M K) (h4 : a4 o = nI t0) (ht : t < 2 ^ 31) (ht0 : t0 < 2 ^ 31) (h3 : a3 o = 0) (m3 : a17 3 = nI t) (m4 : a17 4 = nI (L n)) (m5 : a17 5 = nI (el_gt G (C n))) (hQ : el_Qu f w a16 ql) (hql : ql.length < 8)
    (hp0 : ∀ b3 b4 b5 : Nat → Int32, (∀ j, j ≠ o → b3 j = a3 j) → b3 o = 0 → (∀ j, j ≠ o → b4 j = a4 j) → b4 o = nI (max t0 t) → ¬ (el_utd G C L n o = true ∧ t0 < t) → post (f, w, h, x, a1, a2, b3, b4, b5, a6, a7, a8, a9, a10, a11, a12, a13, a14, a15, a16, a17))
    (hp1 : ∀ b3 b4 b5 b16 m : Nat → Int32, (∀ j, j ≠ o → b3 j = a3 j) → b3 o = 0 → (∀ j, j ≠ o → b4 j = a4 j) → b4 o = nI (max t0 t) → el_utd G C L n o = true → max t0 t = t → el_Qu f (w + 1) b16 (ql ++ [m]) → m 0 = 4 → m 1 = nI o → m 2 = nI n → post (f, (w + 1), h, x, a1, a2, b3, b4, b5, a6, a7, a8, a9, a10, a11, a12, a13, a14, a15, b16, a17)) : wpX_elect post (f, w, h, x, a1, a2, a3, a4, a5, a6, a7, a8, a9, a10, a11, a12, a13, a14, a15, a16, a17) (nI n) (nI o) := by
  unfold wpX_elect
  dsimp only
  rw [m3]
  refine el_enterTerm' ho h4 ht ht0 (fun b3 b4 b5 e3 e4 e5 e4o k1 k2 => ?_)
  have e3o : b3 o = 0 := by
    by_cases z : t0 < t
    · exact (k1 z).1
    · exact (k2 (by omega)).1.trans h3
  have no : ∀ c5 : Nat → Int32, ¬ (el_utd G C L n o = true ∧ t0 < t) → post (f, w, h, x, a1, a2, b3, b4, c5, a6, a7, a8, a9, a10, a11, a12, a13, a14, a15, a16, a17) := fun c5 hz => hp0 b3 b4 c5 e3 e3o e4 e4o hz
  have yes : wX_elect_35 post (nI n) (nI o) 1 f w h x a1 a2 b3 b4 b5 a6 a7 a8 a9 a10 a11 a12 a13 a14 a15 a16 a17 := by
    unfold wX_elect_35
    rw [nI_clamp (by omega), e4o, m3]
    refine ⟨(vp_in_nI (by omega) (by omega)), pk_eq t (max t0 t) (fun z => br_f (by decide) ?_) (fun z => no b5 (fun y => by omega))⟩
    refine el_isUpToDate ho hn hL hw m4 m5 (fun u => br_f (by decide) ⟨(vp_in_nI (by omega) (by omega)), nm_e ?_⟩) (fun u => br_t rfl (no b5 (fun y => by rw [u] at y; exact absurd y.1 (by decide))))
    refine el_post hQ hql ho (fun q' b16 m n0 n1 n2 n3 n4 n5 n6 n7 hQ' _ _ _ => ?_)
    exact hp1 b3 b4 _ b16 m e3 e3o e4 e4o u z.symm hQ' n0 n1 n2
  dsimp only
  rw [nI_clamp (by omega)]
  refine ⟨(vp_in_nI (by omega) (by omega)), br_c (fun z => ?_) (fun z => ⟨(vp_in_nI (by omega) (by omega)), br_c (fun z2 => ?_) (fun z2 => ?_)⟩)⟩
  · exact yes
  · exact yes
  · unfold wX_elect_35
    rw [nI_clamp (by omega), e4o, m3]
    have late : ¬ t0 < t := fun y => z (by rw [(k1 y).2]; decide)
    exact ⟨(vp_in_nI (by omega) (by omega)), pk_eq t (max t0 t) (fun _ => br_t rfl (no b5 (fun y => late y.2))) (fun _ => no b5 (fun y => late y.2))⟩
end
/-- who has said yes -/
def el_Yes (G : Nat → Nat → Int32) (srt n t mem : Nat) (C L T : Nat → Nat) (a1 a2 : Nat → Int32) (o : Nat) : Prop := mem.testBit o = true ∧ el_jn a1 a2 n o = true ∧ el_utd G C L n o = true ∧ (srt = 3 → T o = t)
def el_Ask (G : Nat → Nat → Int32) (srt n t mem : Nat) (C L T0 T : Nat → Nat) (a1 a2 : Nat → Int32) (o : Nat) (m : Nat → Int32) (v : Nat) : Prop :=
  o < 5 ∧ o ≠ n ∧ mem.testBit o = true ∧ ((m 0 = nI srt ∧ m 1 = nI n ∧ m 2 = nI o ∧ (srt = 3 → m 3 = nI t) ∧ m 4 = nI (L n) ∧ m 5 = nI (el_gt G (C n)) ∧ T o = T0 o ∧ v = 1) ∨ (m 0 = nI (srt + 1) ∧ m 1 = nI o ∧ m 2 = nI n ∧ T o = max (T0 o) t ∧ el_Yes G srt n t mem C L T a1 a2 o ∧ v = 0))
def el_JA (G : Nat → Nat → Int32) (srt n t mem : Nat) (C L T0 : Nat → Nat) (h x : Int32) (a1 a2 a7 a8 a9 a10 a11 a12 a13 a14 a15 : Nat → Int32) (W : Nat) (ql : List (Nat → Int32)) (s : St1) : Prop :=
  (s.2.2.1 = h ∧ s.2.2.2.1 = x ∧ s.2.2.2.2.1 = a1 ∧ s.2.2.2.2.2.1 = a2 ∧ s.2.2.2.2.2.2.2.2.2.2.1 = a7 ∧ s.2.2.2.2.2.2.2.2.2.2.2.1 = a8 ∧ s.2.2.2.2.2.2.2.2.2.2.2.2.1 = a9 ∧ s.2.2.2.2.2.2.2.2.2.2.2.2.2.1 = a10 ∧ s.2.2.2.2.2.2.2.2.2.2.2.2.2.2.1 = a11 ∧ s.2.2.2.2.2.2.2.2.2.2.2.2.2.2.2.1 = a12 ∧ s.2.2.2.2.2.2.2.2.2.2.2.2.2.2.2.2.1 = a13 ∧ s.2.2.2.2.2.2.2.2.2.2.2.2.2.2.2.2.2.1 = a14 ∧ s.2.2.2.2.2.2.2.2.2.2.2.2.2.2.2.2.2.2.1 = a15) ∧
  ∃ (T : Nat → Nat) (vs : Nat → Bool) (os : List Nat), (∀ m, m < 5 → s.2.2.2.2.2.2.2.1 m = nI (T m)) ∧ (∀ m, m < 5 → s.2.2.2.2.2.2.1 m = 0) ∧ s.2.2.2.2.2.2.2.2.2.1 n = nI (el_set vs 5) ∧ vs n = true ∧ (∀ o, o < 5 → o ≠ n → vs o = true → el_Yes G srt n t mem C L T a1 a2 o) ∧ (∀ o, o < 5 → T o = T0 o ∨ (o ≠ n ∧ mem.testBit o = true ∧ el_jn a1 a2 n o = true ∧ T o = max (T0 o) t)) ∧ (∀ o, o < 5 → o ≠ n → mem.testBit o = true → el_jn a1 a2 n o = true → o ∈ os ∨ T o = max (T0 o) t) ∧ (∀ o, o < 5 → o ≠ n → mem.testBit o = true → el_jn a1 a2 n o = true → el_utd G C L n o = true → (srt = 3 → T0 o < t) → o ∈ os ∨ vs o = true) ∧ os.Nodup ∧ ql.length ≤ 5 ∧ el_MQ (fun o m v => el_Ask G srt n t mem C L T0 T a1 a2 o m v) os ql W
section
variable {G : Nat → Nat → Int32} {M K n srt t mem : Nat} {B C L T0 : Nat → Nat} {h0 x0 : Int32} {A1 A2 A7 A8 A9 A10 A11 A12 A13 A14 A15 : Nat → Int32}
theorem el_JA_step (hn : n < 5) (hsrt : srt = 1 ∧ t = 0 ∨ srt = 3) (ht : t < 2 ^ 31) (hT0 : ∀ o, o < 5 → T0 o < 2 ^ 31) (hL : el_LG G M B C L C A7 A8 A9 A10 A11 A12 A13) (hw : el_WF G M K) (W : Nat) (m : Nat → Int32) (ql : List (Nat → Int32)) (f w h x : Int32) (a1 a2 a3 a4 a5 a6 a7 a8 a9 a10 a11 a12 a13 a14 a15 a16 a17 : Nat → Int32) (f' w' : Int32) (b17 : Nat → Int32) (post' : St1 → Prop) (hJ : el_JA G srt n t mem C L T0 h0 x0 A1 A2 A7 A8 A9 A10 A11 A12 A13 A14 A15 W (m :: ql) (f, w, h, x, a1, a2, a3, a4, a5, a6, a7, a8, a9, a10, a11, a12, a13, a14, a15, a16, a17)) (hQ : el_Qu f' w' a16 ql) (hql : ql.length < 8) (h17 : ∀ k, k < 16 → b17 k = m k)
    (hp : ∀ (W' : Nat) (ql' : List (Nat → Int32)) (f w h x : Int32) (a1 a2 a3 a4 a5 a6 a7 a8 a9 a10 a11 a12 a13 a14 a15 a16 a17 : Nat → Int32), W' < W → el_JA G srt n t mem C L T0 h0 x0 A1 A2 A7 A8 A9 A10 A11 A12 A13 A14 A15 W' ql' (f, w, h, x, a1, a2, a3, a4, a5, a6, a7, a8, a9, a10, a11, a12, a13, a14, a15, a16, a17) → el_Qu f w a16 ql' → post' (f, w, h, x, a1, a2, a3, a4, a5, a6, a7, a8, a9, a10, a11, a12, a13, a14, a15, a16, a17)) :
    ∃ fr to : Nat, fr < 5 ∧ to < 5 ∧ m 1 = nI fr ∧ m 2 = nI to ∧ (el_jn a1 a2 fr to = true → wpX_deliver post' (f', w', h, x, a1, a2, a3, a4, a5, a6, a7, a8, a9, a10, a11, a12, a13, a14, a15, a16, b17) (m 0) (nI fr) (nI to)) ∧ (el_jn a1 a2 fr to = false → post' (f', w', h, x, a1, a2, a3, a4, a5, a6, a7, a8, a9, a10, a11, a12, a13, a14, a15, a16, b17)) := by
  obtain ⟨⟨eh, ex, e1, e2, e7, e8, e9, e10, e11, e12, e13, e14, e15⟩, T, vs, os, j1, j2, j3, j4, j5, j6, j7, j8, hnd, hlen, hmq⟩ := hJ
  dsimp only at eh ex e1 e2 e7 e8 e9 e10 e11 e12 e13 e14 e15 j1 j2 j3
  subst eh ex e1 e2 e7 e8 e9 e10 e11 e12 e13 e14 e15
  match os, hnd, hmq, j7, j8 with
  | [], hnd, hmq, j7, j8 => exact hmq.elim
  | o :: os, hnd, hmq, j7, j8 =>
    obtain ⟨v, hv, hmsg, hrest⟩ := hmq
    have hlen' : ql.length + 1 ≤ 5 := hlen
    have hno : o ∉ os := (List.nodup_cons.mp hnd).1
    have hnd' : os.Nodup := (List.nodup_cons.mp hnd).2
    obtain ⟨ho, hne, hme, hcase⟩ := hmsg
    have hon : n ≠ o := fun z => hne z.symm
    have drop : el_jn a1 a2 n o = false → post' (f', w', h, x, a1, a2, a3, a4, a5, a6, a7, a8, a9, a10, a11, a12, a13, a14, a15, a16, b17) := by
      intro hj
      have mm : ∀ o', o' ∈ o :: os → el_jn a1 a2 n o' = true → o' ∈ os := by
        intro o' g g4
        rcases List.mem_cons.mp g with e | e
        · subst e; rw [hj] at g4; exact absurd g4 (by decide)
        · exact e
      exact hp (W - v - 1) ql _ _ _ _ _ _ _ _ _ _ _ _ _ _ _ _ _ _ _ _ _ (by omega) ⟨⟨rfl, rfl, rfl, rfl, rfl, rfl, rfl, rfl, rfl, rfl, rfl, rfl, rfl⟩, T, vs, os, j1, j2, j3, j4, j5, j6, fun o' g1 g2 g3 g4 => (j7 o' g1 g2 g3 g4).imp (fun z => mm o' z g4) id, fun o' g1 g2 g3 g4 g5 g6 => (j8 o' g1 g2 g3 g4 g5 g6).imp (fun z => mm o' z g4) id, hnd', by omega, hrest⟩ hQ
    -- a request was carried out, without an answer and with one
    have req0 : ∀ b3 b4 b5 : Nat → Int32, el_jn a1 a2 n o = true → T o = T0 o → (∀ m, m < 5 → b3 m = 0) → (∀ j, j ≠ o → b4 j = a4 j) → b4 o = nI (max (T0 o) t) → ¬ (el_utd G C L n o = true ∧ (srt = 3 → T0 o < t)) → post' (f', w', h, x, a1, a2, b3, b4, b5, a6, a7, a8, a9, a10, a11, a12, a13, a14, a15, a16, b17) := by
      intro b3 b4 b5 hj hT e3 e4 e4o hz
      have upT : ∀ o', o' ≠ o → el_up T o (max (T0 o) t) o' = T o' := fun o' e => el_up_n e
      refine hp (W - v - 1) ql _ _ _ _ _ _ _ _ _ _ _ _ _ _ _ _ _ _ _ _ _ (by omega) ⟨⟨rfl, rfl, rfl, rfl, rfl, rfl, rfl, rfl, rfl, rfl, rfl, rfl, rfl⟩, el_up T o (max (T0 o) t), vs, os, fun m hm => ?_, e3, j3, j4, fun o' g1 g2 g3 => ?_, fun o' g1 => ?_, fun o' g1 g2 g3 g4 => ?_, fun o' g1 g2 g3 g4 g5 g6 => ?_, hnd', by omega, ?_⟩ hQ
      · by_cases e : m = o
        · subst e; rw [el_up_s]; exact e4o
        · rw [el_up_n e]; exact (e4 m e).trans (j1 m hm)
      · obtain ⟨y1, y2, y3, y4⟩ := j5 o' g1 g2 g3
        refine ⟨y1, y2, y3, fun q => ?_⟩
        by_cases e : o' = o
        · subst e; rw [el_up_s]
          have := y4 q
          omega
        · rw [el_up_n e]; exact y4 q
      · by_cases e : o' = o
        · subst e; rw [el_up_s]; exact Or.inr ⟨hne, hme, hj, rfl⟩
        · rw [el_up_n e]; exact j6 o' g1
      · by_cases e : o' = o
        · subst e; rw [el_up_s]; exact Or.inr rfl
        · rw [el_up_n e]
          rcases j7 o' g1 g2 g3 g4 with z | z
          · rcases List.mem_cons.mp z with q | q
            · exact absurd q e
            · exact Or.inl q
          · exact Or.inr z
      · by_cases e : o' = o
        · subst e; exact absurd ⟨g5, g6⟩ hz
        · rcases j8 o' g1 g2 g3 g4 g5 g6 with z | z
          · rcases List.mem_cons.mp z with q | q
            · exact absurd q e
            · exact Or.inl q
          · exact Or.inr z
      · refine el_MQ_mono os ql _ _ (fun o' m' v'' ho' hm' => ?_) (Nat.le_refl _) hrest
        have e : o' ≠ o := fun z => hno (z ▸ ho')
        obtain ⟨y1, y2, y3, y4⟩ := hm'
        refine ⟨y1, y2, y3, ?_⟩
        unfold el_Yes at *
        rw [el_up_n e]; exact y4
    have req1 : ∀ b3 b4 b5 b16 mm : Nat → Int32, el_jn a1 a2 n o = true → T o = T0 o → 0 < v → (∀ m, m < 5 → b3 m = 0) → (∀ j, j ≠ o → b4 j = a4 j) → b4 o = nI (max (T0 o) t) → el_utd G C L n o = true → (srt = 3 → max (T0 o) t = t) → el_Qu f' (w' + 1) b16 (ql ++ [mm]) → mm 0 = nI (srt + 1) → mm 1 = nI o → mm 2 = nI n → post' (f', (w' + 1), h, x, a1, a2, b3, b4, b5, a6, a7, a8, a9, a10, a11, a12, a13, a14, a15, b16, b17) := by
      intro b3 b4 b5 b16 mm hj hT hv0 e3 e4 e4o hu hmx hQ' r0 r1 r2
      refine hp (W - v - 1 + 0 + 1) (ql ++ [mm]) _ _ _ _ _ _ _ _ _ _ _ _ _ _ _ _ _ _ _ _ _ (by omega) ⟨⟨rfl, rfl, rfl, rfl, rfl, rfl, rfl, rfl, rfl, rfl, rfl, rfl, rfl⟩, el_up T o (max (T0 o) t), vs, os ++ [o], fun m hm => ?_, e3, j3, j4, fun o' g1 g2 g3 => ?_, fun o' g1 => ?_, fun o' g1 g2 g3 g4 => ?_, fun o' g1 g2 g3 g4 g5 g6 => ?_, el_nd_rot hnd, ?_, el_MQ_add (R := fun o' m v => el_Ask G srt n t mem C L T0 (el_up T o (max (T0 o) t)) a1 a2 o' m v) (o := o) (v := 0) (m := mm) ?_ os ql (W - v - 1) ?_⟩ hQ'
      · by_cases e : m = o
        · subst e; rw [el_up_s]; exact e4o
        · rw [el_up_n e]; exact (e4 m e).trans (j1 m hm)
      · obtain ⟨y1, y2, y3, y4⟩ := j5 o' g1 g2 g3
        refine ⟨y1, y2, y3, fun q => ?_⟩
        by_cases e : o' = o
        · subst e; rw [el_up_s]; exact hmx q
        · rw [el_up_n e]; exact y4 q
      · by_cases e : o' = o
        · subst e; rw [el_up_s]; exact Or.inr ⟨hne, hme, hj, rfl⟩
        · rw [el_up_n e]; exact j6 o' g1
      · by_cases e : o' = o
        · subst e; rw [el_up_s]; exact Or.inr rfl
        · rw [el_up_n e]
          rcases j7 o' g1 g2 g3 g4 with z | z
          · rcases List.mem_cons.mp z with q | q
            · exact absurd q e
            · exact Or.inl (List.mem_append_left _ q)
          · exact Or.inr z
      · by_cases e : o' = o
        · exact Or.inl (List.mem_append_right _ (List.mem_singleton.mpr e))
        · rcases j8 o' g1 g2 g3 g4 g5 g6 with z | z
          · rcases List.mem_cons.mp z with q | q
            · exact absurd q e
            · exact Or.inl (List.mem_append_left _ q)
          · exact Or.inr z
      · rw [List.length_append]; show ql.length + 1 ≤ 5; omega
      · refine ⟨ho, hne, hme, Or.inr ⟨r0, r1, r2, el_up_s, ⟨hme, hj, hu, fun q => ?_⟩, rfl⟩⟩
        rw [el_up_s]; exact hmx q
      · refine el_MQ_mono os ql _ _ (fun o' m' v'' ho' hm' => ?_) (Nat.le_refl _) hrest
        have e : o' ≠ o := fun z => hno (z ▸ ho')
        obtain ⟨y1, y2, y3, y4⟩ := hm'
        refine ⟨y1, y2, y3, ?_⟩
        unfold el_Yes at *
        rw [el_up_n e]; exact y4
    rcases hcase with ⟨m0, m1, m2, m3, m4, m5, hT, ev⟩ | ⟨m0, m1, m2, hT, hY, ev⟩
    · refine ⟨n, o, hn, ho, m1, m2, fun hj => ?_, fun hj => drop hj⟩
      rw [m0]
      unfold wpX_deliver
      dsimp only
      rcases hsrt with ⟨z1, z2⟩ | z1
      · subst z1 z2
        refine br_t rfl ?_
        have e4o : a4 o = nI (max (T0 o) 0) := by rw [j1 o ho, hT, Nat.max_zero]
        refine el_isUpToDate ho hn hL hw (by rw [h17 4 (by omega), m4]) (by rw [h17 5 (by omega), m5]) (fun hu => br_f (by decide) ?_) (fun hu => br_t rfl ?_)
        · refine el_post hQ hql ho (fun q' b16 mm n0 n1 n2 n3 n4 n5 n6 n7 hQ' _ _ _ => ?_)
          exact req1 a3 a4 a5 b16 mm hj hT (by omega) j2 (fun _ _ => rfl) e4o hu (fun z => absurd z (by decide)) hQ' n0 n1 n2
        · exact req0 a3 a4 a5 hj hT j2 (fun _ _ => rfl) e4o (fun y => by rw [hu] at y; exact absurd y.1 (by decide))
      · subst z1
        refine br_f (by decide) (br_f (by decide) (br_f (by decide) (br_t rfl ?_)))
        have all3 : ∀ b3 : Nat → Int32, (∀ j, j ≠ o → b3 j = a3 j) → b3 o = 0 → ∀ m, m < 5 → b3 m = 0 := by
          intro b3 g1 g2 m hm
          by_cases e : m = o
          · subst e; exact g2
          · exact (g1 m e).trans (j2 m hm)
        refine el_elect hn ho hL hw (by rw [j1 o ho, hT]) ht (hT0 o ho) (j2 o ho) (by rw [h17 3 (by omega), m3 rfl]) (by rw [h17 4 (by omega), m4]) (by rw [h17 5 (by omega), m5]) hQ hql ?_ ?_
        · intro b3 b4 b5 g1 g2 g3 g4 g5
          exact req0 b3 b4 b5 hj hT (all3 b3 g1 g2) g3 g4 (fun y => g5 ⟨y.1, y.2 rfl⟩)
        · intro b3 b4 b5 b16 mm g1 g2 g3 g4 g5 g6 g7 g8 g9 g10
          exact req1 b3 b4 b5 b16 mm hj hT (by omega) (all3 b3 g1 g2) g3 g4 g5 (fun _ => g6) g7 g8 g9 g10
    · refine ⟨o, n, ho, hn, m1, m2, fun hj => ?_, fun hj => drop (by rw [el_jn_symm]; exact hj)⟩
      rw [m0]
      have fin : wX_deliver_37 post' (nI o) (nI n) f' w' h x a1 a2 a3 a4 a5 a6 a7 a8 a9 a10 a11 a12 a13 a14 a15 a16 b17 := by
        unfold wX_deliver_37
        rw [nI_clamp (by omega), j3]
        refine ⟨(vp_in_nI (by omega) (by omega)), (vp_in_nI (by omega) (by omega)), nm_e ?_⟩
        refine hp (W - v - 1) ql _ _ _ _ _ _ _ _ _ _ _ _ _ _ _ _ _ _ _ _ _ (by omega) ⟨⟨rfl, rfl, rfl, rfl, rfl, rfl, rfl, rfl, rfl, rfl, rfl, rfl, rfl⟩, T, fun k => (vs k || decide (k = o)), os, j1, j2, ?_, by show (vs n || decide (n = o)) = true; rw [j4]; rfl, fun o' g1 g2 g3 => ?_, j6, fun o' g1 g2 g3 g4 => ?_, fun o' g1 g2 g3 g4 g5 g6 => ?_, hnd', by omega, hrest⟩ hQ
        · show upd a6 n _ n = _
          rw [pk_us]
          exact el_set_ins vs _ ho (fun k hk => rfl)
        · by_cases e : o' = o
          · subst e; exact hY
          · have g3' : (vs o' || decide (o' = o)) = true := g3
            rw [decide_eq_false e, Bool.or_false] at g3'
            exact j5 o' g1 g2 g3'
        · by_cases e : o' = o
          · subst e; exact Or.inr hT
          · rcases j7 o' g1 g2 g3 g4 with z | z
            · rcases List.mem_cons.mp z with q | q
              · exact absurd q e
              · exact Or.inl q
            · exact Or.inr z
        · by_cases e : o' = o
          · refine Or.inr ?_
            show (vs o' || decide (o' = o)) = true
            rw [decide_eq_true e, Bool.or_true]
          · rcases j8 o' g1 g2 g3 g4 g5 g6 with z | z
            · rcases List.mem_cons.mp z with q | q
              · exact absurd q e
              · exact Or.inl q
            · refine Or.inr ?_
              show (vs o' || decide (o' = o)) = true
              rw [z]; rfl
      unfold wpX_deliver
      dsimp only
      rcases hsrt with ⟨z1, z2⟩ | z1
      · subst z1
        exact br_f (by decide) (br_t rfl fin)
      · subst z1
        exact br_f (by decide) (br_f (by decide) (br_t rfl fin))
end
end
section
/-! asks; writing an entry; a new leader -/
section
variable {f w h x : Int32} {a1 a2 a3 a4 a5 a6 a7 a8 a9 a10 a11 a12 a13 a14 a15 a16 a17 : Nat → Int32} {G : Nat → Nat → Int32} {M K n srt t b c l p : Nat} {B C L T0 : Nat → Nat}
theorem el_asks {post : Int32 → St1 → Prop} (hn : n < 5) (hsrt : srt = 1 ∧ t = 0 ∨ srt = 3) (ht : t < 2 ^ 31) (hT0 : ∀ o, o < 5 → T0 o < 2 ^ 31) (htn : srt = 3 → t = T0 n) (hL : el_LG G M B C L C a7 a8 a9 a10 a11 a12 a13) (hw : el_WF G M K) (h4 : ∀ m, m < 5 → a4 m = nI (T0 m)) (h3 : ∀ m, m < 5 → a3 m = 0) (hQ : el_Qu f w a16 [])
    (hp : ∀ (r f w : Int32) (b3 b4 b5 b6 b16 b17 : Nat → Int32) (T : Nat → Nat) (vs : Nat → Bool), (r = 1 ∧ el_maj vs (el_cf G (C n)) ∨ r = 0 ∧ ¬ el_maj vs (el_cf G (C n))) → (∀ m, m < 5 → b4 m = nI (T m)) → (∀ m, m < 5 → b3 m = 0) → el_Qu f w b16 [] → vs n = true → (∀ o, o < 5 → o ≠ n → vs o = true → el_Yes G srt n t (el_cf G (C n)) C L T a1 a2 o) → (∀ o, o < 5 → T o = T0 o ∨ (o ≠ n ∧ (el_cf G (C n)).testBit o = true ∧ el_jn a1 a2 n o = true ∧ T o = max (T0 o) t)) → (∀ o, o < 5 → o ≠ n → (el_cf G (C n)).testBit o = true → el_jn a1 a2 n o = true → T o = max (T0 o) t) → (∀ o, o < 5 → o ≠ n → (el_cf G (C n)).testBit o = true → el_jn a1 a2 n o = true → el_utd G C L n o = true → (srt = 3 → T0 o < t) → vs o = true) → post r (f, w, h, x, a1, a2, b3, b4, b5, b6, a7, a8, a9, a10, a11, a12, a13, a14, a15, b16, b17)) : wpX_asks post (f, w, h, x, a1, a2, a3, a4, a5, a6, a7, a8, a9, a10, a11, a12, a13, a14, a15, a16, a17) (nI n) (nI srt) := by
  have hd := hL n hn
  have hb := el_Nd_le hd
  have hcf := el_wf_cf hw (show C n ≤ M by omega)
  have hg := hw.2.2.2.1 (C n) (by omega)
  unfold wpX_asks
  dsimp only
  refine el_membersFor hn hd hw ⟨(vp_in_nI (by omega) (by omega)), nm_e ?_⟩
  rw [nI_clamp (by omega), el_set_one n hn]
  refine pk_loop (fun m i (s : Int32 × (Nat → Int32)) => wX_asks_18 post (nI n) (nI srt) (nI (el_cf G (C n))) m (nI i) f s.1 h x a1 a2 a3 a4 a5 (upd a6 n (nI (el_set (fun k => decide (k = n)) 5))) a7 a8 a9 a10 a11 a12 a13 a14 a15 s.2 a17) (fun i s => ∃ (ql : List (Nat → Int32)) (os : List Nat) (W : Nat), W ≤ 2 * i ∧ el_Qu f s.1 s.2 ql ∧ os.Nodup ∧ ql.length ≤ i ∧ el_MQ (fun o m v => el_Ask G srt n t (el_cf G (C n)) C L T0 T0 a1 a2 o m v) os ql W ∧ (∀ o, o < i → o ≠ n → (el_cf G (C n)).testBit o = true → o ∈ os) ∧ (∀ o, o ∈ os → o < i)) 5 0 (w, a16) (by omega) ⟨[], [], 0, by omega, hQ, List.nodup_nil, Nat.le_refl 0, trivial, fun o ho => absurd ho (by omega), fun o ho => absurd ho (List.not_mem_nil)⟩ ?_ ?_
  · rintro m ⟨s1, s2⟩ ⟨ql, os, W, g1, g2, g3, g4, g5, g6, g7⟩
    dsimp only at g2 ⊢
    unfold wX_asks_18
    refine pk_le 5 5 (fun _ => ?_) (fun z => absurd z (by omega))
    refine el_deliverAll (el_JA G srt n t (el_cf G (C n)) C L T0 h x a1 a2 a7 a8 a9 a10 a11 a12 a13 a14 a15) W (by omega) g2 ⟨⟨rfl, rfl, rfl, rfl, rfl, rfl, rfl, rfl, rfl, rfl, rfl, rfl, rfl⟩, T0, (fun k => decide (k = n)), os, h4, h3, pk_us, decide_eq_true rfl, fun o _ z1 z2 => absurd (of_decide_eq_true z2) z1, fun o _ => Or.inl rfl, fun o z1 z2 z3 _ => Or.inl (g6 o z1 z2 z3), fun o z1 z2 z3 _ _ _ => Or.inl (g6 o z1 z2 z3), g3, g4, g5⟩ ?_ ?_ ?_
    · rintro W ql s ⟨_, T, vs, os', _, _, _, _, _, _, _, _, _, _, hmq⟩
      exact (el_MQ_len os' ql W hmq).2
    · exact el_JA_step hn hsrt ht hT0 hL hw
    · rintro W f' w' h' x' c1' c2' c3 c4 c5 c6 c7 c8 c9 c10 c11 c12 c13 c14 c15 c16 c17 ⟨⟨eh, ex, e1, e2, e7, e8, e9, e10, e11, e12, e13, e14, e15⟩, T, vs, os', j1, j2, j3, j4, j5, j6, j7, j8, _, _, hmq⟩ hQ'
      dsimp only at eh ex e1 e2 e7 e8 e9 e10 e11 e12 e13 e14 e15 j1 j2 j3
      subst eh ex e1 e2 e7 e8 e9 e10 e11 e12 e13 e14 e15
      have eos : os' = [] := by
        have := (el_MQ_len os' [] W hmq).1
        exact List.length_eq_zero_iff.mp this
      subst eos
      dsimp only
      rw [nI_clamp (by omega), j3]
      refine ⟨(vp_in_nI (by omega) (by omega)), ?_⟩
      have key : ∀ r : Int32, (r = 1 ∧ el_maj vs (el_cf G (C n)) ∨ r = 0 ∧ ¬ el_maj vs (el_cf G (C n))) → post r (f', w', h', x', c1', c2', c3, c4, c5, c6, c7, c8, c9, c10, c11, c12, c13, c14, c15, c16, c17) := by
        intro r hr
        exact hp r f' w' c3 c4 c5 c6 c16 c17 T vs hr j1 j2 hQ' j4 j5 j6 (fun o z1 z2 z3 z4 => (j7 o z1 z2 z3 z4).resolve_left (List.not_mem_nil)) (fun o z1 z2 z3 z4 z5 z6 => (j8 o z1 z2 z3 z4 z5 z6).resolve_left (List.not_mem_nil))
      exact el_isMost rfl hcf.1 (fun z => ⟨rfl, key 1 (Or.inl ⟨rfl, z⟩)⟩) (fun z => ⟨rfl, key 0 (Or.inr ⟨rfl, z⟩)⟩)
  · rintro m i ⟨s1, s2⟩ hi ⟨ql, os, W, g1, g2, g3, g4, g5, g6, g7⟩ hk
    dsimp only at g2 ⊢
    have skip : (¬ (i ≠ n ∧ (el_cf G (C n)).testBit i = true)) → wX_asks_18 post (nI n) (nI srt) (nI (el_cf G (C n))) m (nI (i + 1)) f s1 h x a1 a2 a3 a4 a5 (upd a6 n (nI (el_set (fun k => decide (k = n)) 5))) a7 a8 a9 a10 a11 a12 a13 a14 a15 s2 a17 := by
      intro hno
      refine hk (s1, s2) ⟨ql, os, W, by omega, g2, g3, by omega, g5, fun o ho k1 k2 => ?_, fun o ho => by have := g7 o ho; omega⟩
      by_cases e : o = i
      · subst e; exact absurd ⟨k1, k2⟩ hno
      · exact g6 o (by omega) k1 k2
    unfold wX_asks_18
    refine pk_le 5 i (fun z => absurd z (by omega)) (fun _ => ?_)
    refine pk_eq i n (fun z => nm_r (nI_1 i) (skip (fun t => t.1 z))) (fun z => ?_)
    refine el_bit1 hcf.1 hi (fun z2 => ?_) (fun z2 => nm_r (nI_1 i) (skip (fun t => by rw [t.2] at z2; exact absurd z2 (by decide))))
    refine el_lastOf hn hd ?_
    refine el_termAt hn hd (by omega) (Nat.le_refl _) ?_
    rw [show min (L n) (C n) = C n by omega, hg.1]
    refine el_post g2 (by omega) hn (fun q' b16 mm n0 n1 n2 n3 n4 n5 n6 n7 hQ' _ _ _ => ?_)
    refine nm_r (nI_1 i) (hk (s1 + 1, b16) ⟨ql ++ [mm], os ++ [i], W + 1 + 1, by omega, hQ', ?_, ?_, el_MQ_add (R := fun o m v => el_Ask G srt n t (el_cf G (C n)) C L T0 T0 a1 a2 o m v) (o := i) (v := 1) (m := mm) ⟨hi, z, z2, Or.inl ⟨n0, n1, n2, fun q => by rw [n3, htn q]; exact h4 n hn, n4, n5, rfl, rfl⟩⟩ os ql _ g5, fun o ho k3 k4 => ?_, fun o ho => ?_⟩)
    · refine el_nd_rot (List.nodup_cons.mpr ⟨fun z => ?_, g3⟩)
      have := g7 i z; omega
    · rw [List.length_append]; show ql.length + 1 ≤ i + 1; omega
    · by_cases e : o = i
      · exact List.mem_append_right _ (List.mem_singleton.mpr e)
      · exact List.mem_append_left _ (g6 o (by omega) k3 k4)
    · rcases List.mem_append.mp ho with e | e
      · have := g7 o e; omega
      · have := List.mem_singleton.mp e; omega
theorem el_write {post : St1 → Prop} {k1 k2 k3 : Int32} (hn : n < 5) (hd : el_Nd G M n b c l p a7 a8 a9 a10 a11 a12 a13)
    (hp : ∀ (b' : Nat) (b7 b8 b9 b10 b13 c10 : Nat → Int32), b' ≤ l → l + 1 ≤ b' + 16 → el_Nd G M n b' c l p b7 b8 b9 b10 a11 a12 b13 → el_Fr n a7 a8 a9 a10 a11 a12 a13 b7 b8 b9 b10 a11 a12 b13 → (∀ i k, b' < i → i ≤ l → k < 7 → b10 (112 * n + 7 * (i - b' - 1) + k) = a10 (112 * n + 7 * (i - b - 1) + k)) → (∀ j, j < 112 * n + 7 * (l - b') ∨ 112 * n + 7 * (l - b') + 7 ≤ j → c10 j = b10 j) → c10 (112 * n + 7 * (l - b') + 0) = a4 n → c10 (112 * n + 7 * (l - b') + 1) = k1 → c10 (112 * n + 7 * (l - b') + 2) = k2 → c10 (112 * n + 7 * (l - b') + 3) = k3 → c10 (112 * n + 7 * (l - b') + 4) = 0 → c10 (112 * n + 7 * (l - b') + 5) = 0 → c10 (112 * n + 7 * (l - b') + 6) = 0 → post (f, w, h, x, a1, a2, a3, a4, a5, a6, b7, b8, (upd b9 n (nI (l + 1 - b'))), c10, a11, a12, b13, a14, (upd a15 (5 * n + n) (nI (l + 1))), a16, a17)) : wpX_write post (f, w, h, x, a1, a2, a3, a4, a5, a6, a7, a8, a9, a10, a11, a12, a13, a14, a15, a16, a17) (nI n) k1 k2 k3 := by
  have hb := el_Nd_le hd
  unfold wpX_write
  dsimp only
  refine el_newEntry hn hd (fun b' b7 b8 b9 b10 b13 q1 q2 q3 q4 q5 => ?_)
  have hb' := el_Nd_le q3
  dsimp only
  generalize hq : 112 * n + 7 * (l - b') = q at *
  rw [nI_1, el_a2, el_a3, el_a4, el_a5, el_a6, nI_clamp (by omega), nI_clamp (by omega), nI_clamp (by omega), nI_clamp (by omega), nI_clamp (by omega), nI_clamp (by omega), nI_clamp (by omega), nI_clamp (by omega)]
  refine ⟨(vp_in_nI (by omega) (by omega)), (vp_in_nI (by omega) (by omega)), nm_e ⟨(vp_in_nI (by omega) (by omega)), nm_e ⟨(vp_in_nI (by omega) (by omega)), nm_e ⟨(vp_in_nI (by omega) (by omega)), nm_e ⟨(vp_in_nI (by omega) (by omega)), nm_e ⟨(vp_in_nI (by omega) (by omega)), nm_e ⟨(vp_in_nI (by omega) (by omega)), nm_e ?_⟩⟩⟩⟩⟩⟩⟩
  unfold wpX_lastOf
  dsimp only
  rw [nI_clamp (by omega), pk_us, q3.1, nI_add, show b' + (l + 1 - b') = l + 1 by omega, el_m5, nI_add, nI_clamp (by omega)]
  refine ⟨(vp_in_nI (by omega) (by omega)), (vp_in_nI (by omega) (by omega)), (vp_in_nI (by omega) (by omega)), nm_e ?_⟩
  refine hp b' b7 b8 b9 b10 b13 _ q1 q2 q3 q4 q5 ?_ ?_ ?_ ?_ ?_ ?_ ?_ ?_
  · intro j hj
    rw [pk_un (by omega), pk_un (by omega), pk_un (by omega), pk_un (by omega), pk_un (by omega), pk_un (by omega), pk_un (by omega)]
  · rw [hq]
    show upd _ _ _ q = _
    rw [pk_un (by omega), pk_un (by omega), pk_un (by omega), pk_un (by omega), pk_un (by omega), pk_un (by omega), pk_us]
  · rw [hq, pk_un (by omega), pk_un (by omega), pk_un (by omega), pk_un (by omega), pk_un (by omega), pk_us]
  · rw [hq, pk_un (by omega), pk_un (by omega), pk_un (by omega), pk_un (by omega), pk_us]
  · rw [hq, pk_un (by omega), pk_un (by omega), pk_un (by omega), pk_us]
  · rw [hq, pk_un (by omega), pk_un (by omega), pk_us]
  · rw [hq, pk_un (by omega), pk_us]
  · rw [hq, pk_us]
theorem el_lead {post : St1 → Prop} (hn : n < 5) (hd : el_Nd G M n b c l p a7 a8 a9 a10 a11 a12 a13)
    (hp : ∀ (b' : Nat) (b7 b8 b9 b10 b13 c10 c14 c15 : Nat → Int32), b' ≤ l → l + 1 ≤ b' + 16 → el_Nd G M n b' c l p b7 b8 b9 b10 a11 a12 b13 → el_Fr n a7 a8 a9 a10 a11 a12 a13 b7 b8 b9 b10 a11 a12 b13 → (∀ i k, b' < i → i ≤ l → k < 7 → b10 (112 * n + 7 * (i - b' - 1) + k) = a10 (112 * n + 7 * (i - b - 1) + k)) → (∀ j, j < 112 * n + 7 * (l - b') ∨ 112 * n + 7 * (l - b') + 7 ≤ j → c10 j = b10 j) → c10 (112 * n + 7 * (l - b') + 0) = a4 n → c10 (112 * n + 7 * (l - b') + 1) = 3 → (∀ o, o < 5 → c14 (5 * n + o) = nI (l + 1)) → (∀ o, o < 5 → c15 (5 * n + o) = nI (if o = n then l + 1 else 0)) → post (f, w, (-1), x, a1, a2, (upd a3 n 1), a4, a5, a6, b7, b8, (upd b9 n (nI (l + 1 - b'))), c10, a11, a12, b13, c14, c15, a16, a17)) : wpX_lead post (f, w, h, x, a1, a2, a3, a4, a5, a6, a7, a8, a9, a10, a11, a12, a13, a14, a15, a16, a17) (nI n) := by
  have hb := el_Nd_le hd
  unfold wpX_lead
  dsimp only
  rw [nI_clamp (by omega)]
  refine ⟨(vp_in_nI (by omega) (by omega)), nm_e ?_⟩
  refine pk_loop (fun m i (s : (Nat → Int32) × (Nat → Int32)) => wX_lead_14 post (nI n) f w (-1) x m (nI i) a1 a2 (upd a3 n 1) a4 a5 a6 a7 a8 a9 a10 a11 a12 a13 s.1 s.2 a16 a17) (fun i s => ∀ o, o < i → s.1 (5 * n + o) = nI (l + 1) ∧ s.2 (5 * n + o) = nI 0) 5 0 (a14, a15) (by omega) (fun o ho => absurd ho (by omega)) ?_ ?_
  · rintro m ⟨s1, s2⟩ hs
    dsimp only at hs ⊢
    unfold wX_lead_14
    refine pk_le 5 5 (fun _ => ?_) (fun z => absurd z (by omega))
    refine el_write hn hd (fun b' b7 b8 b9 b10 b13 c10 g1 g2 g3 g4 g4' g5 g6 g7 _ _ _ _ _ => ?_)
    refine hp b' b7 b8 b9 b10 b13 c10 s1 _ g1 g2 g3 g4 g4' g5 g6 g7 (fun o ho => (hs o ho).1) (fun o ho => ?_)
    by_cases e : o = n
    · subst e; rw [if_pos rfl, pk_us]
    · rw [if_neg e, pk_un (by omega)]; exact (hs o ho).2
  · rintro m i ⟨s1, s2⟩ hi hs hk
    dsimp only at hs ⊢
    unfold wX_lead_14
    refine pk_le 5 i (fun z => absurd z (by omega)) (fun _ => ?_)
    refine el_lastOf hn hd ?_
    rw [el_m5, nI_add, nI_clamp (by omega), nI_1]
    refine ⟨(vp_in_nI (by omega) (by omega)), nm_e ⟨(vp_in_nI (by omega) (by omega)), nm_e (nm_r (nI_1 i) (hk (upd s1 (5 * n + i) (nI (l + 1)), upd s2 (5 * n + i) 0) (fun o ho => ?_)))⟩⟩
    dsimp only
    by_cases e : o = i
    · subst e; rw [pk_us, pk_us]; exact ⟨rfl, rfl⟩
    · rw [pk_un (by omega), pk_un (by omega)]; exact hs o (by omega)
end
end
section
/-! at rest: the invariant, and what an election rests on -/
def el_Qr (G : Nat → Nat → Int32) (N : Nat) (C : Nat → Nat) : Prop := ∀ i, i ≤ N → el_maj (fun v => decide (i ≤ C v)) (el_cf G i)
def el_TD (C L : Nat → Nat) : Prop := ∀ m m', m < 5 → m' < 5 → C m < L m → C m' < L m' → C m = C m' → m = m'
def el_Cp (G : Nat → Nat → Int32) (M : Nat) (T : Nat → Nat) : Prop := ∀ m, m < 5 → T m ≤ el_gt G M ∨ el_maj (fun v => decide (T m ≤ T v)) (el_cf G M)
/-- nothing on its way, every log a piece of G and perhaps a stale tail -/
def el_Nl (G : Nat → Nat → Int32) (M K : Nat) (B C L T : Nat → Nat) (a4 a7 a8 a9 a10 a11 a12 a13 : Nat → Int32) : Prop :=
  el_WF G M K ∧ el_LG G M B C L C a7 a8 a9 a10 a11 a12 a13 ∧ (∀ m, m < 5 → a4 m = nI (T m) ∧ T m ≤ K) ∧ (∀ m, m < 5 → el_gt G (C m) ≤ T m) ∧ el_TD C L ∧ el_Qr G M C ∧ el_Cp G M T
/-- bounds on the numbers of the sessions, here and in a tail that may come to count -/
def el_Ub (G : Nat → Nat → Int32) (M : Nat) (B C L : Nat → Nat) (a10 : Nat → Int32) (UB : Nat → Nat) : Prop :=
  (∀ s, s < 4 → el_ap G M (6 + s) ≤ nI (UB s)) ∧ (∀ m s, m < 5 → s < 4 → C m < L m → C m = M → a10 (112 * m + 7 * (C m - B m) + 2) = nI s → a10 (112 * m + 7 * (C m - B m) + 4) ≤ nI (UB s))
section
variable {a4 a7 a8 a9 a10 a11 a12 a13 b4 b7 b8 b9 b10 b13 c10 : Nat → Int32} {G G' : Nat → Nat → Int32} {M M' K n b b' c l p : Nat} {B C L T T' : Nat → Nat}
/-- who is told by most that its log is not behind has all that counts -/
theorem el_pre (hN : el_Nl G M K B C L T a4 a7 a8 a9 a10 a11 a12 a13) (hn : n < 5) {vs : Nat → Bool} (hm : el_maj vs (el_cf G (C n))) (hv : ∀ o, o < 5 → o ≠ n → vs o = true → el_utd G C L n o = true) : C n = M := by
  obtain ⟨q1, q2, q3, q4, q5, q6, q7⟩ := hN
  have hd := q2 n hn
  have hb := el_Nd_le hd
  refine Classical.byContradiction fun hne => ?_
  have hlt : C n < M := by omega
  obtain ⟨j, hj⟩ := el_wf_adj q1 hlt
  obtain ⟨k, k1, k2, k3, k4, k5⟩ := el_meet hj hm (q6 (C n + 1) hlt)
  have k6 : C n + 1 ≤ C k := of_decide_eq_true k4
  have kn : k ≠ n := fun z => by rw [z] at k6; omega
  have hbk := el_Nd_le (q2 k k1)
  have u := of_decide_eq_true (hv k k1 kn k2)
  have g1 := el_wf_gt q1 (show C n ≤ C k by omega) (show C k ≤ M by omega)
  have g2 := el_wf_gt q1 k6 (show C k ≤ M by omega)
  rcases u with u | ⟨u1, u2⟩
  · omega
  · have htl := el_Nd_tl hd (by omega)
    have := htl.2.2.2.2 hlt
    omega
/-- whom most have voted for has the highest term -/
theorem el_top (hN : el_Nl G M K B C L T a4 a7 a8 a9 a10 a11 a12 a13) (hn : n < 5) (hC : C n = M) {vs : Nat → Bool} (hm : el_maj vs (el_cf G M)) (hT : ∀ o, o < 5 → o ≠ n → T o ≤ T' o) (hv : ∀ o, o < 5 → o ≠ n → vs o = true → T' o = T n + 1) (hT2 : ∀ o, o < 5 → o ≠ n → T' o = T o ∨ T' o = max (T o) (T n + 1)) : ∀ o, o < 5 → o ≠ n → T' o ≤ T n + 1 := by
  obtain ⟨q1, q2, q3, q4, q5, q6, q7⟩ := hN
  intro o ho hne
  refine Classical.byContradiction fun hgt => ?_
  have h1 : T o = T' o := by
    rcases hT2 o ho hne with z | z <;> omega
  have h2 := q4 n hn
  rw [hC] at h2
  rcases q7 o ho with z | z
  · omega
  · obtain ⟨k, k1, k2, k3, k4⟩ := el_meet1 hm z
    have k5 : T o ≤ T k := of_decide_eq_true k4
    by_cases e : k = n
    · subst e; omega
    · have := hv k k1 e k2
      have := hT k k1 e
      omega
theorem el_Nd_ext (hd : el_Nd G M n b c l p a7 a8 a9 a10 a11 a12 a13) (hG : ∀ i, i ≤ M → G' i = G i) (hM : M ≤ M') (hM' : M' ≤ 1000000) (ht : p < l → c = M → M < M' → el_gt G' M < el_gt G' (M + 1)) : el_Nd G' M' n b c l p a7 a8 a9 a10 a11 a12 a13 := by
  have hb := el_Nd_le hd
  obtain ⟨k7, k8, k9, k11, kb, k10, k12, k13, kt⟩ := id hd
  have ea : ∀ i, i ≤ M → el_ap G' i = el_ap G i := fun i hi => el_ap_congr i (fun j hj => hG j (by omega))
  have eg : ∀ i, i ≤ M → el_gt G' i = el_gt G i := fun i hi => by unfold el_gt; rw [hG i hi]
  refine ⟨k7, by rw [hG b (by omega)]; exact k8, k9, k11, by omega, fun i k z1 z2 z3 => by rw [hG i (by omega)]; exact k10 i k z1 z2 z3, fun k hk => by rw [ea c (by omega)]; exact k12 k hk, fun k hk => by rw [ea b (by omega)]; exact k13 k hk, ?_⟩
  rcases kt with z | ⟨z1, z2, ⟨t1, t2, t3⟩⟩
  · exact Or.inl z
  · refine Or.inr ⟨z1, z2, by rw [hG c (by omega)]; exact t1, by rw [ea c (by omega)]; exact t2, fun z => ?_⟩
    by_cases e : c < M
    · rw [eg c (by omega), eg (c + 1) (by omega)]; exact t3 e
    · have : c = M := by omega
      subst this
      exact ht (by omega) rfl z
/-- a tail becomes a part of the log -/
theorem el_Nd_abs (hd : el_Nd G M n b M (M + 1) M a7 a8 a9 a10 a11 a12 a13) (hM : M + 1 ≤ 1000000) : el_Nd (el_ext G M (fun k => a10 (112 * n + 7 * (M - b) + k))) (M + 1) n b M (M + 1) (M + 1) a7 a8 a9 a10 a11 a12 a13 := by
  have hb := el_Nd_le hd
  obtain ⟨k7, k8, k9, k11, kb, k10, k12, k13, kt⟩ := id hd
  refine ⟨k7, by rw [el_ext_lo (by omega)]; exact k8, k9, k11, by omega, fun i k z1 z2 z3 => ?_, fun k hk => by rw [el_ext_ap (by omega)]; exact k12 k hk, fun k hk => by rw [el_ext_ap (by omega)]; exact k13 k hk, Or.inl rfl⟩
  by_cases e : i = M + 1
  · subst e; rw [el_ext_hi, show M + 1 - b - 1 = M - b by omega]
  · rw [el_ext_lo (by omega)]; exact k10 i k z1 (by omega) z3
theorem el_stp_num {s e : Nat → Int32} {q u : Nat} (hq : q < 4) (h : el_Cmd s e) (h1 : s (6 + q) ≤ nI u) (h2 : e 2 = nI q → e 4 ≤ nI u) : el_stp s e (6 + q) ≤ nI u := by
  obtain ⟨hk, se, ke, nu, k1, k2, k3, k4, k5, k6, k7, k8⟩ := h
  rw [el_stp_cmd hk k1 k2 k5 k6, pk_un (by omega)]
  by_cases e' : q = se
  · subst e'; rw [pk_us]; exact h2 k5
  · rw [pk_un (by omega), pk_un (by omega)]; exact h1
/-- n is elected: its log is the new G -/
theorem el_elected {b3 b9' : Nat → Int32} (hN : el_Nl G M K B C L T a4 a7 a8 a9 a10 a11 a12 a13) (hn : n < 5) (hC : C n = M) (hK : K + 2 ≤ 1000000) (h4 : ∀ m, m < 5 → b4 m = nI (T' m)) (hTn : T' n = T n + 1) (hTm : ∀ m, m < 5 → m ≠ n → T m ≤ T' m) (htop : ∀ m, m < 5 → m ≠ n → T' m ≤ T n + 1) (h3 : ∀ m, m < 5 → m ≠ n → b3 m = 0) (h3n : b3 n = 1)
    (g1 : b' ≤ L n) (g2 : L n + 1 ≤ b' + 16) (g3 : el_Nd G M n b' (C n) (L n) (C n) b7 b8 b9 b10 a11 a12 b13) (g4 : el_Fr n a7 a8 a9 a10 a11 a12 a13 b7 b8 b9 b10 a11 a12 b13) (g4' : ∀ i k, b' < i → i ≤ L n → k < 7 → b10 (112 * n + 7 * (i - b' - 1) + k) = a10 (112 * n + 7 * (i - B n - 1) + k)) (g5 : ∀ j, j < 112 * n + 7 * (L n - b') ∨ 112 * n + 7 * (L n - b') + 7 ≤ j → c10 j = b10 j) (g6 : c10 (112 * n + 7 * (L n - b') + 0) = b4 n) (g7 : c10 (112 * n + 7 * (L n - b') + 1) = 3) (g9 : b9' = upd b9 n (nI (L n + 1 - b'))) :
    ∃ (G' : Nat → Nat → Int32) (M' : Nat), M' = L n + 1 ∧ M < M' ∧ M' ≤ M + 2 ∧ (∀ i, i ≤ M → G' i = G i) ∧ el_Ld G' M' (K + 2) M n (el_up B n b') C (el_up L n M') (el_up C n M') T' b3 b4 b7 b8 b9' c10 a11 a12 b13 ∧ (∀ i, M ≤ i → i ≤ M' → el_cf G' i = el_cf G M) ∧ (∀ UB, el_Ub G M B C L a10 UB → ∀ s, s < 4 → el_ap G' M' (6 + s) ≤ nI (UB s)) := by
  obtain ⟨q1, q2, q3, q4, q5, q6, q7⟩ := id hN
  have hd := q2 n hn
  have hb := el_Nd_le hd
  have hb3 := el_Nd_le g3
  have hMK := q1.2.1
  have hgM : el_gt G M ≤ T n := by have := q4 n hn; rw [hC] at this; exact this
  have hTK := (q3 n hn).2
  have e4n : b4 n = nI (T n + 1) := by rw [h4 n hn, hTn]
  have w2 := el_wf_K q1 (show K ≤ K + 2 by omega) hK
  -- the general end: the new log and what it takes
  have fin : ∀ (G' : Nat → Nat → Int32) (M' : Nat), M' = L n + 1 → M < M' → M' ≤ M + 2 → (∀ i, i ≤ M → G' i = G i) → el_WF G' M' (K + 2) → el_gt G' M' = T n + 1 → el_Nd G' M' n b' M M' M' b7 b8 b9' c10 a11 a12 b13 → (∀ m, m < 5 → m ≠ n → C m < L m → C m = M → el_gt G' M < el_gt G' (M + 1)) → el_Ld G' M' (K + 2) M n (el_up B n b') C (el_up L n M') (el_up C n M') T' b3 b4 b7 b8 b9' c10 a11 a12 b13 := by
    intro G' M' e1 e2 e3 e4 e5 e6 e7 e8
    have eg : ∀ i, i ≤ M → el_gt G' i = el_gt G i := fun i hi => by unfold el_gt; rw [e4 i hi]
    have hfr : el_Fr n a7 a8 a9 a10 a11 a12 a13 b7 b8 b9' c10 a11 a12 b13 := by
      obtain ⟨u1, u2, u3⟩ := g4
      refine ⟨fun j hj => ?_, fun j hj => by rw [g5 j (by omega)]; exact u2 j hj, u3⟩
      obtain ⟨v1, v2, v3, v4⟩ := u1 j hj
      exact ⟨v1, v2, by rw [g9, pk_un hj]; exact v3, v4⟩
    refine ⟨e5, hn, fun m hm => ?_, h4, fun m hm => ?_, ⟨by rw [hTn, e6], by omega⟩, ⟨h3n, h3⟩, ⟨by rw [el_up_s], by rw [el_up_s]⟩, ⟨by omega, by omega⟩, fun m hm => ?_, fun m hm => ?_, fun m hm hz => ?_, fun m m' hm hm' hz hz' hc => ?_⟩
    · by_cases e : m = n
      · subst e; rw [el_up_s, el_up_s, el_up_s, hC]; exact e7
      · rw [el_up_n e, el_up_n e, el_up_n e]
        exact el_Nd_ext (el_Nd_Fr (q2 m hm) hfr e) e4 (by omega) (by omega) (fun z1 z2 _ => e8 m hm e z1 z2)
    · by_cases e : m = n
      · subst e; exact Nat.le_refl _
      · rw [hTn]; exact htop m hm e
    · by_cases e : m = n
      · subst e; rw [el_up_s]; omega
      · rw [el_up_n e]
        have hdm := q2 m hm
        have hbm := el_Nd_le hdm
        by_cases z : C m < L m
        · have := el_Nd_tl hdm z; omega
        · omega
    · by_cases e : m = n
      · subst e; rw [el_up_s, hTn, e6]; exact Nat.le_refl _
      · rw [el_up_n e]
        have hbm := el_Nd_le (q2 m hm)
        rw [eg (C m) (by omega)]
        exact Nat.le_trans (q4 m hm) (hTm m hm e)
    · have hbm := el_Nd_le (q2 m hm); omega
    · have e1' : m ≠ n := fun e => by subst e; rw [el_up_s, el_up_s] at hz; omega
      have e2' : m' ≠ n := fun e => by subst e; rw [el_up_s, el_up_s] at hz'; omega
      rw [el_up_n e1', el_up_n e1'] at hz
      rw [el_up_n e2', el_up_n e2'] at hz'
      exact q5 m m' hm hm' hz hz' hc
  by_cases ht : C n < L n
  · -- with a tail
    obtain ⟨_, t1, t2⟩ := el_Nd_tl g3 ht
    have eL : L n = M + 1 := by omega
    rw [hC, eL] at g3
    have hG1 := el_Nd_abs g3 (by omega)
    rw [hC] at t2
    generalize htl : (fun k => b10 (112 * n + 7 * (M - b') + k)) = tl at *
    have w1 : el_WF (el_ext G M tl) (M + 1) (K + 2) := el_wf_ext w2 (by omega) (t := el_gt G M) (by rw [t2.1]; exact (q1.2.2.2.1 M (Nat.le_refl M)).1) (by omega) (Nat.le_refl _) (Or.inl t2.2.1)
    have gt1 : el_gt (el_ext G M tl) (M + 1) = el_gt G M := by unfold el_gt; rw [el_ext_hi, t2.1]
    rw [eL] at g5 g6 g7 g9 g2
    have w3 : el_WF (el_ext (el_ext G M tl) (M + 1) (fun k => c10 (112 * n + 7 * (M + 1 - b') + k))) (M + 1 + 1) (K + 2) := el_wf_ext w1 (by omega) (t := T n + 1) (by rw [g6, e4n]) (by omega) (by omega) (Or.inr (Or.inl g7))
    have hput := el_Nd_put (G' := el_ext (el_ext G M tl) (M + 1) (fun k => c10 (112 * n + 7 * (M + 1 - b') + k))) (M' := M + 1 + 1) (b9' := b9') (b10' := c10) hG1 (by omega) (by omega) (by omega) (by omega) (fun i hi => el_ext_lo hi) (by rw [g9, pk_us]) (fun k hk => g5 _ (by omega)) (fun k hk => by rw [el_ext_hi])
    have elo : ∀ i, i ≤ M → el_ext (el_ext G M tl) (M + 1) (fun k => c10 (112 * n + 7 * (M + 1 - b') + k)) i = G i := fun i hi => by rw [el_ext_lo (by omega), el_ext_lo hi]
    refine ⟨_, M + 1 + 1, by omega, by omega, by omega, elo, fin _ _ (by omega) (by omega) (by omega) elo w3 ?_ hput (fun m hm hmn z1 z2 => ?_), fun i hi1 hi2 => ?_, fun UB hU s hs => ?_⟩
    · unfold el_gt; rw [el_ext_hi, g6, e4n, nI_clamp (by omega)]
    · exact absurd (q5 m n hm hn z1 ht (by omega)) hmn
    · have a1 : el_ap (el_ext G M tl) (M + 1) 14 = el_ap G M 14 := by rw [el_ext_apM]; exact el_stp_14 t2.2.1
      unfold el_cf
      by_cases z1 : i = M
      · subst z1; rw [el_ext_ap (by omega), el_ext_ap (Nat.le_refl _)]
      · by_cases z2 : i = M + 1
        · subst z2; rw [el_ext_ap (Nat.le_refl _), a1]
        · have : i = M + 1 + 1 := by omega
          subst this
          rw [el_ext_apM, el_stp_3 g7, a1]
    · rw [el_ext_apM, el_stp_3 g7, el_ext_apM]
      refine el_stp_num hs t2.2.1 (hU.1 s hs) (fun z => ?_)
      have c2 := g4' (M + 1) 2 (by omega) (by omega) (by omega)
      have c4 := g4' (M + 1) 4 (by omega) (by omega) (by omega)
      rw [show M + 1 - b' - 1 = M - b' by omega, show M + 1 - B n - 1 = C n - B n by omega] at c2 c4
      rw [← htl] at z ⊢
      dsimp only at z ⊢
      rw [c4]
      exact hU.2 n s hn hs ht hC (by rw [← c2]; exact z)
  · have eL : L n = M := by omega
    rw [hC, eL] at g3
    rw [eL] at g5 g6 g7 g9 g2
    have w3 : el_WF (el_ext G M (fun k => c10 (112 * n + 7 * (M - b') + k))) (M + 1) (K + 2) := el_wf_ext w2 (by omega) (t := T n + 1) (by rw [g6, e4n]) (by omega) (by omega) (Or.inr (Or.inl g7))
    have hput := el_Nd_put (G' := el_ext G M (fun k => c10 (112 * n + 7 * (M - b') + k))) (M' := M + 1) (b9' := b9') (b10' := c10) g3 (by omega) (by omega) (by omega) (by omega) (fun i hi => el_ext_lo hi) (by rw [g9, pk_us]) (fun k hk => g5 _ (by omega)) (fun k hk => by rw [el_ext_hi])
    have elo : ∀ i, i ≤ M → el_ext G M (fun k => c10 (112 * n + 7 * (M - b') + k)) i = G i := fun i hi => el_ext_lo hi
    have egt : el_gt (el_ext G M (fun k => c10 (112 * n + 7 * (M - b') + k))) (M + 1) = T n + 1 := by unfold el_gt; rw [el_ext_hi, g6, e4n, nI_clamp (by omega)]
    refine ⟨_, M + 1, by omega, by omega, by omega, elo, fin _ _ (by omega) (by omega) (by omega) elo w3 egt hput (fun m hm hmn z1 z2 => ?_), fun i hi1 hi2 => ?_, fun UB hU s hs => ?_⟩
    · rw [egt, el_ext_gt (Nat.le_refl _)]; omega
    · unfold el_cf
      by_cases z1 : i = M
      · subst z1; rw [el_ext_ap (Nat.le_refl _)]
      · have : i = M + 1 := by omega
        subst this
        rw [el_ext_apM, el_stp_3 g7]
    · rw [el_ext_apM, el_stp_3 g7]; exact hU.1 s hs
end
end
section
/-! a node stands for election -/
/-- a node that will be elected as soon as it stands -/
def el_Gd (G : Nat → Nat → Int32) (M : Nat) (C L T : Nat → Nat) (a1 a2 : Nat → Int32) (z : Nat) : Prop := z < 5 ∧ ¬ a1 z = 0 ∧ (el_cf G M).testBit z = true ∧ C z = M ∧ el_maj (fun o => (decide (o = z) || (el_jn a1 a2 z o && el_utd G C L z o))) (el_cf G M) ∧ ∀ o, o < 5 → T o ≤ T z
theorem el_Nl_T {G : Nat → Nat → Int32} {M K K' : Nat} {B C L T T' : Nat → Nat} {a4 b4 a7 a8 a9 a10 a11 a12 a13 : Nat → Int32} (hN : el_Nl G M K B C L T a4 a7 a8 a9 a10 a11 a12 a13) (hK : K ≤ K') (hK' : K' ≤ 1000000) (h4 : ∀ m, m < 5 → b4 m = nI (T' m) ∧ T' m ≤ K') (hT : ∀ m, m < 5 → T m ≤ T' m) (hc : el_Cp G M T') : el_Nl G M K' B C L T' b4 a7 a8 a9 a10 a11 a12 a13 := by
  obtain ⟨q1, q2, q3, q4, q5, q6, q7⟩ := hN
  exact ⟨el_wf_K q1 hK hK', q2, h4, fun m hm => Nat.le_trans (q4 m hm) (hT m hm), q5, q6, hc⟩
section
variable {f w h x : Int32} {a1 a2 a3 a4 a5 a6 a7 a8 a9 a10 a11 a12 a13 a14 a15 a16 a17 : Nat → Int32} {G : Nat → Nat → Int32} {M K n : Nat} {B C L T : Nat → Nat}
theorem el_stands {post : Int32 → St1 → Prop} (hn : n < 5) (hN : el_Nl G M K B C L T a4 a7 a8 a9 a10 a11 a12 a13) (h3 : ∀ m, m < 5 → a3 m = 0) (hQ : el_Qu f w a16 []) (hK : K + 2 ≤ 1000000)
    (hp0 : ∀ (f w : Int32) (b3 b4 b5 b6 b16 b17 : Nat → Int32) (T' : Nat → Nat), el_Nl G M (K + 2) B C L T' b4 a7 a8 a9 a10 a11 a12 a13 → (∀ m, m < 5 → b3 m = 0) → el_Qu f w b16 [] → ¬ el_Gd G M C L T a1 a2 n → (∀ z, el_Gd G M C L T a1 a2 z → el_Gd G M C L T' a1 a2 z) → post 0 (f, w, h, x, a1, a2, b3, b4, b5, b6, a7, a8, a9, a10, a11, a12, a13, a14, a15, b16, b17))
    (hp1 : ∀ (f w : Int32) (b3 b4 b5 b6 b7 b8 b9 b10 b13 b14 b15 b16 b17 : Nat → Int32) (G' : Nat → Nat → Int32) (M' : Nat) (B' L' P' T' X Y : Nat → Nat), el_Ld G' M' (K + 2) M n B' C L' P' T' b3 b4 b7 b8 b9 b10 a11 a12 b13 → el_NM n M' P' X Y b14 b15 → el_Qu f w b16 [] → (∀ i, i ≤ M → G' i = G i) → M < M' → (∀ i, M ≤ i → i ≤ M' → el_cf G' i = el_cf G M) → el_maj (el_jn a1 a2 n) (el_cf G' M') → ¬ a1 n = 0 → (el_cf G' M').testBit n = true → (∀ m, m < 5 → m ≠ n → P' m = C m) → (∀ UB, el_Ub G M B C L a10 UB → ∀ s, s < 4 → el_ap G' M' (6 + s) ≤ nI (UB s)) → post 1 (f, w, (-1), x, a1, a2, b3, b4, b5, b6, b7, b8, b9, b10, a11, a12, b13, b14, b15, b16, b17)) : wpX_stands post (f, w, h, x, a1, a2, a3, a4, a5, a6, a7, a8, a9, a10, a11, a12, a13, a14, a15, a16, a17) (nI n) := by
  obtain ⟨q1, q2, q3, q4, q5, q6, q7⟩ := id hN
  have hd := q2 n hn
  have hb := el_Nd_le hd
  have hMK := q1.2.1
  have hcf := el_wf_cf q1 (show C n ≤ M by omega)
  have hTK : ∀ o, o < 5 → T o ≤ K := fun o ho => (q3 o ho).2
  have same : ¬ el_Gd G M C L T a1 a2 n → post 0 (f, w, h, x, a1, a2, a3, a4, a5, a6, a7, a8, a9, a10, a11, a12, a13, a14, a15, a16, a17) := fun hg => hp0 f w a3 a4 a5 a6 a16 a17 T (el_Nl_T hN (by omega) hK (fun m hm => ⟨(q3 m hm).1, by have := hTK m hm; omega⟩) (fun _ _ => Nat.le_refl _) q7) h3 hQ hg (fun _ t => t)
  unfold wpX_stands
  dsimp only
  rw [nI_clamp (by omega)]
  refine ⟨(vp_in_nI (by omega) (by omega)), br_c (fun z => same (fun t => t.2.1 z)) (fun hup => ?_)⟩
  refine el_membersFor hn hd q1 ?_
  refine el_bit0 hcf.1 hn (fun z => same (fun t => by rw [t.2.2.2.1, t.2.2.1] at z; exact absurd z (by decide))) (fun hme => ?_)
  refine el_asks (srt := 1) (t := 0) (T0 := T) hn (Or.inl ⟨rfl, rfl⟩) (by omega) (fun o ho => by have := hTK o ho; omega) (fun z => absurd z (by decide)) q2 q1 (fun m hm => (q3 m hm).1) h3 hQ ?_
  intro r f1 w1 b3 b4 b5 b6 b16 b17 T1 vs hr j1 j2 hQ1 j4 j5 j6 j7 j8
  have eT1 : ∀ o, o < 5 → T1 o = T o := by
    intro o ho
    rcases j6 o ho with z | ⟨_, _, _, z⟩
    · exact z
    · rw [z, Nat.max_zero]
  have c4 : ∀ m, m < 5 → b4 m = nI (T m) := fun m hm => by rw [j1 m hm, eT1 m hm]
  dsimp only
  rcases hr with ⟨er, hmaj⟩ | ⟨er, hmaj⟩
  rotate_left
  · subst er
    refine br_t rfl (hp0 f1 w1 b3 b4 b5 b6 b16 b17 T (el_Nl_T hN (by omega) hK (fun m hm => ⟨c4 m hm, by have := hTK m hm; omega⟩) (fun _ _ => Nat.le_refl _) q7) j2 hQ1 (fun t => hmaj ?_) (fun _ t => t))
    rw [t.2.2.2.1]
    refine el_maj_congr (fun k hk z1 z2 => ?_) t.2.2.2.2.1
    by_cases e : k = n
    · rw [e]; exact j4
    · rw [decide_eq_false e, Bool.false_or, Bool.and_eq_true] at z2
      exact j8 k hk e (by rw [t.2.2.2.1]; exact z1) z2.1 z2.2 (fun z => absurd z (by decide))
  · subst er
    have hC : C n = M := el_pre hN hn hmaj (fun o ho hne hv => (j5 o ho hne hv).2.2.1)
    rw [hC] at hmaj hme j5 j6 j7 j8
    rw [c4 n hn]
    refine br_f (by decide) ⟨(vp_in_nI (by omega) (by omega)), (vp_in_nI (by omega) (by omega)), nm_r (e' := upd b4 n (nI (T n + 1))) (by rw [nI_1]) ⟨(vp_in_nI (by omega) (by omega)), nm_e ?_⟩⟩
    have hTb : ∀ o, o < 5 → el_up T n (T n + 1) o ≤ K + 1 := by
      intro o ho
      by_cases e : o = n
      · rw [e, el_up_s]; have := hTK n hn; omega
      · rw [el_up_n e]; have := hTK o ho; omega
    refine el_asks (srt := 3) (t := T n + 1) (T0 := el_up T n (T n + 1)) hn (Or.inr rfl) (by have := hTK n hn; omega) (fun o ho => by have := hTb o ho; omega) (fun _ => by rw [el_up_s]) q2 q1 (fun m hm => ?_) j2 hQ1 ?_
    · by_cases e : m = n
      · rw [e, el_up_s, pk_us]
      · rw [el_up_n e, pk_un e]; exact c4 m hm
    intro r f2 w2 d3 d4 d5 d6 d16 d17 T2 vs2 hr2 i1 i2 hQ2 i4 i5 i6 i7 i8
    rw [hC] at hr2 i5 i6 i7 i8
    have eTn : T2 n = T n + 1 := by
      rcases i6 n hn with z | ⟨z, _⟩
      · rw [z, el_up_s]
      · exact absurd rfl z
    have eTo : ∀ o, o < 5 → o ≠ n → T2 o = T o ∨ T2 o = max (T o) (T n + 1) := by
      intro o ho e
      rcases i6 o ho with z | ⟨_, _, _, z⟩
      · rw [el_up_n e] at z; exact Or.inl z
      · rw [el_up_n e] at z; exact Or.inr z
    have eTm : ∀ o, o < 5 → o ≠ n → T o ≤ T2 o := by
      intro o ho e
      rcases eTo o ho e with z | z <;> omega
    have eTm' : ∀ o, o < 5 → T o ≤ T2 o := by
      intro o ho
      by_cases e : o = n
      · rw [e, eTn]; omega
      · exact eTm o ho e
    dsimp only
    rcases hr2 with ⟨er, hmaj2⟩ | ⟨er, hmaj2⟩
    rotate_left
    · subst er
      -- it failed
      have hB2 : ∀ o, o < 5 → T2 o ≤ K + 2 := by
        intro o ho
        have k1 := hTK n hn
        by_cases e : o = n
        · rw [e, eTn]; omega
        · have k2 := hTK o ho
          rcases eTo o ho e with z | z <;> omega
      have tmaj : el_maj (fun v => decide (T n + 1 ≤ T2 v)) (el_cf G M) := by
        refine el_maj_congr (fun k hk z1 z2 => decide_eq_true ?_) hmaj
        by_cases e : k = n
        · rw [e, eTn]; exact Nat.le_refl _
        · have y := j5 k hk e z2
          have := i7 k hk e y.1 y.2.1
          omega
      have hCp : el_Cp G M T2 := by
        intro m hm
        have old : T2 m = T m → T2 m ≤ el_gt G M ∨ el_maj (fun v => decide (T2 m ≤ T2 v)) (el_cf G M) := by
          intro z
          rw [z]
          rcases q7 m hm with y | y
          · exact Or.inl y
          · exact Or.inr (el_maj_congr (fun k hk _ z2 => decide_eq_true (Nat.le_trans (of_decide_eq_true z2) (eTm' k hk))) y)
        have new : T2 m = T n + 1 → T2 m ≤ el_gt G M ∨ el_maj (fun v => decide (T2 m ≤ T2 v)) (el_cf G M) := by
          intro z
          rw [z]; exact Or.inr tmaj
        by_cases e : m = n
        · exact new (by rw [e, eTn])
        · rcases eTo m hm e with z | z
          · exact old z
          · by_cases y : T n + 1 ≤ T m
            · exact old (by omega)
            · exact new (by omega)
      refine br_t rfl (hp0 f2 w2 d3 d4 d5 d6 d16 d17 T2 (el_Nl_T hN (by omega) hK (fun m hm => ⟨i1 m hm, hB2 m hm⟩) eTm' hCp) i2 hQ2 (fun t => hmaj2 ?_) (fun z t => ?_))
      · refine el_maj_congr (fun k hk z1 z2 => ?_) t.2.2.2.2.1
        by_cases e : k = n
        · rw [e]; exact i4
        · rw [decide_eq_false e, Bool.false_or, Bool.and_eq_true] at z2
          refine i8 k hk e z1 z2.1 z2.2 (fun _ => ?_)
          rw [el_up_n e]
          have := t.2.2.2.2.2 k hk
          omega
      · -- another one stays good
        have zle : T n + 1 ≤ T z := by
          refine Classical.byContradiction fun hlt => ?_
          refine hmaj2 (el_maj_congr (fun k hk z1 z2 => ?_) hmaj)
          by_cases e : k = n
          · rw [e]; exact i4
          · have y := j5 k hk e z2
            refine i8 k hk e y.1 y.2.1 y.2.2.1 (fun _ => ?_)
            rw [el_up_n e]
            have := t.2.2.2.2.2 k hk
            omega
        refine ⟨t.1, t.2.1, t.2.2.1, t.2.2.2.1, t.2.2.2.2.1, fun o ho => ?_⟩
        have zz := eTm' z t.1
        have y := t.2.2.2.2.2 o ho
        by_cases e : o = n
        · rw [e, eTn]; omega
        · rcases eTo o ho e with q | q <;> omega
    · subst er
      -- elected
      have htop := el_top hN hn hC hmaj2 eTm (fun o ho hne hv => (i5 o ho hne hv).2.2.2 rfl) eTo
      refine br_f (by decide) ?_
      refine el_lead hn hd (fun b' b7 b8 b9 b10 b13 c10 c14 c15 g1 g2 g3 g4 g4' g5 g6 g7 g8 g9 => ?_)
      obtain ⟨G', M', e1, e2, e3, e4, e5, e6, e7⟩ := el_elected (b3 := upd d3 n 1) (b9' := upd b9 n (nI (L n + 1 - b'))) (T' := T2) hN hn hC hK i1 eTn eTm htop (fun m hm hne => by rw [pk_un hne]; exact i2 m hm) pk_us g1 g2 g3 g4 g4' g5 g6 g7 rfl
      have ecf : el_cf G' M' = el_cf G M := e6 M' (by omega) (Nat.le_refl _)
      refine hp1 f2 w2 _ d4 d5 d6 b7 b8 _ c10 b13 c14 c15 d16 d17 G' M' _ _ _ T2 (fun _ => M') (fun o => if o = n then M' else 0) e5 (fun o ho => ?_) hQ2 e4 e2 e6 ?_ hup (by rw [ecf]; exact hme) (fun m hm hne => el_up_n hne) e7
      · refine ⟨by rw [g8 o ho, e1], by rw [g9 o ho, e1], Nat.le_succ M', ?_, fun z => ⟨?_, ?_⟩, fun z => if_pos z⟩
        · dsimp only; split <;> omega
        · dsimp only; rw [if_neg z]; omega
        · dsimp only; rw [if_neg z]; exact Nat.zero_le _
      · rw [ecf]
        refine el_maj_congr (fun k hk z1 z2 => ?_) hmaj2
        by_cases e : k = n
        · rw [e]; exact decide_eq_true ⟨hup, hup, rfl⟩
        · exact (i5 k hk e z2).2.1
end
end
section
/-! hold; two spreads -/
section
variable {f w h x : Int32} {a1 a2 a3 a4 a5 a6 a7 a8 a9 a10 a11 a12 a13 a14 a15 a16 a17 b3 : Nat → Int32} {G : Nat → Nat → Int32} {M K K' N N' n : Nat} {B C L P P' T X Y : Nat → Nat}
theorem el_Ld_K (hl : el_Ld G M K N n B C L P T a3 a4 a7 a8 a9 a10 a11 a12 a13) (hK : K ≤ K') (hK' : K' ≤ 1000000) : el_Ld G M K' N n B C L P T a3 a4 a7 a8 a9 a10 a11 a12 a13 := by
  obtain ⟨q1, q2, q3, q4, q5, q6, q7⟩ := hl
  exact ⟨el_wf_K q1 hK hK', q2, q3, q4, q5, ⟨q6.1, Nat.le_trans q6.2 hK⟩, q7⟩
theorem el_Ld_P (hl : el_Ld G M K N n B C L P T a3 a4 a7 a8 a9 a10 a11 a12 a13) (hP : ∀ m, m < 5 → P' m = P m) (hN : N' ≤ C n) (hN2 : M ≤ N' + 2) : el_Ld G M K N' n B C L P' T a3 a4 a7 a8 a9 a10 a11 a12 a13 := by
  obtain ⟨q1, q2, q3, q4, q5, q6, q7, q8, q9, q10, q11, q12, q13⟩ := hl
  refine ⟨q1, q2, fun m hm => by rw [hP m hm]; exact q3 m hm, q4, q5, q6, q7, by rw [hP n q2]; exact q8, ⟨hN, hN2⟩, q10, fun m hm => by rw [hP m hm]; exact q11 m hm, fun m hm => by rw [hP m hm]; exact q12 m hm, fun m m' hm hm' => by rw [hP m hm, hP m' hm']; exact q13 m m' hm hm'⟩
theorem el_Ld_3 (hl : el_Ld G M K N n B C L P T a3 a4 a7 a8 a9 a10 a11 a12 a13) (h3 : ∀ m, m < 5 → b3 m = a3 m) : el_Ld G M K N n B C L P T b3 a4 a7 a8 a9 a10 a11 a12 a13 := by
  obtain ⟨q1, q2, q3, q4, q5, q6, q7, q8⟩ := hl
  exact ⟨q1, q2, q3, q4, q5, q6, ⟨by rw [h3 n q2]; exact q7.1, fun m hm hne => by rw [h3 m hm]; exact q7.2 m hm hne⟩, q8⟩
end
/-- n leads, and all is at rest -/
def el_Ql (G : Nat → Nat → Int32) (M K n : Nat) (B C L T X Y : Nat → Nat) (f w : Int32) (a3 a4 a7 a8 a9 a10 a11 a12 a13 a14 a15 a16 : Nat → Int32) : Prop :=
  el_Ld G M K M n B C L C T a3 a4 a7 a8 a9 a10 a11 a12 a13 ∧ el_NM n M C X Y a14 a15 ∧ el_Qu f w a16 [] ∧ el_Qr G M C
/-- n leads, and some entries of it don't count yet -/
def el_Lq (G : Nat → Nat → Int32) (M K N n : Nat) (B C L P T X Y : Nat → Nat) (f w : Int32) (a1 a2 a3 a4 a7 a8 a9 a10 a11 a12 a13 a14 a15 a16 : Nat → Int32) : Prop :=
  el_Ld G M K N n B C L P T a3 a4 a7 a8 a9 a10 a11 a12 a13 ∧ el_NM n M P X Y a14 a15 ∧ el_Qu f w a16 [] ∧ el_Qr G N C ∧ (∀ i, N < i → i ≤ M → el_cf G i = el_cf G M) ∧ (∀ m, m < 5 → m ≠ n → P m = C m ∨ ((el_cf G M).testBit m = true ∧ el_jn a1 a2 n m = true)) ∧ el_maj (el_jn a1 a2 n) (el_cf G M)
theorem el_Qr_mono {G : Nat → Nat → Int32} {N : Nat} {C C' : Nat → Nat} (h : el_Qr G N C) (hC : ∀ o, o < 5 → C o ≤ C' o) : el_Qr G N C' :=
  fun i hi => el_maj_congr (fun k hk _ z => decide_eq_true (Nat.le_trans (of_decide_eq_true z) (hC k hk))) (h i hi)
section
variable {f w h x : Int32} {a1 a2 a3 a4 a5 a6 a7 a8 a9 a10 a11 a12 a13 a14 a15 a16 a17 b3 : Nat → Int32} {G : Nat → Nat → Int32} {M K N n : Nat} {B C L P T X Y C0 C1 : Nat → Nat}
theorem el_Lq_of (h : el_Ql G M K n B C L T X Y f w a3 a4 a7 a8 a9 a10 a11 a12 a13 a14 a15 a16) (hm : el_maj (el_jn a1 a2 n) (el_cf G M)) : el_Lq G M K M n B C L C T X Y f w a1 a2 a3 a4 a7 a8 a9 a10 a11 a12 a13 a14 a15 a16 :=
  ⟨h.1, h.2.1, h.2.2.1, h.2.2.2, fun i z1 z2 => absurd z1 (by omega), fun m _ _ => Or.inl rfl, hm⟩
/-- after two spreads all is at rest, and who is reached has all -/
theorem el_sp2 (hl : el_Ld G M K N n B C L P T a3 a4 a7 a8 a9 a10 a11 a12 a13) (hnm : el_NM n M P X Y a14 a15) (hQ : el_Qu f w a16 []) (hqr : el_Qr G N C0) (hcf : ∀ i, N < i → i ≤ M → el_cf G i = el_cf G M) (hmaj : el_maj (el_jn a1 a2 n) (el_cf G M)) (h0 : ∀ o, o < 5 → C0 o ≤ C1 o) (h1 : ∀ o, o < 5 → C1 o ≤ C o) (h1n : C1 n = M) (hn : C n = M) (near : ∀ o, o < 5 → o ≠ n → (el_cf G M).testBit o = true → el_jn a1 a2 n o = true → C1 n ≤ C o ∧ P o = M) (hpc : ∀ m, m < 5 → m ≠ n → P m = C m ∨ ((el_cf G M).testBit m = true ∧ el_jn a1 a2 n m = true)) :
    el_Ql G M K n B C L T X Y f w a3 a4 a7 a8 a9 a10 a11 a12 a13 a14 a15 a16 ∧ (∀ o, o < 5 → (el_cf G M).testBit o = true → el_jn a1 a2 n o = true → C o = M) := by
  have hcp : ∀ m, m < 5 → C m = P m := by
    intro m hm
    by_cases e : m = n
    · rw [e, hn]; exact hl.2.2.2.2.2.2.2.1.1.symm
    · rcases hpc m hm e with z | ⟨z1, z2⟩
      · exact z.symm
      · have := near m hm e z1 z2
        have := (el_Nd_le (hl.2.2.1 m hm)).2.1
        omega
  have nr : ∀ o, o < 5 → (el_cf G M).testBit o = true → el_jn a1 a2 n o = true → C o = M := by
    intro o ho z1 z2
    by_cases e : o = n
    · rw [e]; exact hn
    · have := near o ho e z1 z2
      rw [hcp o ho]; exact this.2
  refine ⟨⟨el_Ld_P hl hcp (by omega) (by omega), fun o ho => ?_, hQ, fun i hi => ?_⟩, nr⟩
  · rw [hcp o ho]; exact hnm o ho
  · by_cases e : i ≤ N
    · exact el_Qr_mono hqr (fun o ho => Nat.le_trans (h0 o ho) (h1 o ho)) i e
    · rw [hcf i (by omega) hi]
      refine el_maj_congr (fun k hk z1 z2 => decide_eq_true ?_) hmaj
      rw [nr k hk z1 z2]; exact hi
/-- a leader at rest: the state as without one -/
theorem el_Nl_of (h : el_Ql G M K n B C L T X Y f w a3 a4 a7 a8 a9 a10 a11 a12 a13 a14 a15 a16) : el_Nl G M K B C L T a4 a7 a8 a9 a10 a11 a12 a13 := by
  obtain ⟨⟨q1, q2, q3, q4, q5, q6, q7, q8, q9, q10, q11, q12, q13⟩, _, _, hqr⟩ := h
  exact ⟨q1, q3, fun m hm => ⟨q4 m hm, Nat.le_trans (q5 m hm) q6.2⟩, q11, q13, hqr, fun m hm => Or.inl (by rw [← q6.1]; exact q5 m hm)⟩
theorem el_Ub_of (h : el_Ql G M K n B C L T X Y f w a3 a4 a7 a8 a9 a10 a11 a12 a13 a14 a15 a16) {UB : Nat → Nat} (hU : ∀ s, s < 4 → el_ap G M (6 + s) ≤ nI (UB s)) : el_Ub G M B C L a10 UB := by
  refine ⟨hU, fun m s hm hs z1 z2 => ?_⟩
  have := h.1.2.2.2.2.2.2.2.2.2.2.2.1 m hm z1
  omega
theorem el_hold_ok {post : St1 → Prop} (hN : el_Nl G M K B C L T a4 a7 a8 a9 a10 a11 a12 a13) (h3 : ∀ m, m < 5 → a3 m = 0) (hQ : el_Qu f w a16 []) (hK : K + 20 ≤ 1000000)
    (hp0 : ∀ (f w : Int32) (b3 b4 b5 b6 b16 b17 : Nat → Int32) (T' : Nat → Nat), el_Nl G M (K + 20) B C L T' b4 a7 a8 a9 a10 a11 a12 a13 → (∀ m, m < 5 → b3 m = 0) → el_Qu f w b16 [] → (∀ z, ¬ el_Gd G M C L T a1 a2 z) → post (f, w, h, x, a1, a2, b3, b4, b5, b6, a7, a8, a9, a10, a11, a12, a13, a14, a15, b16, b17))
    (hp1 : ∀ (f w : Int32) (b3 b4 b5 b6 b7 b8 b9 b10 b13 b14 b15 b16 b17 : Nat → Int32) (n : Nat) (G' : Nat → Nat → Int32) (M' : Nat) (B' L' P' T' X Y : Nat → Nat), el_Lq G' M' (K + 20) M n B' C L' P' T' X Y f w a1 a2 b3 b4 b7 b8 b9 b10 a11 a12 b13 b14 b15 b16 → (∀ i, i ≤ M → G' i = G i) → M < M' → el_hold a1 a2 (el_cf G' M') n → (∀ UB, el_Ub G M B C L a10 UB → ∀ s, s < 4 → el_ap G' M' (6 + s) ≤ nI (UB s)) → post (f, w, (-1), x, a1, a2, b3, b4, b5, b6, b7, b8, b9, b10, a11, a12, b13, b14, b15, b16, b17)) : wpX_hold post (f, w, h, x, a1, a2, a3, a4, a5, a6, a7, a8, a9, a10, a11, a12, a13, a14, a15, a16, a17) := by
  unfold wpX_hold
  dsimp only
  refine pk_loop (fun m i (s : Int32 × Int32 × (Nat → Int32) × (Nat → Int32) × (Nat → Int32) × (Nat → Int32) × (Nat → Int32) × (Nat → Int32)) => wX_hold_2 post m (nI i) s.1 s.2.1 h x a1 a2 s.2.2.1 s.2.2.2.1 s.2.2.2.2.1 s.2.2.2.2.2.1 a7 a8 a9 a10 a11 a12 a13 a14 a15 s.2.2.2.2.2.2.1 s.2.2.2.2.2.2.2) (fun i s => ∃ T' : Nat → Nat, el_Nl G M (K + 2 * i) B C L T' s.2.2.2.1 a7 a8 a9 a10 a11 a12 a13 ∧ (∀ m, m < 5 → s.2.2.1 m = 0) ∧ el_Qu s.1 s.2.1 s.2.2.2.2.2.2.1 [] ∧ (∀ z, el_Gd G M C L T a1 a2 z → el_Gd G M C L T' a1 a2 z ∧ i ≤ (if C z < L z then z + 5 else z))) 10 0 (f, w, a3, a4, a5, a6, a16, a17) (by omega) ⟨T, hN, h3, hQ, fun z hz => ⟨hz, Nat.zero_le _⟩⟩ ?_ ?_
  · rintro m ⟨s1, s2, s3, s4, s5, s6, s7, s8⟩ ⟨T', g1, g2, g3, g4⟩
    dsimp only at g1 g2 g3 g4 ⊢
    unfold wX_hold_2
    refine pk_le 10 10 (fun _ => hp0 s1 s2 s3 s4 s5 s6 s7 s8 T' g1 g2 g3 (fun z hz => ?_)) (fun z => absurd z (by omega))
    have k := (g4 z hz).2
    have := hz.1
    split at k <;> omega
  · rintro m i ⟨s1, s2, s3, s4, s5, s6, s7, s8⟩ hi ⟨T', g1, g2, g3, g4⟩ hk
    dsimp only at g1 g2 g3 g4 ⊢
    unfold wX_hold_2
    refine pk_le 10 i (fun z => absurd z (by omega)) (fun _ => ⟨by decide, ?_⟩)
    have emod : nI i - nI i / 5 * 5 = nI (i % 5) := pk_rem (d := 5) (by omega) (by omega) (by omega)
    refine nm_r emod ?_
    have hn : i % 5 < 5 := Nat.mod_lt _ (by omega)
    have hd := g1.2.1 (i % 5) hn
    have hb := el_Nd_le hd
    -- it stands
    have go : (∀ z, el_Gd G M C L T a1 a2 z → (if C z < L z then z + 5 else z) = i → z = i % 5) → wpX_stands (fun r_10 u => match u with | (f, w, h, x, a1, a2, a3, a4, a5, a6, a7, a8, a9, a10, a11, a12, a13, a14, a15, a16, a17) => ((r_10 = 0 → (∀ y : Int32, y = nI i + 1 → (wX_hold_2 post m y f w h x a1 a2 a3 a4 a5 a6 a7 a8 a9 a10 a11 a12 a13 a14 a15 a16 a17))) ∧ (¬ r_10 = 0 → (post (f, w, h, x, a1, a2, a3, a4, a5, a6, a7, a8, a9, a10, a11, a12, a13, a14, a15, a16, a17))))) (s1, s2, h, x, a1, a2, s3, s4, s5, s6, a7, a8, a9, a10, a11, a12, a13, a14, a15, s7, s8) (nI (i % 5)) := by
      intro hz0
      refine el_stands hn g1 g2 g3 (by omega) ?_ ?_
      · intro f' w' b3 b4 b5 b6 b16 b17 T2 k1 k2 k3 k4 k5
        refine br_t rfl (nm_r (nI_1 i) (hk (f', w', b3, b4, b5, b6, b16, b17) ⟨T2, ?_, k2, k3, fun z hz => ?_⟩))
        · rw [show K + 2 * (i + 1) = K + 2 * i + 2 by omega]; exact k1
        · obtain ⟨y1, y2⟩ := g4 z hz
          refine ⟨k5 z y1, ?_⟩
          have hne : (if C z < L z then z + 5 else z) ≠ i := fun e => by
            have := hz0 z hz e
            rw [this] at y1
            exact k4 y1
          omega
      · intro f' w' b3 b4 b5 b6 b7 b8 b9 b10 b13 b14 b15 b16 b17 G' M' B' L' P' T2 X Y k1 k2 k3 k4 k5 k6 k7 k8 k9 k10 k11
        refine br_f (by decide) ?_
        refine hp1 f' w' b3 b4 b5 b6 b7 b8 b9 b10 b13 b14 b15 b16 b17 (i % 5) G' M' B' L' P' T2 X Y ⟨el_Ld_K k1 (by omega) hK, k2, k3, ?_, fun j z1 z2 => ?_, fun m hm hne => Or.inl (k10 m hm hne), k7⟩ k4 k5 ⟨k8, k9, k7⟩ k11
        · intro j hj
          have := k6 M' (by omega) (Nat.le_refl _)
          have e : el_cf G' j = el_cf G j := by
            unfold el_cf; rw [el_ap_congr j (fun q hq => k4 q (by omega))]
          rw [e]; exact g1.2.2.2.2.2.1 j hj
        · rw [k6 j (by omega) z2, k6 M' (by omega) (Nat.le_refl _)]
    have skip : (∀ z, el_Gd G M C L T a1 a2 z → (if C z < L z then z + 5 else z) ≠ i) → wX_hold_2 post m (nI (i + 1)) s1 s2 h x a1 a2 s3 s4 s5 s6 a7 a8 a9 a10 a11 a12 a13 a14 a15 s7 s8 := by
      intro hz0
      refine hk (s1, s2, s3, s4, s5, s6, s7, s8) ⟨T', ?_, g2, g3, fun z hz => ⟨(g4 z hz).1, ?_⟩⟩
      · have := el_Nl_T g1 (show K + 2 * i ≤ K + 2 * (i + 1) by omega) (by omega) (fun m hm => ⟨(g1.2.2.1 m hm).1, by have := (g1.2.2.1 m hm).2; omega⟩) (fun _ _ => Nat.le_refl _) g1.2.2.2.2.2.2
        exact this
      · have := (g4 z hz).2
        have := hz0 z hz
        omega
    rw [nI_clamp (by omega)]
    refine ⟨(vp_in_nI (by omega) (by omega)), ?_⟩
    refine el_lastOf hn hd ?_
    rw [hd.2.2.2.1]
    refine pk_le (L (i % 5)) (C (i % 5)) (fun z => ?_) (fun z => ?_)
    · unfold wX_hold_31
      refine pk_lt i 5 (fun y => ?_) (fun y => ?_)
      · unfold wX_hold_43
        refine br_t rfl (go (fun q hq e => ?_))
        have := hq.1
        split at e <;> omega
      · unfold wX_hold_43
        refine br_f (by decide) (nm_r (nI_1 i) (skip (fun q hq e => ?_)))
        have hq5 := hq.1
        split at e
        · rename_i hlt
          have : q = i % 5 := by omega
          rw [this] at hlt; omega
        · omega
    · unfold wX_hold_31
      refine pk_lt i 5 (fun y => ?_) (fun y => ?_)
      · unfold wX_hold_43
        refine br_f (by decide) (nm_r (nI_1 i) (skip (fun q hq e => ?_)))
        have hq5 := hq.1
        split at e
        · omega
        · rename_i hlt
          have : q = i % 5 := by omega
          rw [this] at hlt; omega
      · unfold wX_hold_43
        refine br_t rfl (go (fun q hq e => ?_))
        have := hq.1
        split at e <;> omega
end
end
section
/-! settle -/
section
variable {f w h x : Int32} {a1 a2 a3 a4 a5 a6 a7 a8 a9 a10 a11 a12 a13 a14 a15 a16 a17 : Nat → Int32} {G : Nat → Nat → Int32} {M K N n : Nat} {B C L P T X Y C0 : Nat → Nat}
theorem el_set22 {post : St1 → Prop} {m i : Nat} (hq : el_Lq G M K N n B C L P T X Y f w a1 a2 a3 a4 a7 a8 a9 a10 a11 a12 a13 a14 a15 a16) (hh : el_hold a1 a2 (el_cf G M) n)
    (hp : ∀ (f w : Int32) (b3 b4 b5 b7 b8 b9 b10 b11 b12 b13 b14 b15 b16 b17 : Nat → Int32) (B' C' L' T' X' Y' : Nat → Nat), el_Ql G M K n B' C' L' T' X' Y' f w b3 b4 b7 b8 b9 b10 b11 b12 b13 b14 b15 b16 → (∀ o, o < 5 → C o ≤ C' o) → (∀ o, o < 5 → (el_cf G M).testBit o = true → el_jn a1 a2 n o = true → C' o = M) → wX_settle_6 post m (nI (i + 1)) f w h x a1 a2 b3 b4 b5 a6 b7 b8 b9 b10 b11 b12 b13 b14 b15 b16 b17) : wX_settle_22 post (wX_settle_6 post m) (nI i) f w h x a1 a2 a3 a4 a5 a6 a7 a8 a9 a10 a11 a12 a13 a14 a15 a16 a17 := by
  obtain ⟨hl, hnm, hQ, hqr, hcf, hpc, hmaj⟩ := hq
  have hn := hl.2.1
  have h7 := hl.2.2.2.2.2.2.1
  unfold wX_settle_22
  refine el_leaderIs hn h7.1 (fun m hm => by rw [h7.2 m (by omega) (by omega)]; decide) ?_
  refine br_f (nI_pos (by omega)) ?_
  refine el_spread hl hnm hQ hmaj hpc (fun f1 w1 c3 c4 c5 c7 c8 c9 c10 c11 c12 c13 c14 c15 c16 c17 B1 C1 L1 P1 T1 X1 Y1 k1 k2 k3 k4 k5 k6 k7 => ?_)
  refine el_spread k1 k2 k3 hmaj k7 (fun f2 w2 d3 d4 d5 d7 d8 d9 d10 d11 d12 d13 d14 d15 d16 d17 B2 C2 L2 P2 T2 X2 Y2 r1 r2 r3 r4 r5 r6 r7 => ?_)
  obtain ⟨s1, s2⟩ := el_sp2 r1 r2 r3 hqr hcf hmaj k4 r4 k5 r5 r6 r7
  refine el_giveUp s1.1.2.2.1 s1.1.1 (fun b3 hb3 => ?_)
  refine nm_r (nI_1 i) (hp f2 w2 b3 d4 d5 d7 d8 d9 d10 d11 d12 d13 d14 d15 d16 d17 B2 C2 L2 T2 X2 Y2 ⟨el_Ld_3 s1.1 (fun m hm => ?_), s1.2⟩ (fun o ho => Nat.le_trans (k4 o ho) (r4 o ho)) s2)
  have g7 := s1.1.2.2.2.2.2.2.1
  by_cases e : m = n
  · rw [e]
    exact (hb3 n hn).1 (by rw [r5]; exact hh)
  · rw [g7.2 m hm e]
    by_cases z : el_hold a1 a2 (el_cf G (C2 m)) m
    · rw [(hb3 m hm).1 z]; exact g7.2 m hm e
    · exact (hb3 m hm).2 z
theorem el_set6L {post : St1 → Prop} {m i : Nat} (hi : i < 3) (hq : el_Lq G M K N n B C L P T X Y f w a1 a2 a3 a4 a7 a8 a9 a10 a11 a12 a13 a14 a15 a16) (hh : el_hold a1 a2 (el_cf G M) n)
    (hp : ∀ (f w : Int32) (b3 b4 b5 b7 b8 b9 b10 b11 b12 b13 b14 b15 b16 b17 : Nat → Int32) (B' C' L' T' X' Y' : Nat → Nat), el_Ql G M K n B' C' L' T' X' Y' f w b3 b4 b7 b8 b9 b10 b11 b12 b13 b14 b15 b16 → (∀ o, o < 5 → C o ≤ C' o) → (∀ o, o < 5 → (el_cf G M).testBit o = true → el_jn a1 a2 n o = true → C' o = M) → wX_settle_6 post m (nI (i + 1)) f w h x a1 a2 b3 b4 b5 a6 b7 b8 b9 b10 b11 b12 b13 b14 b15 b16 b17) : wX_settle_6 post (m + 1) (nI i) f w h x a1 a2 a3 a4 a5 a6 a7 a8 a9 a10 a11 a12 a13 a14 a15 a16 a17 := by
  have hn := hq.1.2.1
  have h7 := hq.1.2.2.2.2.2.2.1
  unfold wX_settle_6
  refine pk_le 3 i (fun z => absurd z (by omega)) (fun _ => ?_)
  refine el_leaderIs hn h7.1 (fun m hm => by rw [h7.2 m (by omega) (by omega)]; decide) ?_
  refine br_t (nI_pos' (by omega)) ?_
  exact el_set22 hq hh hp
theorem el_setrem {post : St1 → Prop} (hh : el_hold a1 a2 (el_cf G M) n)
    (hp : ∀ (f w : Int32) (b3 b4 b5 b7 b8 b9 b10 b11 b12 b13 b14 b15 b16 b17 : Nat → Int32) (B' C' L' T' X' Y' : Nat → Nat), el_Ql G M K n B' C' L' T' X' Y' f w b3 b4 b7 b8 b9 b10 b11 b12 b13 b14 b15 b16 → (∀ o, o < 5 → C0 o ≤ C' o) → (∀ o, o < 5 → (el_cf G M).testBit o = true → el_jn a1 a2 n o = true → C' o = M) → post (f, w, h, x, a1, a2, b3, b4, b5, a6, b7, b8, b9, b10, b11, b12, b13, b14, b15, b16, b17)) :
    ∀ j, j ≤ 3 → ∀ (f w : Int32) (a3 a4 a5 a7 a8 a9 a10 a11 a12 a13 a14 a15 a16 a17 : Nat → Int32) (B C L T X Y : Nat → Nat), el_Ql G M K n B C L T X Y f w a3 a4 a7 a8 a9 a10 a11 a12 a13 a14 a15 a16 → (∀ o, o < 5 → C0 o ≤ C o) → (∀ o, o < 5 → (el_cf G M).testBit o = true → el_jn a1 a2 n o = true → C o = M) → wX_settle_6 post (j + 1) (nI (3 - j)) f w h x a1 a2 a3 a4 a5 a6 a7 a8 a9 a10 a11 a12 a13 a14 a15 a16 a17 := by
  intro j
  induction j with
  | zero =>
    intro _ f w a3 a4 a5 a7 a8 a9 a10 a11 a12 a13 a14 a15 a16 a17 B C L T X Y g1 g2 g3
    unfold wX_settle_6
    exact pk_le 3 3 (fun _ => hp _ _ _ _ _ _ _ _ _ _ _ _ _ _ _ _ B C L T X Y g1 g2 g3) (fun z => absurd z (by omega))
  | succ j ih =>
    intro hj f w a3 a4 a5 a7 a8 a9 a10 a11 a12 a13 a14 a15 a16 a17 B C L T X Y g1 g2 g3
    refine el_set6L (by omega) (el_Lq_of g1 hh.2.2) hh (fun f' w' b3 b4 b5 b7 b8 b9 b10 b11 b12 b13 b14 b15 b16 b17 B' C' L' T' X' Y' k1 k2 k3 => ?_)
    rw [show 3 - (j + 1) + 1 = 3 - j by omega]
    exact ih (by omega) f' w' b3 b4 b5 b7 b8 b9 b10 b11 b12 b13 b14 b15 b16 b17 B' C' L' T' X' Y' k1 (fun o ho => Nat.le_trans (g2 o ho) (k2 o ho)) k3
/-- settle while n leads and can go on -/
theorem el_settleL {post : St1 → Prop} (hq : el_Lq G M K N n B C L P T X Y f w a1 a2 a3 a4 a7 a8 a9 a10 a11 a12 a13 a14 a15 a16) (hh : el_hold a1 a2 (el_cf G M) n)
    (hp : ∀ (f w : Int32) (b3 b4 b5 b7 b8 b9 b10 b11 b12 b13 b14 b15 b16 b17 : Nat → Int32) (B' C' L' T' X' Y' : Nat → Nat), el_Ql G M K n B' C' L' T' X' Y' f w b3 b4 b7 b8 b9 b10 b11 b12 b13 b14 b15 b16 → (∀ o, o < 5 → C o ≤ C' o) → (∀ o, o < 5 → (el_cf G M).testBit o = true → el_jn a1 a2 n o = true → C' o = M) → post (f, w, h, x, a1, a2, b3, b4, b5, a6, b7, b8, b9, b10, b11, b12, b13, b14, b15, b16, b17)) : wpX_settle post (f, w, h, x, a1, a2, a3, a4, a5, a6, a7, a8, a9, a10, a11, a12, a13, a14, a15, a16, a17) := by
  have hn := hq.1.2.1
  have h7 := hq.1.2.2.2.2.2.2.1
  have h8 := hq.1.2.2.2.2.2.2.2.1
  unfold wpX_settle
  dsimp only
  refine el_giveUp hq.1.2.2.1 hq.1.1 (fun b3 hb3 => ⟨4, ?_⟩)
  have e3 : ∀ m, m < 5 → b3 m = a3 m := by
    intro m hm
    by_cases e : m = n
    · rw [e]; exact (hb3 n hn).1 (by rw [h8.1]; exact hh)
    · by_cases z : el_hold a1 a2 (el_cf G (P m)) m
      · exact (hb3 m hm).1 z
      · rw [(hb3 m hm).2 z, h7.2 m hm e]
  refine el_set6L (i := 0) (by omega) ⟨el_Ld_3 hq.1 e3, hq.2⟩ hh (fun f' w' b3 b4 b5 b7 b8 b9 b10 b11 b12 b13 b14 b15 b16 b17 B' C' L' T' X' Y' k1 k2 k3 => ?_)
  exact el_setrem hh hp 2 (by omega) f' w' b3 b4 b5 b7 b8 b9 b10 b11 b12 b13 b14 b15 b16 b17 B' C' L' T' X' Y' k1 k2 k3
end
section
variable {f w h x : Int32} {a1 a2 a3 a4 a5 a6 a7 a8 a9 a10 a11 a12 a13 a14 a15 a16 a17 : Nat → Int32} {G : Nat → Nat → Int32} {M K N n : Nat} {B C L P T X Y C0 : Nat → Nat}
/-- the rounds of settle while none leads -/
theorem el_setN {post : St1 → Prop} (hK : K + 60 ≤ 1000000)
    (hpN : ∀ (f w : Int32) (b3 b4 b5 b6 b16 b17 : Nat → Int32) (T' : Nat → Nat), el_Nl G M (K + 60) B C L T' b4 a7 a8 a9 a10 a11 a12 a13 → (∀ m, m < 5 → b3 m = 0) → el_Qu f w b16 [] → (∀ z, ¬ el_Gd G M C L T a1 a2 z) → post (f, w, h, x, a1, a2, b3, b4, b5, b6, a7, a8, a9, a10, a11, a12, a13, a14, a15, b16, b17))
    (hpL : ∀ (f w : Int32) (b3 b4 b5 b6 b7 b8 b9 b10 b11 b12 b13 b14 b15 b16 b17 : Nat → Int32) (n : Nat) (G' : Nat → Nat → Int32) (M' : Nat) (B' C' L' T' X' Y' : Nat → Nat), el_Ql G' M' (K + 60) n B' C' L' T' X' Y' f w b3 b4 b7 b8 b9 b10 b11 b12 b13 b14 b15 b16 → el_hold a1 a2 (el_cf G' M') n → (∀ o, o < 5 → (el_cf G' M').testBit o = true → el_jn a1 a2 n o = true → C' o = M') → (∀ i, i ≤ M → G' i = G i) → M < M' → (∀ o, o < 5 → C o ≤ C' o) → (∀ UB, el_Ub G M B C L a10 UB → ∀ s, s < 4 → el_ap G' M' (6 + s) ≤ nI (UB s)) → post (f, w, (-1), x, a1, a2, b3, b4, b5, b6, b7, b8, b9, b10, b11, b12, b13, b14, b15, b16, b17)) :
    ∀ j, j ≤ 3 → ∀ (f w : Int32) (a3 a4 a5 a6 a16 a17 : Nat → Int32) (T1 : Nat → Nat), el_Nl G M (K + 20 * (3 - j)) B C L T1 a4 a7 a8 a9 a10 a11 a12 a13 → (∀ m, m < 5 → a3 m = 0) → el_Qu f w a16 [] → (j < 3 → ∀ z, ¬ el_Gd G M C L T a1 a2 z) → (j = 3 → T1 = T) → wX_settle_6 post (j + 1) (nI (3 - j)) f w h x a1 a2 a3 a4 a5 a6 a7 a8 a9 a10 a11 a12 a13 a14 a15 a16 a17 := by
  intro j
  induction j with
  | zero =>
    intro _ f w a3 a4 a5 a6 a16 a17 T1 g1 g2 g3 g4 g5
    unfold wX_settle_6
    exact pk_le 3 3 (fun _ => hpN _ _ _ _ _ _ _ _ T1 g1 g2 g3 (g4 (by omega))) (fun z => absurd z (by omega))
  | succ j ih =>
    intro hj f w a3 a4 a5 a6 a16 a17 T1 g1 g2 g3 g4 g5
    unfold wX_settle_6
    refine pk_le 3 (3 - (j + 1)) (fun z => absurd z (by omega)) (fun _ => ?_)
    refine el_leaderNo (fun m hm => by rw [g2 m hm]; decide) ?_
    refine br_f (by decide) ?_
    refine el_hold_ok g1 g2 g3 (by omega) ?_ ?_
    · intro f' w' b3 b4 b5 b6 b16 b17 T' k1 k2 k3 k4
      dsimp only
      unfold wX_settle_22
      refine el_leaderNo (fun m hm => by rw [k2 m hm]; decide) ?_
      refine br_t (by decide) (nm_r (nI_1 _) ?_)
      rw [show 3 - (j + 1) + 1 = 3 - j by omega]
      rw [show K + 20 * (3 - (j + 1)) + 20 = K + 20 * (3 - j) by omega] at k1
      refine ih (by omega) f' w' b3 b4 b5 b6 b16 b17 T' k1 k2 k3 (fun _ => ?_) (fun z => absurd z (by omega))
      by_cases e : j + 1 < 3
      · exact g4 e
      · have := g5 (by omega)
        rw [← this]; exact k4
    · intro f' w' b3 b4 b5 b6 b7 b8 b9 b10 b13 b14 b15 b16 b17 n G' M' B' L' P' T' X Y k1 k2 k3 k4 k5
      dsimp only
      have k1' : el_Lq G' M' (K + 60) M n B' C L' P' T' X Y f' w' a1 a2 b3 b4 b7 b8 b9 b10 a11 a12 b13 b14 b15 b16 := ⟨el_Ld_K k1.1 (by omega) hK, k1.2⟩
      refine el_set22 k1' k4 (fun f2 w2 c3 c4 c5 c7 c8 c9 c10 c11 c12 c13 c14 c15 c16 c17 B2 C2 L2 T2 X2 Y2 r1 r2 r3 => ?_)
      rw [show 3 - (j + 1) + 1 = 3 - j by omega]
      refine el_setrem (C0 := C) k4 ?_ j (by omega) f2 w2 c3 c4 c5 c7 c8 c9 c10 c11 c12 c13 c14 c15 c16 c17 B2 C2 L2 T2 X2 Y2 r1 r2 r3
      intro f3 w3 d3 d4 d5 d7 d8 d9 d10 d11 d12 d13 d14 d15 d16 d17 B3 C3 L3 T3 X3 Y3 t1 t2 t3
      exact hpL f3 w3 d3 d4 d5 b6 d7 d8 d9 d10 d11 d12 d13 d14 d15 d16 d17 n G' M' B3 C3 L3 T3 X3 Y3 t1 k4 t3 k2 k3 t2 k5
/-- settle while none leads -/
theorem el_settleN {post : St1 → Prop} (hN : el_Nl G M K B C L T a4 a7 a8 a9 a10 a11 a12 a13) (h3 : ∀ m, m < 5 → a3 m = 0 ∨ ¬ el_hold a1 a2 (el_cf G (C m)) m) (hQ : el_Qu f w a16 []) (hK : K + 60 ≤ 1000000)
    (hpN : ∀ (f w : Int32) (b3 b4 b5 b6 b16 b17 : Nat → Int32) (T' : Nat → Nat), el_Nl G M (K + 60) B C L T' b4 a7 a8 a9 a10 a11 a12 a13 → (∀ m, m < 5 → b3 m = 0) → el_Qu f w b16 [] → (∀ z, ¬ el_Gd G M C L T a1 a2 z) → post (f, w, h, x, a1, a2, b3, b4, b5, b6, a7, a8, a9, a10, a11, a12, a13, a14, a15, b16, b17))
    (hpL : ∀ (f w : Int32) (b3 b4 b5 b6 b7 b8 b9 b10 b11 b12 b13 b14 b15 b16 b17 : Nat → Int32) (n : Nat) (G' : Nat → Nat → Int32) (M' : Nat) (B' C' L' T' X' Y' : Nat → Nat), el_Ql G' M' (K + 60) n B' C' L' T' X' Y' f w b3 b4 b7 b8 b9 b10 b11 b12 b13 b14 b15 b16 → el_hold a1 a2 (el_cf G' M') n → (∀ o, o < 5 → (el_cf G' M').testBit o = true → el_jn a1 a2 n o = true → C' o = M') → (∀ i, i ≤ M → G' i = G i) → M < M' → (∀ o, o < 5 → C o ≤ C' o) → (∀ UB, el_Ub G M B C L a10 UB → ∀ s, s < 4 → el_ap G' M' (6 + s) ≤ nI (UB s)) → post (f, w, (-1), x, a1, a2, b3, b4, b5, b6, b7, b8, b9, b10, b11, b12, b13, b14, b15, b16, b17)) : wpX_settle post (f, w, h, x, a1, a2, a3, a4, a5, a6, a7, a8, a9, a10, a11, a12, a13, a14, a15, a16, a17) := by
  unfold wpX_settle
  dsimp only
  refine el_giveUp hN.2.1 hN.1 (fun b3 hb3 => ⟨4, ?_⟩)
  refine el_setN hK hpN hpL 3 (by omega) f w b3 a4 a5 a6 a16 a17 T hN (fun m hm => ?_) hQ (fun z => absurd z (by omega)) (fun _ => rfl)
  rcases h3 m hm with z | z
  · by_cases y : el_hold a1 a2 (el_cf G (C m)) m
    · rw [(hb3 m hm).1 y, z]
    · exact (hb3 m hm).2 y
  · exact (hb3 m hm).2 z
end
end
section
/-! at rest, with a leader or without; settle from there -/
/-- between two calls. ld: who leads, 5 if none -/
def el_Top (G : Nat → Nat → Int32) (M K : Nat) (B C L T : Nat → Nat) (ld : Nat) (f w h : Int32) (a1 a2 a3 a4 a7 a8 a9 a10 a11 a12 a13 a14 a15 a16 : Nat → Int32) : Prop :=
  (∀ m, m < 5 → a1 m = 0 ∨ a1 m = 1) ∧ ((ld = 5 ∧ el_Nl G M K B C L T a4 a7 a8 a9 a10 a11 a12 a13 ∧ (∀ m, m < 5 → a3 m = 0) ∧ el_Qu f w a16 []) ∨ (ld < 5 ∧ h = -1 ∧ (∃ X Y, el_Ql G M K ld B C L T X Y f w a3 a4 a7 a8 a9 a10 a11 a12 a13 a14 a15 a16) ∧ el_hold a1 a2 (el_cf G M) ld ∧ (∀ o, o < 5 → (el_cf G M).testBit o = true → el_jn a1 a2 ld o = true → C o = M)))
/-- all are up and in one group -/
def el_all (a1 a2 : Nat → Int32) : Prop := ∀ n o, n < 5 → o < 5 → el_jn a1 a2 n o = true
theorem el_max (T : Nat → Nat) : ∃ z, z < 5 ∧ ∀ o, o < 5 → T o ≤ T z := by
  have step : ∀ k, 0 < k → k ≤ 5 → ∃ z, z < k ∧ ∀ o, o < k → T o ≤ T z := by
    intro k
    induction k with
    | zero => intro h; omega
    | succ k ih =>
      intro _ hk
      by_cases e : k = 0
      · exact ⟨0, by omega, fun o ho => by rw [show o = 0 by omega]; exact Nat.le_refl _⟩
      · obtain ⟨z, z1, z2⟩ := ih (by omega) (by omega)
        by_cases y : T z ≤ T k
        · refine ⟨k, by omega, fun o ho => ?_⟩
          by_cases q : o = k
          · rw [q]; exact Nat.le_refl _
          · exact Nat.le_trans (z2 o (by omega)) y
        · refine ⟨z, by omega, fun o ho => ?_⟩
          by_cases q : o = k
          · rw [q]; omega
          · exact z2 o (by omega)
  exact step 5 (by omega) (by omega)
/-- with all joined, somebody will be elected -/
theorem el_live {G : Nat → Nat → Int32} {M K : Nat} {B C L T : Nat → Nat} {a1 a2 a4 a7 a8 a9 a10 a11 a12 a13 : Nat → Int32} (hN : el_Nl G M K B C L T a4 a7 a8 a9 a10 a11 a12 a13) (ha : el_all a1 a2) : ∃ z, el_Gd G M C L T a1 a2 z := by
  obtain ⟨q1, q2, q3, q4, q5, q6, q7⟩ := hN
  obtain ⟨X, hX, hmax⟩ := el_max T
  have up : ∀ z, z < 5 → ¬ a1 z = 0 := fun z hz => (of_decide_eq_true (ha z z hz hz)).1
  have hqM := q6 M (Nat.le_refl M)
  have gC : ∀ o, o < 5 → C o ≤ M := fun o ho => by have := el_Nd_le (q2 o ho); omega
  -- who has all votes but, perhaps, that of a node with a tail
  have utd : ∀ z o, z < 5 → o < 5 → C z = M → (C o = M → C o < L o → L o ≤ L z) → el_utd G C L z o = true := by
    intro z o hz ho hC ht
    refine decide_eq_true ?_
    rw [hC]
    have b1 := el_Nd_le (q2 o ho)
    have b2 := el_Nd_le (q2 z hz)
    have g := el_wf_gt q1 (gC o ho) (Nat.le_refl M)
    by_cases e : C o < L o
    · by_cases e2 : C o = M
      · rw [e2]; exact Or.inr ⟨rfl, ht e2 e⟩
      · have t := (el_Nd_tl (q2 o ho) e).2.2.2.2 (by omega)
        have g2 := el_wf_gt q1 (show C o + 1 ≤ M by have := gC o ho; omega) (Nat.le_refl M)
        exact Or.inl (by omega)
    · by_cases e3 : el_gt G (C o) < el_gt G M
      · exact Or.inl e3
      · exact Or.inr ⟨by omega, by omega⟩
  by_cases hA : ∃ z, z < 5 ∧ (el_cf G M).testBit z = true ∧ C z = M ∧ C z < L z ∧ T X ≤ T z
  · obtain ⟨z, z1, z2, z3, z4, z5⟩ := hA
    refine ⟨z, z1, up z z1, z2, z3, ?_, fun o ho => Nat.le_trans (hmax o ho) z5⟩
    refine el_maj_congr (fun k hk y1 y2 => ?_) hqM
    rw [ha z k z1 hk, utd z k z1 hk z3 (fun w1 w2 => by rw [q5 k z hk z1 w2 z4 (by omega)]; exact Nat.le_refl _)]
    exact Bool.or_true _
  · have fin : ∀ (s : Nat → Bool) (z : Nat), el_maj s (el_cf G M) → (∀ k, k < 5 → s k = true → T X ≤ T k) → z < 5 → (el_cf G M).testBit z = true → C z = M → T X ≤ T z → ∃ z, el_Gd G M C L T a1 a2 z := by
      intro s z hs hT z1 z2 z3 z4
      refine ⟨z, z1, up z z1, z2, z3, ?_, fun o ho => Nat.le_trans (hmax o ho) z4⟩
      refine el_maj_congr (fun k hk y1 y2 => ?_) hs
      rw [ha z k z1 hk, utd z k z1 hk z3 (fun w1 w2 => absurd ⟨k, hk, y1, w1, w2, hT k hk y2⟩ hA)]
      exact Bool.or_true _
    rcases q7 X hX with hl | hr
    · obtain ⟨z, z1, z2, z3, _⟩ := el_meet1 hqM hqM
      have tT : ∀ k, k < 5 → decide (M ≤ C k) = true → T X ≤ T k := by
        intro k hk y
        have y2 : M ≤ C k := of_decide_eq_true y
        have e : C k = M := by have := gC k hk; omega
        have := q4 k hk
        rw [e] at this
        omega
      have zM : M ≤ C z := of_decide_eq_true z2
      exact fin _ z hqM tT z1 z3 (by have := gC z z1; omega) (tT z z1 z2)
    · obtain ⟨z, z1, z2, z3, z4⟩ := el_meet1 hr hqM
      have zM : M ≤ C z := of_decide_eq_true z4
      exact fin _ z hr (fun k hk y => of_decide_eq_true y) z1 z3 (by have := gC z z1; omega) (of_decide_eq_true z2)
theorem el_hold_all {a1 a2 : Nat → Int32} {m n : Nat} (ha : el_all a1 a2) (hn : n < 5) (hm : m < 32) (ht : m.testBit n = true) : el_hold a1 a2 m n := by
  refine ⟨(of_decide_eq_true (ha n n hn hn)).1, ht, ?_⟩
  unfold el_maj el_cnt
  dsimp only
  rw [ha n 0 hn (by omega), ha n 1 hn (by omega), ha n 2 hn (by omega), ha n 3 hn (by omega), ha n 4 hn (by omega)]
  have h0 := el_ne0 m hm (fun z => by rw [z, Nat.zero_testBit] at ht; exact absurd ht (by decide))
  rcases h0 with z | z | z | z | z <;> rw [z] <;> simp <;> omega
section
variable {f w h x : Int32} {a1 a2 a3 a4 a5 a6 a7 a8 a9 a10 a11 a12 a13 a14 a15 a16 a17 : Nat → Int32} {G : Nat → Nat → Int32} {M K n : Nat} {B C L T X Y : Nat → Nat}
/-- settle, none leading -/
theorem el_stN {post : St1 → Prop} (hup : ∀ m, m < 5 → a1 m = 0 ∨ a1 m = 1) (hN : el_Nl G M K B C L T a4 a7 a8 a9 a10 a11 a12 a13) (h3 : ∀ m, m < 5 → a3 m = 0 ∨ ¬ el_hold a1 a2 (el_cf G (C m)) m) (hQ : el_Qu f w a16 []) (hK : K + 60 ≤ 1000000)
    (hp : ∀ (f w h' : Int32) (b3 b4 b5 b6 b7 b8 b9 b10 b11 b12 b13 b14 b15 b16 b17 : Nat → Int32) (ld : Nat) (G' : Nat → Nat → Int32) (M' : Nat) (B' C' L' T' : Nat → Nat), el_Top G' M' (K + 60) B' C' L' T' ld f w h' a1 a2 b3 b4 b7 b8 b9 b10 b11 b12 b13 b14 b15 b16 → (∀ i, i ≤ M → G' i = G i) → M ≤ M' → (∀ o, o < 5 → C o ≤ C' o) → (∀ UB, el_Ub G M B C L a10 UB → el_Ub G' M' B' C' L' b10 UB) → (el_all a1 a2 → ld < 5) → post (f, w, h', x, a1, a2, b3, b4, b5, b6, b7, b8, b9, b10, b11, b12, b13, b14, b15, b16, b17)) : wpX_settle post (f, w, h, x, a1, a2, a3, a4, a5, a6, a7, a8, a9, a10, a11, a12, a13, a14, a15, a16, a17) := by
  refine el_settleN hN h3 hQ hK ?_ ?_
  · intro f' w' b3 b4 b5 b6 b16 b17 T' k1 k2 k3 k4
    refine hp f' w' h b3 b4 b5 b6 _ _ _ _ _ _ _ _ _ b16 b17 5 G M B C L T' ⟨hup, Or.inl ⟨rfl, k1, k2, k3⟩⟩ (fun _ _ => rfl) (Nat.le_refl _) (fun _ _ => Nat.le_refl _) (fun _ t => t) (fun ha => ?_)
    obtain ⟨z, hz⟩ := el_live hN ha
    exact absurd hz (k4 z)
  · intro f' w' b3 b4 b5 b6 b7 b8 b9 b10 b11 b12 b13 b14 b15 b16 b17 n G' M' B' C' L' T' X' Y' k1 k2 k3 k4 k5 k6 k7
    exact hp f' w' (-1) b3 b4 b5 b6 b7 b8 b9 b10 b11 b12 b13 b14 b15 b16 b17 n G' M' B' C' L' T' ⟨hup, Or.inr ⟨k1.1.2.1, rfl, ⟨X', Y', k1⟩, k2, k3⟩⟩ k4 (by omega) k6 (fun UB hU => el_Ub_of k1 (k7 UB hU)) (fun _ => k1.1.2.1)
/-- settle, n leading -/
theorem el_stL {post : St1 → Prop} (hup : ∀ m, m < 5 → a1 m = 0 ∨ a1 m = 1) (hq : el_Ql G M K n B C L T X Y f w a3 a4 a7 a8 a9 a10 a11 a12 a13 a14 a15 a16) (hh : h = -1) (hK : K + 60 ≤ 1000000)
    (hp : ∀ (f w h' : Int32) (b3 b4 b5 b6 b7 b8 b9 b10 b11 b12 b13 b14 b15 b16 b17 : Nat → Int32) (ld : Nat) (G' : Nat → Nat → Int32) (M' : Nat) (B' C' L' T' : Nat → Nat), el_Top G' M' (K + 60) B' C' L' T' ld f w h' a1 a2 b3 b4 b7 b8 b9 b10 b11 b12 b13 b14 b15 b16 → (∀ i, i ≤ M → G' i = G i) → M ≤ M' → (∀ o, o < 5 → C o ≤ C' o) → (∀ UB, el_Ub G M B C L a10 UB → el_Ub G' M' B' C' L' b10 UB) → (el_all a1 a2 → (el_cf G M).testBit n = true → ld < 5) → post (f, w, h', x, a1, a2, b3, b4, b5, b6, b7, b8, b9, b10, b11, b12, b13, b14, b15, b16, b17)) : wpX_settle post (f, w, h, x, a1, a2, a3, a4, a5, a6, a7, a8, a9, a10, a11, a12, a13, a14, a15, a16, a17) := by
  have hn := hq.1.2.1
  have h7 := hq.1.2.2.2.2.2.2.1
  have hC : C n = M := by
    have := hq.1.2.2.2.2.2.2.2.1.1
    exact this
  by_cases hd : el_hold a1 a2 (el_cf G M) n
  · refine el_settleL (el_Lq_of hq hd.2.2) hd ?_
    intro f' w' b3 b4 b5 b7 b8 b9 b10 b11 b12 b13 b14 b15 b16 b17 B' C' L' T' X' Y' k1 k2 k3
    have k1' : el_Ql G M (K + 60) n B' C' L' T' X' Y' f' w' b3 b4 b7 b8 b9 b10 b11 b12 b13 b14 b15 b16 := ⟨el_Ld_K k1.1 (by omega) hK, k1.2⟩
    exact hp f' w' h b3 b4 b5 a6 b7 b8 b9 b10 b11 b12 b13 b14 b15 b16 b17 n G M B' C' L' T' ⟨hup, Or.inr ⟨hn, hh, ⟨X', Y', k1'⟩, hd, k3⟩⟩ (fun _ _ => rfl) (Nat.le_refl _) k2 (fun UB hU => el_Ub_of k1 hU.1) (fun _ _ => hn)
  · refine el_stN hup (el_Nl_of hq) (fun m hm => ?_) hq.2.2.1 hK ?_
    · by_cases e : m = n
      · rw [e, hC]; exact Or.inr hd
      · exact Or.inl (h7.2 m hm e)
    · intro f' w' h' b3 b4 b5 b6 b7 b8 b9 b10 b11 b12 b13 b14 b15 b16 b17 ld G' M' B' C' L' T' k1 k2 k3 k4 k5 k6
      exact hp f' w' h' b3 b4 b5 b6 b7 b8 b9 b10 b11 b12 b13 b14 b15 b16 b17 ld G' M' B' C' L' T' k1 k2 k3 k4 k5 (fun ha _ => k6 ha)
end
end
section
/-! stop, start, move; standingOf; writing at the leader -/
theorem el_isNode {post : Int32 → Prop} {n : Nat} (hn : n < 5) (hp : post 1) : wpX_isNode post () (nI n) := by
  unfold wpX_isNode
  exact br_f (nI_pos (by omega)) (pk_le 5 n (fun z => absurd z (by omega)) (fun _ => hp))
def el_Rel (G : Nat → Nat → Int32) (M : Nat) (C : Nat → Nat) (G' : Nat → Nat → Int32) (M' : Nat) (C' : Nat → Nat) : Prop := (∀ i, i ≤ M → G' i = G i) ∧ M ≤ M' ∧ (∀ o, o < 5 → C o ≤ C' o)
theorem el_Rel_rfl {G : Nat → Nat → Int32} {M : Nat} {C : Nat → Nat} : el_Rel G M C G M C := ⟨fun _ _ => rfl, Nat.le_refl _, fun _ _ => Nat.le_refl _⟩
theorem el_Rel_tr {G G' G'' : Nat → Nat → Int32} {M M' M'' : Nat} {C C' C'' : Nat → Nat} (h : el_Rel G M C G' M' C') (h2 : el_Rel G' M' C' G'' M'' C'') : el_Rel G M C G'' M'' C'' := by
  obtain ⟨p1, p2, p3⟩ := h
  obtain ⟨q1, q2, q3⟩ := h2
  exact ⟨fun i hi => (q1 i (by omega)).trans (p1 i hi), by omega, fun o ho => Nat.le_trans (p3 o ho) (q3 o ho)⟩
section
variable {f w h x : Int32} {a1 a2 a3 a4 a5 a6 a7 a8 a9 a10 a11 a12 a13 a14 a15 a16 a17 c1 c2 c3 : Nat → Int32} {G : Nat → Nat → Int32} {M K n ld : Nat} {B C L T X Y : Nat → Nat}
theorem el_Ql_3 (hq : el_Ql G M K n B C L T X Y f w a3 a4 a7 a8 a9 a10 a11 a12 a13 a14 a15 a16) (h3 : ∀ m, m < 5 → c3 m = a3 m) : el_Ql G M K n B C L T X Y f w c3 a4 a7 a8 a9 a10 a11 a12 a13 a14 a15 a16 := ⟨el_Ld_3 hq.1 h3, hq.2⟩
/-- settle after up, group or a role has been changed -/
theorem el_stTop {post : St1 → Prop} (hT : el_Top G M K B C L T ld f w h a1 a2 a3 a4 a7 a8 a9 a10 a11 a12 a13 a14 a15 a16) (hup : ∀ m, m < 5 → c1 m = 0 ∨ c1 m = 1) (h3 : (∀ m, m < 5 → c3 m = a3 m) ∨ (∀ m, m < 5 → c3 m = 0)) (hK : K + 60 ≤ 1000000)
    (hp : ∀ (f w h' : Int32) (b3 b4 b5 b6 b7 b8 b9 b10 b11 b12 b13 b14 b15 b16 b17 : Nat → Int32) (ld' : Nat) (G' : Nat → Nat → Int32) (M' : Nat) (B' C' L' T' : Nat → Nat), el_Top G' M' (K + 60) B' C' L' T' ld' f w h' c1 c2 b3 b4 b7 b8 b9 b10 b11 b12 b13 b14 b15 b16 → el_Rel G M C G' M' C' → (∀ UB, el_Ub G M B C L a10 UB → el_Ub G' M' B' C' L' b10 UB) → (el_all c1 c2 → ld' < 5) → post (f, w, h', x, c1, c2, b3, b4, b5, b6, b7, b8, b9, b10, b11, b12, b13, b14, b15, b16, b17)) : wpX_settle post (f, w, h, x, c1, c2, c3, a4, a5, a6, a7, a8, a9, a10, a11, a12, a13, a14, a15, a16, a17) := by
  obtain ⟨_, ⟨e, hN, hz, hQ⟩ | ⟨e, hh, ⟨X, Y, hq⟩, hd, _⟩⟩ := hT
  · refine el_stN hup hN (fun m hm => Or.inl ?_) hQ hK ?_
    · rcases h3 with z | z
      · rw [z m hm]; exact hz m hm
      · exact z m hm
    · intro f' w' h' b3 b4 b5 b6 b7 b8 b9 b10 b11 b12 b13 b14 b15 b16 b17 ld' G' M' B' C' L' T' k1 k2 k3 k4 k5 k6
      exact hp f' w' h' b3 b4 b5 b6 b7 b8 b9 b10 b11 b12 b13 b14 b15 b16 b17 ld' G' M' B' C' L' T' k1 ⟨k2, k3, k4⟩ k5 k6
  · rcases h3 with z | z
    · refine el_stL hup (el_Ql_3 hq z) hh hK ?_
      intro f' w' h' b3 b4 b5 b6 b7 b8 b9 b10 b11 b12 b13 b14 b15 b16 b17 ld' G' M' B' C' L' T' k1 k2 k3 k4 k5 k6
      exact hp f' w' h' b3 b4 b5 b6 b7 b8 b9 b10 b11 b12 b13 b14 b15 b16 b17 ld' G' M' B' C' L' T' k1 ⟨k2, k3, k4⟩ k5 (fun ha => k6 ha hd.2.1)
    · refine el_stN hup (el_Nl_of hq) (fun m hm => Or.inl (z m hm)) hq.2.2.1 hK ?_
      intro f' w' h' b3 b4 b5 b6 b7 b8 b9 b10 b11 b12 b13 b14 b15 b16 b17 ld' G' M' B' C' L' T' k1 k2 k3 k4 k5 k6
      exact hp f' w' h' b3 b4 b5 b6 b7 b8 b9 b10 b11 b12 b13 b14 b15 b16 b17 ld' G' M' B' C' L' T' k1 ⟨k2, k3, k4⟩ k5 k6
theorem el_start {post : Int32 → St1 → Prop} (hT : el_Top G M K B C L T ld f w h a1 a2 a3 a4 a7 a8 a9 a10 a11 a12 a13 a14 a15 a16) (hn : n < 5) (hK : K + 60 ≤ 1000000)
    (hp : ∀ (r f w h' : Int32) (b3 b4 b5 b6 b7 b8 b9 b10 b11 b12 b13 b14 b15 b16 b17 : Nat → Int32) (ld' : Nat) (G' : Nat → Nat → Int32) (M' : Nat) (B' C' L' T' : Nat → Nat), el_Top G' M' (K + 60) B' C' L' T' ld' f w h' (upd a1 n 1) a2 b3 b4 b7 b8 b9 b10 b11 b12 b13 b14 b15 b16 → el_Rel G M C G' M' C' → (∀ UB, el_Ub G M B C L a10 UB → el_Ub G' M' B' C' L' b10 UB) → (el_all (upd a1 n 1) a2 → ld' < 5) → post r (f, w, h', x, (upd a1 n 1), a2, b3, b4, b5, b6, b7, b8, b9, b10, b11, b12, b13, b14, b15, b16, b17)) : wpX_start post (f, w, h, x, a1, a2, a3, a4, a5, a6, a7, a8, a9, a10, a11, a12, a13, a14, a15, a16, a17) (nI n) := by
  have hup : ∀ m, m < 5 → upd a1 n 1 m = 0 ∨ upd a1 n 1 m = 1 := by
    intro m hm
    by_cases e : m = n
    · rw [e, pk_us]; exact Or.inr rfl
    · rw [pk_un e]; exact hT.1 m hm
  have go : ∀ r, wX_start_23 post (nI n) r f w h x a1 a2 a3 a4 a5 a6 a7 a8 a9 a10 a11 a12 a13 a14 a15 a16 a17 := by
    intro r
    unfold wX_start_23
    rw [nI_clamp (by omega)]
    refine ⟨(vp_in_nI (by omega) (by omega)), nm_e ?_⟩
    exact el_stTop hT hup (Or.inl (fun _ _ => rfl)) hK (hp r)
  unfold wpX_start
  dsimp only
  refine el_isNode hn (br_f (by decide) ⟨(vp_in_nI (by omega) (by omega)), br_c (fun _ => go 1) (fun _ => go 0)⟩)
theorem el_stop {post : Int32 → St1 → Prop} (hT : el_Top G M K B C L T ld f w h a1 a2 a3 a4 a7 a8 a9 a10 a11 a12 a13 a14 a15 a16) (hn : n < 5) (hK : K + 60 ≤ 1000000)
    (hp : ∀ (r f w h' : Int32) (b3 b4 b5 b6 b7 b8 b9 b10 b11 b12 b13 b14 b15 b16 b17 : Nat → Int32) (ld' : Nat) (G' : Nat → Nat → Int32) (M' : Nat) (B' C' L' T' : Nat → Nat), el_Top G' M' (K + 60) B' C' L' T' ld' f w h' (upd a1 n 0) a2 b3 b4 b7 b8 b9 b10 b11 b12 b13 b14 b15 b16 → el_Rel G M C G' M' C' → post r (f, w, h', x, (upd a1 n 0), a2, b3, b4, b5, b6, b7, b8, b9, b10, b11, b12, b13, b14, b15, b16, b17)) : wpX_stop post (f, w, h, x, a1, a2, a3, a4, a5, a6, a7, a8, a9, a10, a11, a12, a13, a14, a15, a16, a17) (nI n) := by
  have hup : ∀ m, m < 5 → upd a1 n 0 m = 0 ∨ upd a1 n 0 m = 1 := by
    intro m hm
    by_cases e : m = n
    · rw [e, pk_us]; exact Or.inl rfl
    · rw [pk_un e]; exact hT.1 m hm
  have h3 : (∀ m, m < 5 → upd a3 n 0 m = a3 m) ∨ (∀ m, m < 5 → upd a3 n 0 m = 0) := by
    obtain ⟨_, ⟨e, hN, hz, hQ⟩ | ⟨e, hh, ⟨X, Y, hq⟩, hd, _⟩⟩ := hT
    · refine Or.inr (fun m hm => ?_)
      by_cases e : m = n
      · rw [e, pk_us]
      · rw [pk_un e]; exact hz m hm
    · have h7 := hq.1.2.2.2.2.2.2.1
      by_cases el : ld = n
      · refine Or.inr (fun m hm => ?_)
        by_cases e : m = n
        · rw [e, pk_us]
        · rw [pk_un e]; exact h7.2 m hm (by omega)
      · refine Or.inl (fun m hm => ?_)
        by_cases e : m = n
        · rw [e, pk_us]; exact (h7.2 n hn (by omega)).symm
        · rw [pk_un e]
  have go : ∀ r, wX_stop_23 post (nI n) r f w h x a1 a2 a3 a4 a5 a6 a7 a8 a9 a10 a11 a12 a13 a14 a15 a16 a17 := by
    intro r
    unfold wX_stop_23
    rw [nI_clamp (by omega)]
    refine ⟨(vp_in_nI (by omega) (by omega)), nm_e ⟨(vp_in_nI (by omega) (by omega)), nm_e ?_⟩⟩
    refine el_stTop hT hup h3 hK ?_
    intro f' w' h' b3 b4 b5 b6 b7 b8 b9 b10 b11 b12 b13 b14 b15 b16 b17 ld' G' M' B' C' L' T' k1 k2 _ _
    exact hp r f' w' h' b3 b4 b5 b6 b7 b8 b9 b10 b11 b12 b13 b14 b15 b16 b17 ld' G' M' B' C' L' T' k1 k2
  unfold wpX_stop
  dsimp only
  refine el_isNode hn (br_f (by decide) ⟨(vp_in_nI (by omega) (by omega)), br_c (fun _ => go 0) (fun _ => go 1)⟩)
theorem el_move {post : Int32 → St1 → Prop} {g : Nat} (hT : el_Top G M K B C L T ld f w h a1 a2 a3 a4 a7 a8 a9 a10 a11 a12 a13 a14 a15 a16) (hn : n < 5) (hg : g ≤ 2) (hK : K + 60 ≤ 1000000)
    (hp : ∀ (r f w h' : Int32) (b3 b4 b5 b6 b7 b8 b9 b10 b11 b12 b13 b14 b15 b16 b17 : Nat → Int32) (ld' : Nat) (G' : Nat → Nat → Int32) (M' : Nat) (B' C' L' T' : Nat → Nat), el_Top G' M' (K + 60) B' C' L' T' ld' f w h' a1 (upd a2 n (nI g)) b3 b4 b7 b8 b9 b10 b11 b12 b13 b14 b15 b16 → el_Rel G M C G' M' C' → (∀ UB, el_Ub G M B C L a10 UB → el_Ub G' M' B' C' L' b10 UB) → (el_all a1 (upd a2 n (nI g)) → ld' < 5) → post r (f, w, h', x, a1, (upd a2 n (nI g)), b3, b4, b5, b6, b7, b8, b9, b10, b11, b12, b13, b14, b15, b16, b17)) : wpX_move post (f, w, h, x, a1, a2, a3, a4, a5, a6, a7, a8, a9, a10, a11, a12, a13, a14, a15, a16, a17) (nI n) (nI g) := by
  unfold wpX_move
  dsimp only
  rw [nI_clamp (by omega)]
  refine el_isNode hn (br_f (by decide) (br_f (nI_pos (by omega)) (pk_le g 2 (fun _ => ⟨(vp_in_nI (by omega) (by omega)), nm_e ⟨(vp_in_nI (by omega) (by omega)), nm_e ?_⟩⟩) (fun z => absurd z (by omega)))))
  exact el_stTop hT hT.1 (Or.inl (fun _ _ => rfl)) hK (hp _)
theorem el_ldIs {post : Int32 → Prop} (hT : el_Top G M K B C L T ld f w h a1 a2 a3 a4 a7 a8 a9 a10 a11 a12 a13 a14 a15 a16) (h5 : ld = 5 → post (-1)) (hl : ld < 5 → post (nI ld)) : wpX_leaderNow post (f, w, h, x, a1, a2, a3, a4, a5, a6, a7, a8, a9, a10, a11, a12, a13, a14, a15, a16, a17) := by
  obtain ⟨_, ⟨e, hN, hz, hQ⟩ | ⟨e, hh, ⟨X, Y, hq⟩, hd, _⟩⟩ := hT
  · exact el_leaderNo (fun m hm => by rw [hz m hm]; decide) (h5 e)
  · have h7 := hq.1.2.2.2.2.2.2.1
    exact el_leaderIs e h7.1 (fun m hm => by rw [h7.2 m (by omega) (by omega)]; decide) (hl e)
/-- of every node: what it has carried out -/
theorem el_TopC (hT : el_Top G M K B C L T ld f w h a1 a2 a3 a4 a7 a8 a9 a10 a11 a12 a13 a14 a15 a16) : el_WF G M K ∧ (∀ m, m < 5 → C m ≤ M ∧ a11 m = nI (C m) ∧ ∀ k, k < 15 → a12 (15 * m + k) = el_ap G (C m) k) ∧ (ld < 5 → C ld = M) := by
  obtain ⟨_, ⟨e, hN, hz, hQ⟩ | ⟨e, hh, ⟨X, Y, hq⟩, hd, _⟩⟩ := hT
  · refine ⟨hN.1, fun m hm => ⟨?_, (hN.2.1 m hm).2.2.2.1, (hN.2.1 m hm).2.2.2.2.2.2.1⟩, fun z => by omega⟩
    have := el_Nd_le (hN.2.1 m hm); omega
  · have hl := hq.1
    refine ⟨hl.1, fun m hm => ⟨?_, (hl.2.2.1 m hm).2.2.2.1, (hl.2.2.1 m hm).2.2.2.2.2.2.1⟩, fun _ => hl.2.2.2.2.2.2.2.1.1⟩
    have := el_Nd_le (hl.2.2.1 m hm); omega
theorem el_ses {cd : Nat} (hcd : cd < 72) : nI cd / 6 - nI cd / 6 / 4 * 4 = nI (cd / 6 % 4) := by
  have e : nI cd / 6 = nI (cd / 6) := pk_div (d := 6) (by omega) (by omega) (by omega)
  rw [e]
  exact pk_rem (d := 4) (by omega) (by omega) (by omega)
theorem el_standing {post : Int32 → Prop} {cd : Nat} {nu : Int32} (hT : el_Top G M K B C L T ld f w h a1 a2 a3 a4 a7 a8 a9 a10 a11 a12 a13 a14 a15 a16) (hcd : cd < 72) (hm1 : ¬ 1 ≤ nu → post (-1)) (hm2 : ld = 5 → post (-2)) (hm3 : ld < 5 → ¬ el_ap G M (6 + cd / 6 % 4) ≤ nu → post (-3)) (h1 : 1 ≤ nu → ld < 5 → nu = el_ap G M (6 + cd / 6 % 4) → post 1) (h0 : 1 ≤ nu → ld < 5 → el_ap G M (6 + cd / 6 % 4) ≤ nu → ¬ nu = el_ap G M (6 + cd / 6 % 4) → post 0) : wpX_standingOf post (f, w, h, x, a1, a2, a3, a4, a5, a6, a7, a8, a9, a10, a11, a12, a13, a14, a15, a16, a17) (nI cd) nu := by
  obtain ⟨_, hC, hM⟩ := el_TopC hT
  have hs : cd / 6 % 4 < 4 := Nat.mod_lt _ (by omega)
  unfold wpX_standingOf
  dsimp only
  refine br_f (nI_pos (by omega)) (pk_le 72 cd (fun z => absurd z (by omega)) (fun _ => br_c (fun hnu => ?_) hm1))
  refine el_ldIs hT (fun e => br_f (by decide) (hm2 e)) (fun e => br_t (nI_pos' (by omega)) ⟨by decide, by decide, ?_⟩)
  rw [el_ses hcd, el_m15, el_a6, nI_add, nI_clamp (by omega)]
  have e12 : a12 (15 * ld + 6 + cd / 6 % 4) = el_ap G M (6 + cd / 6 % 4) := by
    rw [Nat.add_assoc, (hC ld e).2.2 _ (by omega), hM e]
  rw [e12]
  exact ⟨(vp_in_nI (by omega) (by omega)), nm_e (br_c (fun z => br_c (fun z2 => h1 hnu e z2) (fun z2 => h0 hnu e z z2)) (fun z => hm3 e z))⟩
end
end
section
/-! submit, submitAndStop, member -/
section
variable {f w h x : Int32} {a1 a2 a3 a4 a5 a6 a7 a8 a9 a10 a11 a12 a13 a14 a15 a16 a17 b7 b8 b9 b10 b13 b14 b15 c10 : Nat → Int32} {G : Nat → Nat → Int32} {M K n b b' c l p ld : Nat} {B C L T X Y X' Y' : Nat → Nat}
theorem el_writeCommand {post : St1 → Prop} {cd : Nat} {nu y5 y6 : Int32} (hcd : cd < 72) (hn : n < 5) (hd : el_Nd G M n b c l p a7 a8 a9 a10 a11 a12 a13)
    (hp : ∀ (b' : Nat) (b7 b8 b9 b10 b13 c10 : Nat → Int32), b' ≤ l → l + 1 ≤ b' + 16 → el_Nd G M n b' c l p b7 b8 b9 b10 a11 a12 b13 → el_Fr n a7 a8 a9 a10 a11 a12 a13 b7 b8 b9 b10 a11 a12 b13 → (∀ j, j < 112 * n + 7 * (l - b') ∨ 112 * n + 7 * (l - b') + 7 ≤ j → c10 j = b10 j) → c10 (112 * n + 7 * (l - b') + 0) = a4 n → c10 (112 * n + 7 * (l - b') + 1) = nI (cd / 24) → c10 (112 * n + 7 * (l - b') + 2) = nI (cd / 6 % 4) → c10 (112 * n + 7 * (l - b') + 3) = nI (cd % 6) → c10 (112 * n + 7 * (l - b') + 4) = nu → c10 (112 * n + 7 * (l - b') + 5) = y5 → c10 (112 * n + 7 * (l - b') + 6) = y6 → post (f, w, h, x, a1, a2, a3, a4, a5, a6, b7, b8, (upd b9 n (nI (l + 1 - b'))), c10, a11, a12, b13, a14, (upd a15 (5 * n + n) (nI (l + 1))), a16, a17)) : wpX_writeCommand post (f, w, h, x, a1, a2, a3, a4, a5, a6, a7, a8, a9, a10, a11, a12, a13, a14, a15, a16, a17) (nI n) (nI cd) nu y5 y6 := by
  have hb := el_Nd_le hd
  have e24 : nI cd / 24 = nI (cd / 24) := pk_div (d := 24) (by omega) (by omega) (by omega)
  have e6 : nI cd - nI cd / 6 * 6 = nI (cd % 6) := pk_rem (d := 6) (by omega) (by omega) (by omega)
  unfold wpX_writeCommand
  dsimp only
  rw [e24, el_ses hcd, e6]
  refine ⟨by decide, by decide, by decide, by decide, ?_⟩
  refine el_write hn hd (fun b' b7 b8 b9 b10 b13 c10 g1 g2 g3 g4 g4' g5 w0 w1 w2 w3 w4 w5 w6 => ?_)
  have hb' := el_Nd_le g3
  dsimp only
  unfold wpX_lastOf
  dsimp only
  rw [nI_clamp (by omega), pk_us, g3.1, nI_add, show b' + (l + 1 - b') = l + 1 by omega]
  refine ⟨(vp_in_nI (by omega) (by omega)), (vp_in_nI (by omega) (by omega)), ?_⟩
  refine el_cellOf hn g3.1 (by omega) ?_
  rw [show l + 1 - b' - 1 = l - b' by omega]
  generalize hq : 112 * n + 7 * (l - b') = q at *
  rw [el_a4, el_a5, el_a6, nI_clamp (by omega), nI_clamp (by omega), nI_clamp (by omega)]
  refine ⟨(vp_in_nI (by omega) (by omega)), nm_e ⟨(vp_in_nI (by omega) (by omega)), nm_e ⟨(vp_in_nI (by omega) (by omega)), nm_e ?_⟩⟩⟩
  refine hp b' b7 b8 b9 b10 b13 _ g1 g2 g3 g4 ?_ ?_ ?_ ?_ ?_ ?_ ?_ ?_
  · intro j hj
    rw [hq] at hj
    rw [pk_un (by omega), pk_un (by omega), pk_un (by omega)]; exact g5 j hj
  · rw [hq, pk_un (by omega), pk_un (by omega), pk_un (by omega)]; exact w0
  · rw [hq, pk_un (by omega), pk_un (by omega), pk_un (by omega)]; exact w1
  · rw [hq, pk_un (by omega), pk_un (by omega), pk_un (by omega)]; exact w2
  · rw [hq, pk_un (by omega), pk_un (by omega), pk_un (by omega)]; exact w3
  · rw [hq, pk_un (by omega), pk_un (by omega), pk_us]
  · rw [hq, pk_un (by omega), pk_us]
  · rw [hq, pk_us]
/-- the leader's log has one entry more -/
theorem el_Lq_put (hq : el_Ql G M K n B C L T X Y f w a3 a4 a7 a8 a9 a10 a11 a12 a13 a14 a15 a16) (hK : K + 1 ≤ 1000000) (g1 : b' ≤ M) (g2 : M + 1 ≤ b' + 16) (g3 : el_Nd G M n b' M M M b7 b8 b9 b10 a11 a12 b13) (g4 : el_Fr n a7 a8 a9 a10 a11 a12 a13 b7 b8 b9 b10 a11 a12 b13) (g5 : ∀ j, j < 112 * n + 7 * (M - b') ∨ 112 * n + 7 * (M - b') + 7 ≤ j → c10 j = b10 j) (g6 : c10 (112 * n + 7 * (M - b') + 0) = a4 n) (hE : el_Ent (el_ap G M) (fun k => c10 (112 * n + 7 * (M - b') + k))) (hnm : el_NM n (M + 1) (el_up C n (M + 1)) X' Y' b14 b15) (hmaj : el_maj (el_jn a1 a2 n) (el_cf (el_ext G M (fun k => c10 (112 * n + 7 * (M - b') + k))) (M + 1))) :
    el_Lq (el_ext G M (fun k => c10 (112 * n + 7 * (M - b') + k))) (M + 1) (K + 1) M n (el_up B n b') C (el_up L n (M + 1)) (el_up C n (M + 1)) T X' Y' f w a1 a2 a3 a4 b7 b8 (upd b9 n (nI (M + 1 - b'))) c10 a11 a12 b13 b14 b15 a16 := by
  obtain ⟨hl, _, hQ, hqr⟩ := hq
  obtain ⟨q1, q2, q3, q4, q5, q6, q7, q8, q9, q10, q11, q12, q13⟩ := hl
  have hMK := q1.2.1
  have eT : el_gt G M = T n := q6.1.symm
  have w3 : el_WF (el_ext G M (fun k => c10 (112 * n + 7 * (M - b') + k))) (M + 1) (K + 1) := el_wf_ext (el_wf_K q1 (by omega) hK) (by omega) (t := T n) (by rw [g6]; exact q4 n q2) (by omega) (by omega) hE
  have hput := el_Nd_put (G' := el_ext G M (fun k => c10 (112 * n + 7 * (M - b') + k))) (M' := M + 1) (b9' := upd b9 n (nI (M + 1 - b'))) (b10' := c10) g3 (by omega) (by omega) (by omega) (by omega) (fun i hi => el_ext_lo hi) pk_us (fun k hk => g5 _ (by omega)) (fun k hk => by rw [el_ext_hi])
  have egt : el_gt (el_ext G M (fun k => c10 (112 * n + 7 * (M - b') + k))) (M + 1) = T n := by
    have := (q1.2.2.2.1 M (Nat.le_refl M)).2
    unfold el_gt; rw [el_ext_hi, g6, q4 n q2, nI_clamp (by have := q1.1; omega)]
  have hfr : el_Fr n a7 a8 a9 a10 a11 a12 a13 b7 b8 (upd b9 n (nI (M + 1 - b'))) c10 a11 a12 b13 := by
    obtain ⟨u1, u2, u3⟩ := g4
    refine ⟨fun j hj => ?_, fun j hj => by rw [g5 j (by omega)]; exact u2 j hj, u3⟩
    obtain ⟨v1, v2, v3, v4⟩ := u1 j hj
    exact ⟨v1, v2, by rw [pk_un hj]; exact v3, v4⟩
  refine ⟨⟨w3, q2, fun m hm => ?_, q4, q5, ⟨by rw [egt], by omega⟩, q7, ⟨by rw [el_up_s], by rw [el_up_s]⟩, ⟨by have := q8.1; omega, by omega⟩, fun m hm => ?_, fun m hm => ?_, fun m hm hz => ?_, fun m m' hm hm' hz hz' hc => ?_⟩, hnm, hQ, fun i hi => ?_, fun i z1 z2 => ?_, fun m hm hne => Or.inl (el_up_n hne), hmaj⟩
  · by_cases e : m = n
    · subst e; rw [el_up_s, el_up_s, el_up_s, q8.1]; exact hput
    · rw [el_up_n e, el_up_n e, el_up_n e]
      refine el_Nd_ext (el_Nd_Fr (q3 m hm) hfr e) (fun i hi => el_ext_lo hi) (by omega) (by omega) (fun z1 z2 _ => ?_)
      have := q12 m hm z1
      omega
  · by_cases e : m = n
    · subst e; rw [el_up_s, q8.1]; omega
    · rw [el_up_n e]; exact q10 m hm
  · by_cases e : m = n
    · subst e; rw [el_up_s, egt]; exact Nat.le_refl _
    · rw [el_up_n e, el_ext_gt (by have := el_Nd_le (q3 m hm); omega)]; exact q11 m hm
  · have := el_Nd_le (q3 m hm); omega
  · have e1 : m ≠ n := fun e => by subst e; rw [el_up_s, el_up_s] at hz; omega
    have e2 : m' ≠ n := fun e => by subst e; rw [el_up_s, el_up_s] at hz'; omega
    rw [el_up_n e1, el_up_n e1] at hz
    rw [el_up_n e2, el_up_n e2] at hz'
    exact q13 m m' hm hm' hz hz' hc
  · rw [el_ext_cf hi]; exact hqr i hi
  · rw [show i = M + 1 by omega]
theorem el_cmd_of {cd : Nat} {nu : Int32} {q : Nat} {s : Nat → Int32} (hcd : cd < 72) (hs : el_Sta s) (h1 : 1 ≤ nu) (h40 : nu ≤ 40) (hle : s (6 + cd / 6 % 4) ≤ nu) (hne : ¬ nu = s (6 + cd / 6 % 4)) (w1 : c10 (q + 1) = nI (cd / 24)) (w2 : c10 (q + 2) = nI (cd / 6 % 4)) (w3 : c10 (q + 3) = nI (cd % 6)) (w4 : c10 (q + 4) = nu) : el_Cmd s (fun k => c10 (q + k)) := by
  obtain ⟨j, hj, ej⟩ := nI_of2 (x := nu) (M := 40) (n := 40) (by decide) (fun z => by
    have := Int32.lt_of_le_of_lt h1 z
    exact absurd this (by decide)) h40
  subst ej
  have hj1 : 1 ≤ j := by
    have : nI 1 ≤ nI j := h1
    exact (nI_leI (by omega) (by omega)).mp this
  have hs4 : cd / 6 % 4 < 4 := Nat.mod_lt _ (by omega)
  obtain ⟨v, hv, ev⟩ := hs.2 (cd / 6 % 4) hs4
  refine ⟨?_, cd / 6 % 4, cd % 6, j, hs4, Nat.mod_lt _ (by omega), hj1, hj, w2, w3, w4, ?_⟩
  · dsimp only
    rw [w1]
    have : cd / 24 = 0 ∨ cd / 24 = 1 ∨ cd / 24 = 2 := by omega
    rcases this with z | z | z <;> rw [z]
    · exact Or.inl rfl
    · exact Or.inr (Or.inl rfl)
    · exact Or.inr (Or.inr rfl)
  · rw [ev] at hle hne ⊢
    have l1 := (nI_leI (by omega) (by omega)).mp hle
    have l2 : j ≠ v := fun z => hne (by rw [z])
    exact (nI_ltI (by omega) (by omega)).mpr (by omega)
/-- a command, submitted while all is at rest -/
theorem el_submit {post : Int32 → St1 → Prop} {cd : Nat} {nu y5 y6 : Int32} (hT : el_Top G M K B C L T ld f w h a1 a2 a3 a4 a7 a8 a9 a10 a11 a12 a13 a14 a15 a16) (hcd : cd < 72) (h40 : nu ≤ 40) (hK : K + 60 ≤ 1000000)
    (hp1 : ∀ r, ¬ r = 0 → (ld < 5 → 1 ≤ nu → nu = el_ap G M (6 + cd / 6 % 4) → r = 1) → (ld < 5 → 1 ≤ nu → ¬ el_ap G M (6 + cd / 6 % 4) ≤ nu ∨ nu = el_ap G M (6 + cd / 6 % 4)) → r ≤ 1 → post r (f, w, h, x, a1, a2, a3, a4, a5, a6, a7, a8, a9, a10, a11, a12, a13, a14, a15, a16, a17))
    (hp0 : ∀ (f w : Int32) (b3 b4 b5 b7 b8 b9 b10 b11 b12 b13 b14 b15 b16 b17 : Nat → Int32) (e : Nat → Int32) (B' C' L' T' : Nat → Nat), ld < 5 → 1 ≤ nu → el_ap G M (6 + cd / 6 % 4) ≤ nu → ¬ nu = el_ap G M (6 + cd / 6 % 4) → e 1 = nI (cd / 24) → e 2 = nI (cd / 6 % 4) → e 3 = nI (cd % 6) → e 4 = nu → e 5 = y5 → e 6 = y6 → el_Top (el_ext G M e) (M + 1) (K + 60) B' C' L' T' ld f w h a1 a2 b3 b4 b7 b8 b9 b10 b11 b12 b13 b14 b15 b16 → el_Rel G M C (el_ext G M e) (M + 1) C' → post 0 (f, w, h, x, a1, a2, b3, b4, b5, a6, b7, b8, b9, b10, b11, b12, b13, b14, b15, b16, b17)) : wpX_submit post (f, w, h, x, a1, a2, a3, a4, a5, a6, a7, a8, a9, a10, a11, a12, a13, a14, a15, a16, a17) (nI cd) nu y5 y6 := by
  have hst := (el_TopC hT).1
  unfold wpX_submit
  dsimp only
  refine el_standing hT hcd (fun z => ?_) (fun z => ?_) (fun z1 z2 => ?_) (fun z1 z2 z3 => ?_) (fun z1 z2 z3 z4 => ?_)
  · exact br_f (by decide) (hp1 _ (by decide) (fun _ y => absurd y z) (fun _ y => absurd y z) (by decide))
  · exact br_f (by decide) (hp1 _ (by decide) (fun y => by omega) (fun y => by omega) (by decide))
  · exact br_f (by decide) (hp1 _ (by decide) (fun _ _ y => absurd (by rw [y]; exact Int32.le_refl _) z2) (fun _ _ => Or.inl z2) (by decide))
  · exact br_f (by decide) (hp1 _ (by decide) (fun _ _ _ => rfl) (fun _ _ => Or.inr z3) (by decide))
  · refine br_t rfl ?_
    refine el_ldIs hT (fun e => by omega) (fun hld => ?_)
    obtain ⟨hup, ⟨e, _⟩ | ⟨_, hh, ⟨X, Y, hq⟩, hd, _⟩⟩ := id hT
    · omega
    obtain ⟨q1, q2, q3, q4, q5, q6, q7, q8, q9, q10, q11, q12, q13⟩ := id hq.1
    have hdn := q3 ld q2
    rw [q8.1, q8.2] at hdn
    refine el_writeCommand hcd q2 hdn (fun b' b7 b8 b9 b10 b13 c10 g1 g2 g3 g4 g5 w0 w1 w2 w3 w4 w5 w6 => ?_)
    have hC : el_Cmd (el_ap G M) (fun k => c10 (112 * ld + 7 * (M - b') + k)) := el_cmd_of hcd (el_wf_sta q1 M (Nat.le_refl _)) z1 h40 z3 z4 w1 w2 w3 w4
    have ecf : el_cf (el_ext G M (fun k => c10 (112 * ld + 7 * (M - b') + k))) (M + 1) = el_cf G M := by
      unfold el_cf; rw [el_ext_apM, el_stp_14 hC]
    have hnm : el_NM ld (M + 1) (el_up C ld (M + 1)) X (el_up Y ld (M + 1)) a14 (upd a15 (5 * ld + ld) (nI (M + 1))) := by
      intro o ho
      obtain ⟨x1, x2, x3, x4, x5, x6⟩ := hq.2.1 o ho
      by_cases e : o = ld
      · rw [e, el_up_s, el_up_s, pk_us]
        rw [e] at x1 x3
        exact ⟨x1, rfl, by omega, by omega, fun z => absurd rfl z, fun _ => rfl⟩
      · rw [el_up_n e, el_up_n e, pk_un (by omega)]
        exact ⟨x1, x2, by omega, by omega, x5, fun z => absurd z e⟩
    have hLq := el_Lq_put (a1 := a1) (a2 := a2) hq (by omega) g1 g2 g3 g4 g5 w0 (Or.inl hC) hnm (by rw [ecf]; exact hd.2.2)
    have hd' : el_hold a1 a2 (el_cf (el_ext G M (fun k => c10 (112 * ld + 7 * (M - b') + k))) (M + 1)) ld := by rw [ecf]; exact hd
    dsimp only
    refine el_spread hLq.1 hLq.2.1 hLq.2.2.1 hLq.2.2.2.2.2.2 hLq.2.2.2.2.2.1 (fun f1 w1' c3 c4 c5 c7 c8 c9 d10 c11 c12 c13 c14 c15 c16 c17 B1 C1 L1 P1 T1 X1 Y1 k1 k2 k3 k4 k5 k6 k7 => ?_)
    refine el_settleL ⟨k1, k2, k3, el_Qr_mono hLq.2.2.2.1 k4, hLq.2.2.2.2.1, k7, hLq.2.2.2.2.2.2⟩ hd' ?_
    intro f' w' b3 b4 b5 e7 e8 e9 e10 e11 e12 e13 e14 e15 e16 e17 B' C' L' T' X' Y' r1 r2 r3
    have r1' : el_Ql (el_ext G M (fun k => c10 (112 * ld + 7 * (M - b') + k))) (M + 1) (K + 60) ld B' C' L' T' X' Y' f' w' b3 b4 e7 e8 e9 e10 e11 e12 e13 e14 e15 e16 := ⟨el_Ld_K r1.1 (by omega) hK, r1.2⟩
    exact hp0 f' w' b3 b4 b5 e7 e8 e9 e10 e11 e12 e13 e14 e15 e16 e17 _ B' C' L' T' q2 z1 z3 z4 w1 w2 w3 w4 w5 w6 ⟨hup, Or.inr ⟨q2, hh, ⟨X', Y', r1'⟩, hd', r3⟩⟩ ⟨fun i hi => el_ext_lo hi, by omega, fun o ho => Nat.le_trans (k4 o ho) (r2 o ho)⟩
/-- a stale tail is written -/
theorem el_Nd_tail {b9' : Nat → Int32} (g3 : el_Nd G M n b' M M M b7 b8 b9 b10 a11 a12 b13) (g2 : M + 1 ≤ b' + 16) (g5 : ∀ j, j < 112 * n + 7 * (M - b') ∨ 112 * n + 7 * (M - b') + 7 ≤ j → c10 j = b10 j) (hC : el_Cmd (el_ap G M) (fun k => c10 (112 * n + 7 * (M - b') + k))) (h0 : c10 (112 * n + 7 * (M - b') + 0) = G M 0) (h9 : b9' n = nI (M + 1 - b')) : el_Nd G M n b' M (M + 1) M b7 b8 b9' c10 a11 a12 b13 := by
  have hb := el_Nd_le g3
  obtain ⟨k7, k8, k9, k11, kb, k10, k12, k13, kt⟩ := g3
  refine ⟨k7, k8, h9, k11, by omega, fun i k z1 z2 z3 => ?_, k12, k13, Or.inr ⟨rfl, rfl, h0, hC, fun z => by omega⟩⟩
  rw [g5 _ (by omega)]; exact k10 i k z1 z2 z3
theorem el_submitAndStop {post : Int32 → St1 → Prop} {cd : Nat} {nu y5 y6 : Int32} (hT : el_Top G M K B C L T ld f w h a1 a2 a3 a4 a7 a8 a9 a10 a11 a12 a13 a14 a15 a16) (hcd : cd < 72) (h40 : nu ≤ 40) (hK : K + 60 ≤ 1000000)
    (hp1 : ∀ r, ¬ r = 0 → r ≤ 1 → post r (f, w, h, x, a1, a2, a3, a4, a5, a6, a7, a8, a9, a10, a11, a12, a13, a14, a15, a16, a17))
    (hp0 : ∀ (r f w h' : Int32) (b1 b3 b4 b5 b6 b7 b8 b9 b10 b11 b12 b13 b14 b15 b16 b17 : Nat → Int32) (ld' : Nat) (G' : Nat → Nat → Int32) (M' : Nat) (B' C' L' T' : Nat → Nat), ¬ r ≤ 1 → 1 ≤ nu → el_ap G M (6 + cd / 6 % 4) ≤ nu → el_Top G' M' (K + 60) B' C' L' T' ld' f w h' b1 a2 b3 b4 b7 b8 b9 b10 b11 b12 b13 b14 b15 b16 → el_Rel G M C G' M' C' → (∀ UB : Nat → Nat, (∀ s, s < 4 → el_ap G M (6 + s) ≤ nI (UB s)) → nu ≤ nI (UB (cd / 6 % 4)) → el_Ub G' M' B' C' L' b10 UB) → post r (f, w, h', x, b1, a2, b3, b4, b5, b6, b7, b8, b9, b10, b11, b12, b13, b14, b15, b16, b17)) : wpX_submitAndStop post (f, w, h, x, a1, a2, a3, a4, a5, a6, a7, a8, a9, a10, a11, a12, a13, a14, a15, a16, a17) (nI cd) nu y5 y6 := by
  have hst := (el_TopC hT).1
  unfold wpX_submitAndStop
  dsimp only
  refine el_standing hT hcd (fun z => ?_) (fun z => ?_) (fun z1 z2 => ?_) (fun z1 z2 z3 => ?_) (fun z1 z2 z3 z4 => ?_)
  · exact br_f (by decide) (hp1 _ (by decide) (by decide))
  · exact br_f (by decide) (hp1 _ (by decide) (by decide))
  · exact br_f (by decide) (hp1 _ (by decide) (by decide))
  · exact br_f (by decide) (hp1 _ (by decide) (by decide))
  · refine br_t rfl ?_
    refine el_ldIs hT (fun e => by omega) (fun hld => ?_)
    obtain ⟨hup, ⟨e, _⟩ | ⟨_, hh, ⟨X, Y, hq⟩, hd, _⟩⟩ := id hT
    · omega
    obtain ⟨q1, q2, q3, q4, q5, q6, q7, q8, q9, q10, q11, q12, q13⟩ := id hq.1
    have hdn := q3 ld q2
    rw [q8.1, q8.2] at hdn
    refine el_writeCommand hcd q2 hdn (fun b' b7 b8 b9 b10 b13 c10 g1 g2 g3 g4 g5 w0 w1 w2 w3 w4 w5 w6 => ?_)
    have hC : el_Cmd (el_ap G M) (fun k => c10 (112 * ld + 7 * (M - b') + k)) := el_cmd_of hcd (el_wf_sta q1 M (Nat.le_refl _)) z1 h40 z3 z4 w1 w2 w3 w4
    have h0 : c10 (112 * ld + 7 * (M - b') + 0) = G M 0 := by rw [w0, q4 ld q2, q6.1]; exact (q1.2.2.2.1 M (Nat.le_refl M)).1.symm
    have hnd := el_Nd_tail (b9' := upd b9 ld (nI (M + 1 - b'))) g3 g2 g5 hC h0 pk_us
    have hfr : el_Fr ld a7 a8 a9 a10 a11 a12 a13 b7 b8 (upd b9 ld (nI (M + 1 - b'))) c10 a11 a12 b13 := by
      obtain ⟨u1, u2, u3⟩ := g4
      refine ⟨fun j hj => ?_, fun j hj => by rw [g5 j (by omega)]; exact u2 j hj, u3⟩
      obtain ⟨v1, v2, v3, v4⟩ := u1 j hj
      exact ⟨v1, v2, by rw [pk_un hj]; exact v3, v4⟩
    have hNl := el_Nl_of hq
    have hN : el_Nl G M K (el_up B ld b') C (el_up L ld (M + 1)) T a4 b7 b8 (upd b9 ld (nI (M + 1 - b'))) c10 a11 a12 b13 := by
      refine ⟨hNl.1, fun m hm => ?_, hNl.2.2.1, hNl.2.2.2.1, fun m m' hm hm' hz hz' hc => ?_, hNl.2.2.2.2.2.1, hNl.2.2.2.2.2.2⟩
      · by_cases e : m = ld
        · rw [e, el_up_s, el_up_s, q8.1]; exact hnd
        · rw [el_up_n e, el_up_n e]; exact el_Nd_Fr (q3 m hm) hfr e
      · by_cases e1 : m = ld
        · by_cases e2 : m' = ld
          · omega
          · rw [el_up_n e2] at hz'
            have := q12 m' hm' hz'
            rw [e1, q8.1] at hc
            omega
        · rw [el_up_n e1] at hz
          by_cases e2 : m' = ld
          · have := q12 m hm hz
            rw [e2, q8.1] at hc
            omega
          · rw [el_up_n e2] at hz'
            exact q13 m m' hm hm' hz hz' hc
    dsimp only
    rw [nI_clamp (by omega)]
    refine ⟨(vp_in_nI (by omega) (by omega)), nm_e ⟨(vp_in_nI (by omega) (by omega)), nm_e ?_⟩⟩
    refine el_stN (fun m hm => ?_) hN (fun m hm => Or.inl ?_) hq.2.2.1 hK ?_
    · by_cases e : m = ld
      · rw [e, pk_us]; exact Or.inl rfl
      · rw [pk_un e]; exact hup m hm
    · by_cases e : m = ld
      · rw [e, pk_us]
      · rw [pk_un e]; exact q7.2 m hm e
    · intro f' w' h' b3 b4 b5 b6 e7 e8 e9 e10 e11 e12 e13 e14 e15 e16 e17 ld' G' M' B' C' L' T' k1 k2 k3 k4 k5 k6
      have hU : ∀ UB : Nat → Nat, (∀ s, s < 4 → el_ap G M (6 + s) ≤ nI (UB s)) → nu ≤ nI (UB (cd / 6 % 4)) → el_Ub G' M' B' C' L' e10 UB := by
        intro UB hu1 hu2
        refine k5 UB ⟨hu1, fun m s hm hs y1 y2 y3 => ?_⟩
        by_cases e : m = ld
        · rw [e, el_up_s, q8.1] at y3 ⊢
          rw [w2] at y3
          have : cd / 6 % 4 = s := (nI_eq (by omega) (by omega)).mp y3
          rw [w4, ← this]; exact hu2
        · rw [el_up_n e] at y1
          have := q12 m hm y1
          omega
      dsimp only
      exact br_c (fun _ => hp0 3 f' w' h' _ b3 b4 b5 b6 e7 e8 e9 e10 e11 e12 e13 e14 e15 e16 e17 ld' G' M' B' C' L' T' (by decide) z1 z3 k1 ⟨k2, k3, k4⟩ hU) (fun _ => hp0 2 f' w' h' _ b3 b4 b5 b6 e7 e8 e9 e10 e11 e12 e13 e14 e15 e16 e17 ld' G' M' B' C' L' T' (by decide) z1 z3 k1 ⟨k2, k3, k4⟩ hU)
end
end
section
/-! member; the constructor; compact -/
section
variable {f w h x : Int32} {a1 a2 a3 a4 a5 a6 a7 a8 a9 a10 a11 a12 a13 a14 a15 a16 a17 : Nat → Int32} {G : Nat → Nat → Int32} {M K K' n ld : Nat} {B C L T X Y : Nat → Nat}
theorem el_Top_K (hT : el_Top G M K B C L T ld f w h a1 a2 a3 a4 a7 a8 a9 a10 a11 a12 a13 a14 a15 a16) (hK : K ≤ K') (hK' : K' ≤ 1000000) : el_Top G M K' B C L T ld f w h a1 a2 a3 a4 a7 a8 a9 a10 a11 a12 a13 a14 a15 a16 := by
  obtain ⟨hup, ⟨e, hN, hz, hQ⟩ | ⟨e, hh, ⟨X, Y, hq⟩, hd, hn⟩⟩ := hT
  · exact ⟨hup, Or.inl ⟨e, el_Nl_T hN hK hK' (fun m hm => ⟨(hN.2.2.1 m hm).1, Nat.le_trans (hN.2.2.1 m hm).2 hK⟩) (fun _ _ => Nat.le_refl _) hN.2.2.2.2.2.2, hz, hQ⟩⟩
  · exact ⟨hup, Or.inr ⟨e, hh, ⟨X, Y, el_Ld_K hq.1 hK hK', hq.2⟩, hd, hn⟩⟩
theorem el_member {post : Int32 → St1 → Prop} {nd : Nat} {fl : Int32} (hT : el_Top G M K B C L T ld f w h a1 a2 a3 a4 a7 a8 a9 a10 a11 a12 a13 a14 a15 a16) (hnd : nd < 5) (hK : K + 61 ≤ 1000000)
    (hp : ∀ (r f w h' : Int32) (b3 b4 b5 b6 b7 b8 b9 b10 b11 b12 b13 b14 b15 b16 b17 : Nat → Int32) (ld' : Nat) (G' : Nat → Nat → Int32) (M' : Nat) (B' C' L' T' : Nat → Nat), el_Top G' M' (K + 61) B' C' L' T' ld' f w h' a1 a2 b3 b4 b7 b8 b9 b10 b11 b12 b13 b14 b15 b16 → el_Rel G M C G' M' C' → post r (f, w, h', x, a1, a2, b3, b4, b5, b6, b7, b8, b9, b10, b11, b12, b13, b14, b15, b16, b17)) : wpX_member post (f, w, h, x, a1, a2, a3, a4, a5, a6, a7, a8, a9, a10, a11, a12, a13, a14, a15, a16, a17) (nI nd) fl := by
  have same : ∀ r, post r (f, w, h, x, a1, a2, a3, a4, a5, a6, a7, a8, a9, a10, a11, a12, a13, a14, a15, a16, a17) := fun r => hp r f w h _ _ _ _ _ _ _ _ _ _ _ _ _ _ _ ld G M B C L T (el_Top_K hT (by omega) hK) el_Rel_rfl
  unfold wpX_member
  dsimp only
  refine el_isNode hnd (br_f (by decide) ?_)
  refine el_ldIs hT (fun e => br_f (by decide) (same _)) (fun hld => br_t (nI_pos' (by omega)) ?_)
  obtain ⟨hup, ⟨e, _⟩ | ⟨_, hh, ⟨X, Y, hq⟩, hd, _⟩⟩ := id hT
  · omega
  obtain ⟨q1, q2, q3, q4, q5, q6, q7, q8, q9, q10, q11, q12, q13⟩ := id hq.1
  have hdn := q3 ld q2
  rw [q8.1, q8.2] at hdn
  have hcf := el_wf_cf q1 (Nat.le_refl M)
  refine el_membersFor q2 hdn q1 (nm_r (el_oneb nd hnd) ?_)
  -- the change is made
  have go : ∀ (kd : Int32) (mm : Nat), mm < 32 → (kd = 4 ∧ mm = el_cf G M ||| 2 ^ nd ∨ kd = 5 ∧ mm = el_cf G M &&& (31 ^^^ 2 ^ nd) ∧ ¬ el_cf G M = 2 ^ nd) → el_maj (el_jn a1 a2 ld) mm → wX_member_114 post (nI nd) (nI ld) kd (nI ld) f w h x a1 a2 a3 a4 a5 a6 a7 a8 a9 a10 a11 a12 a13 a14 a15 a16 a17 := by
    intro kd mm hmm hkd hmaj
    unfold wX_member_114
    refine el_write q2 hdn (fun b' b7 b8 b9 b10 b13 c10 g1 g2 g3 g4 g4' g5 w0 w1 w2 w3 w4 w5 w6 => ?_)
    have hb' := el_Nd_le g3
    have e14 : el_ap G M 14 = nI (el_cf G M) := hcf.2.2
    have hE : el_Ent (el_ap G M) (fun k => c10 (112 * ld + 7 * (M - b') + k)) := by
      refine Or.inr (Or.inr ⟨nd, hnd, w3, ?_⟩)
      rcases hkd with ⟨z1, z2⟩ | ⟨z1, z2, z3⟩
      · exact Or.inl (by show c10 _ = _; rw [w1, z1])
      · refine Or.inr ⟨by show c10 _ = _; rw [w1, z1], ?_⟩
        rw [e14]
        intro z
        have hp2 : 2 ^ nd < 2 ^ 31 := Nat.pow_lt_pow_right (by omega) (by omega)
        exact z3 ((nI_eq (by omega) hp2).mp z)
    have ecf : el_cf (el_ext G M (fun k => c10 (112 * ld + 7 * (M - b') + k))) (M + 1) = mm := by
      unfold el_cf
      rw [el_ext_apM]
      rcases hkd with ⟨z1, z2⟩ | ⟨z1, z2, z3⟩
      · rw [el_stp_4 (by show c10 _ = _; rw [w1, z1]), pk_us, e14]
        show (nI (el_cf G M) ||| (1 : Int32) <<< (c10 (112 * ld + 7 * (M - b') + 3) &&& 31)).toNatClampNeg = mm
        rw [w3, el_orb _ hcf.1 nd hnd, ← z2, nI_clamp (by omega)]
      · rw [el_stp_5 (by show c10 _ = _; rw [w1, z1]), pk_us, e14]
        show (nI (el_cf G M) &&& (((1 : Int32) <<< (c10 (112 * ld + 7 * (M - b') + 3) &&& 31)) ^^^ (-1))).toNatClampNeg = mm
        rw [w3, el_clb _ hcf.1 nd hnd, ← z2, nI_clamp (by omega)]
    have fin : ∀ yv : Nat, (nd = ld → yv = M + 1) → (nd ≠ ld → yv = 0) → wX_member_157 post (nI ld) (nI yv) (nI (5 * ld + nd)) f w h x a1 a2 a3 a4 a5 a6 b7 b8 (upd b9 ld (nI (M + 1 - b'))) c10 a11 a12 b13 (upd a14 (5 * ld + nd) (nI (M + 1))) (upd a15 (5 * ld + ld) (nI (M + 1))) a16 a17 := by
      intro yv hy1 hy2
      have hnm : el_NM ld (M + 1) (el_up C ld (M + 1)) (el_up X nd (M + 1)) (el_up (el_up Y ld (M + 1)) nd yv) (upd a14 (5 * ld + nd) (nI (M + 1))) (upd (upd a15 (5 * ld + ld) (nI (M + 1))) (5 * ld + nd) (nI yv)) := by
        intro o ho
        obtain ⟨x1, x2, x3, x4, x5, x6⟩ := hq.2.1 o ho
        by_cases e : o = nd
        · rw [e, el_up_s, el_up_s, pk_us, pk_us]
          by_cases e2 : nd = ld
          · have := hy1 e2
            exact ⟨rfl, rfl, by omega, by omega, fun z => absurd e2 z, fun _ => this⟩
          · have := hy2 e2
            exact ⟨rfl, rfl, by omega, by omega, fun _ => ⟨by omega, by omega⟩, fun z => absurd z e2⟩
        · rw [el_up_n e, el_up_n e, pk_un (by omega), pk_un (by omega)]
          by_cases e2 : o = ld
          · rw [e2, el_up_s, el_up_s, pk_us]
            rw [e2] at x1 x3
            exact ⟨x1, rfl, by omega, by omega, fun z => absurd rfl z, fun _ => rfl⟩
          · rw [el_up_n e2, el_up_n e2, pk_un (by omega)]
            exact ⟨x1, x2, by omega, by omega, x5, fun z => absurd z e2⟩
      have hLq := el_Lq_put (a1 := a1) (a2 := a2) hq (by omega) g1 g2 g3 g4 g5 w0 hE hnm (by rw [ecf]; exact hmaj)
      unfold wX_member_157
      rw [nI_clamp (by omega)]
      refine ⟨(vp_in_nI (by omega) (by omega)), nm_e ?_⟩
      refine el_spread hLq.1 hLq.2.1 hLq.2.2.1 hLq.2.2.2.2.2.2 hLq.2.2.2.2.2.1 (fun f1 w1' c3 c4 c5 c7 c8 c9 d10 c11 c12 c13 c14 c15 c16 c17 B1 C1 L1 P1 T1 X1 Y1 k1 k2 k3 k4 k5 k6 k7 => ?_)
      refine el_spread k1 k2 k3 hLq.2.2.2.2.2.2 k7 (fun f2 w2' d3 d4 d5 d7 d8 d9 d10' d11 d12 d13 d14 d15 d16 d17 B2 C2 L2 P2 T2 X2 Y2 r1 r2 r3 r4 r5 r6 r7 => ?_)
      obtain ⟨s1, s2⟩ := el_sp2 r1 r2 r3 hLq.2.2.2.1 hLq.2.2.2.2.1 hLq.2.2.2.2.2.2 k4 r4 k5 r5 r6 r7
      refine el_stL hup s1 hh (by omega) ?_
      intro f' w' h' b3 b4 b5 b6 e7 e8 e9 e10 e11 e12 e13 e14 e15 e16 e17 ld' G' M' B' C' L' T' t1 t2 t3 t4 t5 t6
      refine hp 1 f' w' h' b3 b4 b5 b6 e7 e8 e9 e10 e11 e12 e13 e14 e15 e16 e17 ld' G' M' B' C' L' T' ?_ ⟨fun i hi => (t2 i (by omega)).trans (el_ext_lo hi), by omega, fun o ho => Nat.le_trans (k4 o ho) (Nat.le_trans (r4 o ho) (t4 o ho))⟩
      rw [show K + 61 = K + 1 + 60 by omega]; exact t1
    dsimp only
    have lastP : ∀ {pst : Int32 → Prop} {e14' : Nat → Int32}, pst (nI (M + 1)) → wpX_lastOf pst (f, w, h, x, a1, a2, a3, a4, a5, a6, b7, b8, (upd b9 ld (nI (M + 1 - b'))), c10, a11, a12, b13, e14', (upd a15 (5 * ld + ld) (nI (M + 1))), a16, a17) (nI ld) := by
      intro pst e14' hh'
      unfold wpX_lastOf
      dsimp only
      rw [nI_clamp (by omega), pk_us, g3.1, nI_add, show b' + (M + 1 - b') = M + 1 by omega]
      exact ⟨(vp_in_nI (by omega) (by omega)), (vp_in_nI (by omega) (by omega)), hh'⟩
    refine lastP ?_
    rw [el_m5, nI_add, nI_clamp (by omega)]
    refine ⟨(vp_in_nI (by omega) (by omega)), nm_e (pk_eq nd ld (fun z => ?_) (fun z => ?_))⟩
    · refine lastP ?_
      exact fin (M + 1) (fun _ => rfl) (fun y => absurd z y)
    · exact fin 0 (fun y => absurd y z) (fun _ => rfl)
  have ask : ∀ (kd : Int32) (mm : Nat), mm < 32 → (kd = 4 ∧ ¬ fl = 0 ∧ mm = el_cf G M ||| 2 ^ nd ∨ kd = 5 ∧ fl = 0 ∧ mm = el_cf G M &&& (31 ^^^ 2 ^ nd) ∧ ¬ el_cf G M = 2 ^ nd) → wX_member_81 post (nI nd) fl (nI ld) (nI mm) f w h x a1 a2 a3 a4 a5 a6 a7 a8 a9 a10 a11 a12 a13 a14 a15 a16 a17 := by
    intro kd mm hmm hkd
    unfold wX_member_81
    refine el_reachedBy q2 ?_
    refine el_isMost rfl hmm (fun z => br_f (by decide) ?_) (fun z => br_t rfl (same _))
    rcases hkd with ⟨z1, z2, z3⟩ | ⟨z1, z2, z3, z4⟩
    · exact br_f z2 (go 4 mm hmm (Or.inl ⟨rfl, z3⟩) z)
    · exact br_t z2 (go 5 mm hmm (Or.inr ⟨rfl, z3, z4⟩) z)
  have hp2 : 2 ^ nd < 32 := Nat.pow_lt_pow_right (a := 2) (m := nd) (n := 5) (by omega) (by omega)
  have m46 : ∀ z0, wX_member_46 post (nI nd) fl (nI ld) (nI (el_cf G M)) (nI (2 ^ nd)) z0 f w h x a1 a2 a3 a4 a5 a6 a7 a8 a9 a10 a11 a12 a13 a14 a15 a16 a17 := by
    intro z0
    unfold wX_member_46
    refine br_c (fun _ => same _) (fun _ => ?_)
    refine pk_eq (el_cf G M) (2 ^ nd) (fun _ => same _) (fun zne => ?_)
    refine br_c (fun zf => ?_) (fun zf => ?_)
    · rw [← el_oneb nd hnd, el_clb _ hcf.1 nd hnd]
      exact ask 5 _ (el_cll _ hcf.1 nd hnd) (Or.inr ⟨rfl, zf, rfl, zne⟩)
    · rw [← el_oneb nd hnd, el_orb _ hcf.1 nd hnd]
      exact ask 4 _ (el_orl _ hcf.1 nd hnd) (Or.inl ⟨rfl, zf, rfl⟩)
  exact br_c (fun _ => m46 0) (fun _ => m46 1)
theorem el_init {post : St1 → Prop} (hp : ∀ (f w h' x : Int32) (b1 b2 b3 b4 b5 b6 b7 b8 b9 b10 b11 b12 b13 b14 b15 b16 b17 : Nat → Int32) (ld' : Nat) (G' : Nat → Nat → Int32) (M' : Nat) (B' C' L' T' : Nat → Nat), el_Top G' M' 60 B' C' L' T' ld' f w h' b1 b2 b3 b4 b7 b8 b9 b10 b11 b12 b13 b14 b15 b16 → (∀ m, m < 5 → b2 m = 0) → post (f, w, h', x, b1, b2, b3, b4, b5, b6, b7, b8, b9, b10, b11, b12, b13, b14, b15, b16, b17)) : wpX_init post 17 1850 (0, 0, 0, 0) := by
  unfold wpX_init
  dsimp only
  refine ⟨by decide, by decide, by decide, by decide, by decide, by decide, by decide, by decide, by decide, by decide, by decide, by decide, by decide, by decide, by decide, by decide, by decide, by decide, by decide, by decide, by decide, by decide, by decide, by decide, by decide, by decide, by decide, by decide, by decide, by decide, by decide, by decide, by decide, by decide, ?_⟩
  refine pk_loop (fun m i (s : (Nat → Int32) × (Nat → Int32) × (Nat → Int32) × (Nat → Int32)) => wX_init_139 post 17 1850 17 1850 0 0 (-1) 0 m (nI i) s.1 (fun _ => 0) (fun _ => 0) (fun _ => 0) s.2.1 (fun _ => 0) (fun _ => 0) (fun _ => 0) (fun _ => 0) (fun _ => 0) (fun _ => 0) s.2.2.1 s.2.2.2 (fun _ => 0) (fun _ => 0) (fun _ => 0) (fun _ => 0)) (fun i s => (∀ m, m < i → s.1 m = 1) ∧ (∀ m k, m < 5 → k < 15 → s.2.2.1 (15 * m + k) = (if k = 14 ∧ m < i then 31 else 0) ∧ s.2.2.2 (15 * m + k) = (if k = 14 ∧ m < i then 31 else 0))) 5 0 (fun _ => 0, fun _ => 0, fun _ => 0, fun _ => 0) (by omega) ⟨fun m hm => absurd hm (by omega), fun m k hm hk => by rw [if_neg (by omega)]; exact ⟨rfl, rfl⟩⟩ ?_ ?_
  · rintro m ⟨s1, s2, s3, s4⟩ ⟨g1, g2⟩
    dsimp only at g1 g2 ⊢
    unfold wX_init_139
    refine pk_le 5 5 (fun _ => ?_) (fun z => absurd z (by omega))
    have g3 : ∀ m k, m < 5 → k < 15 → s3 (15 * m + k) = el_s0 k ∧ s4 (15 * m + k) = el_s0 k := by
      intro m k hm hk
      obtain ⟨y1, y2⟩ := g2 m k hm hk
      have e : (if k = 14 ∧ m < 5 then (31 : Int32) else 0) = el_s0 k := by
        unfold el_s0
        by_cases z : k = 14
        · rw [if_pos ⟨z, hm⟩, if_pos z]
        · rw [if_neg (fun t => z t.1), if_neg z]
      rw [e] at y1 y2
      exact ⟨y1, y2⟩
    have hgt : ∀ i, el_gt (fun _ _ => (0 : Int32)) i = 0 := fun i => rfl
    have hWF : el_WF (fun _ _ => (0 : Int32)) 0 0 := ⟨by omega, by omega, rfl, fun i _ => ⟨rfl, Nat.le_refl _⟩, fun i hi => absurd hi (by omega), fun i hi => absurd hi (by omega)⟩
    have hcf0 : el_cf (fun _ _ => (0 : Int32)) 0 = 31 := by decide
    have hN : el_Nl (fun _ _ => (0 : Int32)) 0 0 (fun _ => 0) (fun _ => 0) (fun _ => 0) (fun _ => 0) (fun _ => 0) (fun _ => 0) (fun _ => 0) (fun _ => 0) (fun _ => 0) (fun _ => 0) s3 s4 := by
      refine ⟨hWF, fun n hn => ⟨rfl, rfl, rfl, rfl, by dsimp only; omega, fun i k z1 z2 => absurd (Nat.lt_of_lt_of_le z1 z2) (Nat.lt_irrefl 0), fun k hk => (g3 n k hn hk).1, fun k hk => (g3 n k hn hk).2, Or.inl rfl⟩, fun m hm => ⟨rfl, Nat.le_refl _⟩, fun m hm => Nat.le_refl _, fun m m' _ _ z => absurd z (by omega), fun i hi => ?_, fun m hm => Or.inl (Nat.zero_le _)⟩
      have e : i = 0 := by omega
      subst e
      rw [hcf0]
      show el_maj (fun v => true) 31
      unfold el_maj el_cnt
      decide
    refine el_stN (h := -1) (x := 0) (fun m hm => Or.inr (g1 m hm)) hN (fun m hm => Or.inl rfl) ⟨0, by omega, rfl, rfl, by show 0 ≤ 8; omega, fun i m hi => by rw [List.getElem?_nil] at hi; exact absurd hi.symm (Option.some_ne_none m)⟩ (by omega) ?_
    intro f' w' h' b3 b4 b5 b6 e7 e8 e9 e10 e11 e12 e13 e14 e15 e16 e17 ld' G' M' B' C' L' T' t1 t2 t3 t4 t5 t6
    exact hp f' w' h' 0 s1 _ b3 b4 b5 b6 e7 e8 e9 e10 e11 e12 e13 e14 e15 e16 e17 ld' G' M' B' C' L' T' t1 (fun _ _ => rfl)
  · rintro m i ⟨s1, s2, s3, s4⟩ hi ⟨g1, g2⟩ hk
    dsimp only at g1 g2 ⊢
    unfold wX_init_139
    refine pk_le 5 i (fun z => absurd z (by omega)) (fun _ => ?_)
    rw [el_m15, el_a14, nI_clamp (by omega), nI_clamp (by omega)]
    refine ⟨(vp_in_nI (by omega) (by omega)), nm_e ⟨(vp_in_nI (by omega) (by omega)), nm_e ⟨(vp_in_nI (by omega) (by omega)), nm_e ⟨(vp_in_nI (by omega) (by omega)), nm_e (nm_r (nI_1 i) (hk (upd s1 i 1, upd s2 i (-1), upd s3 (15 * i + 14) 31, upd s4 (15 * i + 14) 31) ⟨fun m hm => ?_, fun m k hm hk => ?_⟩))⟩⟩⟩⟩
    · dsimp only
      by_cases e : m = i
      · rw [e, pk_us]
      · rw [pk_un e]; exact g1 m (by omega)
    · dsimp only
      obtain ⟨y1, y2⟩ := g2 m k hm hk
      by_cases e : m = i ∧ k = 14
      · rw [e.1, e.2, pk_us, pk_us, if_pos ⟨rfl, by omega⟩]; exact ⟨rfl, rfl⟩
      · rw [pk_un (by omega), pk_un (by omega), y1, y2]
        have : (k = 14 ∧ m < i) ↔ (k = 14 ∧ m < i + 1) := by omega
        by_cases z : k = 14 ∧ m < i
        · rw [if_pos z, if_pos (this.mp z)]; exact ⟨rfl, rfl⟩
        · rw [if_neg z, if_neg (fun t => z (this.mpr t))]; exact ⟨rfl, rfl⟩
end
end
section
/-! faults finds nothing -/
section
variable {f w h x : Int32} {a1 a2 a3 a4 a5 a6 a7 a8 a9 a10 a11 a12 a13 a14 a15 a16 a17 : Nat → Int32} {G : Nat → Nat → Int32} {M K n o ld : Nat} {B C L T X Y : Nat → Nat}
theorem el_Top_Nl (hT : el_Top G M K B C L T ld f w h a1 a2 a3 a4 a7 a8 a9 a10 a11 a12 a13 a14 a15 a16) : el_Nl G M K B C L T a4 a7 a8 a9 a10 a11 a12 a13 ∧ el_Qu f w a16 [] ∧ (∀ m, m < 5 → (m = ld → a3 m = 1) ∧ (m ≠ ld → a3 m = 0)) := by
  obtain ⟨_, ⟨e, hN, hz, hQ⟩ | ⟨e, hh, ⟨X, Y, hq⟩, hd, _⟩⟩ := hT
  · exact ⟨hN, hQ, fun m hm => ⟨fun z => by omega, fun _ => hz m hm⟩⟩
  · have h7 := hq.1.2.2.2.2.2.2.1
    exact ⟨el_Nl_of hq, hq.2.2.1, fun m hm => ⟨fun z => by rw [z]; exact h7.1, fun z => h7.2 m hm z⟩⟩
theorem el_expect {post : St1 → Prop} (hp : post (f, w, h, 0, a1, a2, a3, a4, a5, a6, a7, a8, a9, a10, a11, a12, a13, a14, a15, a16, a17)) : wpX_expect post (f, w, h, 0, a1, a2, a3, a4, a5, a6, a7, a8, a9, a10, a11, a12, a13, a14, a15, a16, a17) 1 := by
  unfold wpX_expect
  exact br_f (by decide) (nm_r (e' := 0) (by decide) hp)
theorem el_areSame {post : Int32 → Prop} (hn : n < 5) (ho : o < 5) (he : ∀ k, k < 14 → a12 (15 * n + k) = a12 (15 * o + k)) (hp : post 1) : wpX_areSame post (f, w, h, x, a1, a2, a3, a4, a5, a6, a7, a8, a9, a10, a11, a12, a13, a14, a15, a16, a17) (nI n) (nI o) := by
  unfold wpX_areSame
  dsimp only
  refine pk_loop (σ := Unit) (fun m i _ => wX_areSame_2 post (nI n) (nI o) f w h x a1 a2 a3 a4 a5 a6 a7 a8 a9 a10 a11 a12 a13 a14 a15 a16 a17 m (nI i)) (fun _ _ => True) 14 0 () (by omega) trivial ?_ ?_
  · intro m _ _
    exact pk_le 14 14 (fun _ => hp) (fun z => absurd z (by omega))
  · intro m i _ hi _ hk
    refine pk_le 14 i (fun z => absurd z (by omega)) (fun _ => ?_)
    rw [el_m15, nI_add, nI_clamp (by omega), el_m15, nI_add, nI_clamp (by omega)]
    exact ⟨(vp_in_nI (by omega) (by omega)), (vp_in_nI (by omega) (by omega)), br_t (he i hi) (nm_r (nI_1 i) (hk () trivial))⟩
theorem el_isSameEntry {post : Int32 → Prop} {i bn bo : Nat} (hn : n < 5) (ho : o < 5) (hbn : a7 n = nI bn) (hbo : a7 o = nI bo) (h1 : bn < i) (h2 : bo < i) (h3 : i ≤ bn + 16) (h4 : i ≤ bo + 16) (he : ∀ k, k < 7 → a10 (112 * n + 7 * (i - bn - 1) + k) = a10 (112 * o + 7 * (i - bo - 1) + k)) (hp : post 1) : wpX_isSameEntry post (f, w, h, x, a1, a2, a3, a4, a5, a6, a7, a8, a9, a10, a11, a12, a13, a14, a15, a16, a17) (nI n) (nI o) (nI i) := by
  unfold wpX_isSameEntry
  dsimp only
  refine el_cellOf hn hbn h1 ?_
  refine el_cellOf ho hbo h2 ?_
  refine pk_loop (σ := Unit) (fun m j _ => wX_isSameEntry_19 post (nI (112 * n + 7 * (i - bn - 1))) (nI (112 * o + 7 * (i - bo - 1))) f w h x a1 a2 a3 a4 a5 a6 a7 a8 a9 a10 a11 a12 a13 a14 a15 a16 a17 m (nI j)) (fun _ _ => True) 7 0 () (by omega) trivial ?_ ?_
  · intro m _ _
    exact pk_le 7 7 (fun _ => hp) (fun z => absurd z (by omega))
  · intro m j _ hj _ hk
    refine pk_le 7 j (fun z => absurd z (by omega)) (fun _ => ?_)
    rw [nI_add, nI_clamp (by omega), nI_add, nI_clamp (by omega)]
    exact ⟨(vp_in_nI (by omega) (by omega)), (vp_in_nI (by omega) (by omega)), br_t (he j hj) (nm_r (nI_1 j) (hk () trivial))⟩
theorem el_compare {post : St1 → Prop} (hN : el_Nl G M K B C L T a4 a7 a8 a9 a10 a11 a12 a13) (hn : n < 5) (ho : o < 5) (hp : post (f, w, h, 0, a1, a2, a3, a4, a5, a6, a7, a8, a9, a10, a11, a12, a13, a14, a15, a16, a17)) : wpX_compare post (f, w, h, 0, a1, a2, a3, a4, a5, a6, a7, a8, a9, a10, a11, a12, a13, a14, a15, a16, a17) (nI n) (nI o) := by
  obtain ⟨q1, q2, q3, q4, q5, q6, q7⟩ := hN
  have dn := q2 n hn
  have dO := q2 o ho
  have bn := el_Nd_le dn
  have bo := el_Nd_le dO
  have hK := q1.1
  -- the loop over the places that both have
  have loop : ∀ (fr to : Nat), fr ≤ 1000000 → B n ≤ fr → B o ≤ fr → to ≤ L n → to ≤ L o → ∃ fu, wX_compare_64 post (nI n) (nI o) (nI to) fu (nI (fr + 1)) f w h 0 a1 a2 a3 a4 a5 a6 a7 a8 a9 a10 a11 a12 a13 a14 a15 a16 a17 := by
    intro fr to h0 h1 h2 h3 h4
    refine pk_loop (σ := Unit) (fun m i _ => wX_compare_64 post (nI n) (nI o) (nI to) m (nI i) f w h 0 a1 a2 a3 a4 a5 a6 a7 a8 a9 a10 a11 a12 a13 a14 a15 a16 a17) (fun i _ => fr < i) (max (fr + 1) (to + 1)) (fr + 1) () (by omega) (by omega) ?_ ?_
    · intro m _ hi
      unfold wX_compare_64
      rw [nI_clamp (by omega), nI_clamp (by omega), dn.2.2.2.1, dO.2.2.2.1]
      refine pk_lt to (max (fr + 1) (to + 1)) (fun _ => ⟨(vp_in_nI (by omega) (by omega)), (vp_in_nI (by omega) (by omega)), pk_eq (C n) (C o) (fun e => ?_) (fun _ => ?_)⟩) (fun z => absurd z (by omega))
      · refine el_areSame hn ho (fun k hk => ?_) (br_f (by decide) ?_)
        · rw [dn.2.2.2.2.2.2.1 k (by omega), dO.2.2.2.2.2.2.1 k (by omega), e]
        · unfold wX_compare_199 wX_compare_204
          exact el_expect hp
      · unfold wX_compare_199 wX_compare_204
        exact el_expect hp
    · intro m i _ hi hfi hk
      unfold wX_compare_64
      refine pk_lt to i (fun z => ?_) (fun hle => ?_)
      · rw [nI_clamp (by omega), nI_clamp (by omega), dn.2.2.2.1, dO.2.2.2.1]
        refine ⟨(vp_in_nI (by omega) (by omega)), (vp_in_nI (by omega) (by omega)), pk_eq (C n) (C o) (fun e => ?_) (fun _ => ?_)⟩
        · refine el_areSame hn ho (fun k hk => ?_) (br_f (by decide) ?_)
          · rw [dn.2.2.2.2.2.2.1 k (by omega), dO.2.2.2.2.2.2.1 k (by omega), e]
          · unfold wX_compare_199 wX_compare_204
            exact el_expect hp
        · unfold wX_compare_199 wX_compare_204
          exact el_expect hp
      · have go : wX_compare_64 post (nI n) (nI o) (nI to) m (nI (i + 1)) f w h 0 a1 a2 a3 a4 a5 a6 a7 a8 a9 a10 a11 a12 a13 a14 a15 a16 a17 := hk () (by omega)
        refine el_termAt hn dn (by omega) (by omega) ?_
        refine el_termAt ho dO (by omega) (by omega) ?_
        have c165 : wX_compare_165 post (wX_compare_64 post (nI n) (nI o) (nI to) m) (nI n) (nI o) (nI to) (nI i) 1 f w h 0 a1 a2 a3 a4 a5 a6 a7 a8 a9 a10 a11 a12 a13 a14 a15 a16 a17 := by
          unfold wX_compare_165
          exact el_expect (nm_r (nI_1 i) go)
        -- the same entry
        have same : (∀ k, k < 7 → a10 (112 * n + 7 * (i - B n - 1) + k) = a10 (112 * o + 7 * (i - B o - 1) + k)) → wX_compare_135 post (wX_compare_64 post (nI n) (nI o) (nI to) m) (nI n) (nI o) (nI to) (nI i) 1 f w h 0 a1 a2 a3 a4 a5 a6 a7 a8 a9 a10 a11 a12 a13 a14 a15 a16 a17 := by
          intro he
          unfold wX_compare_135 wX_compare_140
          refine el_expect (br_f (by decide) ?_)
          refine el_isSameEntry hn ho dn.1 dO.1 (by omega) (by omega) (by omega) (by omega) he (br_f (by decide) ?_)
          unfold wX_compare_160
          exact c165
        have eq1 : (∀ k, k < 7 → a10 (112 * n + 7 * (i - B n - 1) + k) = a10 (112 * o + 7 * (i - B o - 1) + k)) → wX_compare_93 post (wX_compare_64 post (nI n) (nI o) (nI to) m) (nI n) (nI o) (nI to) (nI i) 1 f w h 0 a1 a2 a3 a4 a5 a6 a7 a8 a9 a10 a11 a12 a13 a14 a15 a16 a17 := by
          intro he
          have s1 := same he
          have s2 : ∀ z0, wX_compare_122 post (wX_compare_64 post (nI n) (nI o) (nI to) m) (nI n) (nI o) (nI to) (nI i) 1 z0 f w h 0 a1 a2 a3 a4 a5 a6 a7 a8 a9 a10 a11 a12 a13 a14 a15 a16 a17 := by
            intro z0
            unfold wX_compare_122
            exact br_f (by decide) s1
          unfold wX_compare_93 wX_compare_121
          exact ⟨(vp_in_nI (by omega) (by omega)), br_c (fun _ => s2 0) (fun _ => ⟨(vp_in_nI (by omega) (by omega)), br_c (fun _ => s2 0) (fun _ => s2 1)⟩)⟩
        have ne0 : ¬ (i ≤ C n ∧ i ≤ C o) → wX_compare_93 post (wX_compare_64 post (nI n) (nI o) (nI to) m) (nI n) (nI o) (nI to) (nI i) 0 f w h 0 a1 a2 a3 a4 a5 a6 a7 a8 a9 a10 a11 a12 a13 a14 a15 a16 a17 := by
          intro hno
          have s1 : wX_compare_121 post (wX_compare_64 post (nI n) (nI o) (nI to) m) (nI n) (nI o) (nI to) (nI i) 0 f w h 0 a1 a2 a3 a4 a5 a6 a7 a8 a9 a10 a11 a12 a13 a14 a15 a16 a17 := by
            unfold wX_compare_121 wX_compare_122
            refine br_t rfl (br_t rfl ?_)
            unfold wX_compare_135 wX_compare_140
            refine el_expect (br_t rfl ?_)
            unfold wX_compare_160
            exact c165
          unfold wX_compare_93
          rw [nI_clamp (by omega), nI_clamp (by omega), dn.2.2.2.1, dO.2.2.2.1]
          refine ⟨(vp_in_nI (by omega) (by omega)), pk_lt (C n) i (fun _ => s1) (fun y1 => ⟨(vp_in_nI (by omega) (by omega)), pk_lt (C o) i (fun _ => s1) (fun y2 => absurd ⟨y1, y2⟩ hno)⟩)⟩
        have gtS : ∀ j, j ≤ M → G j 0 = nI (el_gt G j) ∧ el_gt G j ≤ K := q1.2.2.2.1
        by_cases z1 : i ≤ C n
        · by_cases z2 : i ≤ C o
          · rw [show min i (C n) = i by omega, show min i (C o) = i by omega]
            refine br_t rfl (eq1 (fun k hk => ?_))
            rw [el_Nd_lo dn (by omega) z1 hk, el_Nd_lo dO (by omega) z2 hk]
          · have t := el_Nd_tl dO (by omega)
            have t5 := t.2.2.2.2 (by omega)
            rw [show min i (C n) = i by omega, show min i (C o) = C o by omega, (gtS i (by omega)).1, (gtS (C o) (by omega)).1]
            rw [show C o + 1 = i by omega] at t5
            have u1 := (gtS i (by omega)).2
            have u2 := (gtS (C o) (by omega)).2
            refine br_f (fun e => ?_) (ne0 (fun y => z2 y.2))
            have := (nI_eq (by omega) (by omega)).mp e
            omega
        · have tn := el_Nd_tl dn (by omega)
          by_cases z2 : i ≤ C o
          · have t5 := tn.2.2.2.2 (by omega)
            rw [show min i (C n) = C n by omega, show min i (C o) = i by omega, (gtS i (by omega)).1, (gtS (C n) (by omega)).1]
            rw [show C n + 1 = i by omega] at t5
            have u1 := (gtS i (by omega)).2
            have u2 := (gtS (C n) (by omega)).2
            refine br_f (fun e => ?_) (ne0 (fun y => z1 y.1))
            have := (nI_eq (by omega) (by omega)).mp e
            omega
          · have tO := el_Nd_tl dO (by omega)
            have e : n = o := q5 n o hn ho (by omega) (by omega) (by omega)
            subst e
            exact br_t rfl (eq1 (fun k _ => rfl))
  have c30 : ∀ fr, B n ≤ fr → B o ≤ fr → fr ≤ 1000000 → wX_compare_30 post (nI n) (nI o) (nI fr) f w h 0 a1 a2 a3 a4 a5 a6 a7 a8 a9 a10 a11 a12 a13 a14 a15 a16 a17 := by
    intro fr h1 h2 h3
    unfold wX_compare_30
    refine el_lastOf hn dn ?_
    refine el_lastOf ho dO ?_
    refine pk_le (L o) (L n) (fun z => ?_) (fun z => ?_)
    · refine el_lastOf ho dO (nm_r (nI_1 fr) ?_)
      exact loop fr (L o) h3 h1 h2 z (Nat.le_refl _)
    · refine el_lastOf hn dn (nm_r (nI_1 fr) ?_)
      exact loop fr (L n) h3 h1 h2 (Nat.le_refl _) (by omega)
  unfold wpX_compare
  dsimp only
  rw [nI_clamp (by omega), nI_clamp (by omega), dn.1, dO.1]
  exact ⟨(vp_in_nI (by omega) (by omega)), (vp_in_nI (by omega) (by omega)), pk_le (B n) (B o) (fun z => ⟨(vp_in_nI (by omega) (by omega)), c30 _ z (Nat.le_refl _) (by omega)⟩) (fun z => ⟨(vp_in_nI (by omega) (by omega)), c30 _ (Nat.le_refl _) (by omega) (by omega)⟩)⟩
theorem el_faults {post : Int32 → St1 → Prop} (hT : el_Top G M K B C L T ld f w h a1 a2 a3 a4 a7 a8 a9 a10 a11 a12 a13 a14 a15 a16) (hp : post 0 (f, w, h, 0, a1, a2, a3, a4, a5, a6, a7, a8, a9, a10, a11, a12, a13, a14, a15, a16, a17)) : wpX_faults post (f, w, h, x, a1, a2, a3, a4, a5, a6, a7, a8, a9, a10, a11, a12, a13, a14, a15, a16, a17) := by
  obtain ⟨hN, hQ, h3⟩ := el_Top_Nl hT
  obtain ⟨q1, q2, q3, q4, q5, q6, q7⟩ := id hN
  have hK := q1.1
  obtain ⟨fi, _, _, hw0, _⟩ := hQ
  have hw0 : w = 0 := hw0
  unfold wpX_faults
  dsimp only
  have f159 : wX_faults_159 post 1 f w h 0 a1 a2 a3 a4 a5 a6 a7 a8 a9 a10 a11 a12 a13 a14 a15 a16 a17 := by
    unfold wX_faults_159
    refine el_expect ?_
    refine pk_loop (σ := Unit) (fun m i _ => wX_faults_164 post m (nI i) f w h 0 a1 a2 a3 a4 a5 a6 a7 a8 a9 a10 a11 a12 a13 a14 a15 a16 a17) (fun _ _ => True) 25 0 () (by omega) trivial ?_ ?_
    · intro m _ _
      exact pk_le 25 25 (fun _ => hp) (fun z => absurd z (by omega))
    · intro m i _ hi _ hk
      unfold wX_faults_164
      refine pk_le 25 i (fun z => absurd z (by omega)) (fun _ => ⟨by decide, by decide, ?_⟩)
      have e1 : nI i / 5 = nI (i / 5) := pk_div (d := 5) (by omega) (by omega) (by omega)
      have e2 : nI i - nI i / 5 * 5 = nI (i % 5) := pk_rem (d := 5) (by omega) (by omega) (by omega)
      rw [e2, e1]
      exact el_compare hN (by omega) (Nat.mod_lt _ (by omega)) (nm_r (nI_1 i) (hk () trivial))
  refine pk_loop (σ := Unit) (fun m i _ => wX_faults_9 post m (nI (if ld < i then 1 else 0)) (nI i) f w h 0 a1 a2 a3 a4 a5 a6 a7 a8 a9 a10 a11 a12 a13 a14 a15 a16 a17) (fun _ _ => True) 5 0 () (by omega) trivial ?_ ?_
  · intro m _ _
    unfold wX_faults_9
    refine pk_le 5 5 (fun _ => ?_) (fun z => absurd z (by omega))
    refine pk_le 2 (if ld < 5 then 1 else 0) (fun z => ?_) (fun _ => ?_) (ha := by omega) (hb := by split <;> omega)
    · split at z <;> omega
    · exact br_t hw0 f159
  · intro m i _ hi _ hk
    have hd := q2 i hi
    have hb := el_Nd_le hd
    have go : wX_faults_9 post m (nI (if ld < i + 1 then 1 else 0)) (nI (i + 1)) f w h 0 a1 a2 a3 a4 a5 a6 a7 a8 a9 a10 a11 a12 a13 a14 a15 a16 a17 := hk () trivial
    have f67 : wX_faults_67 post (wX_faults_9 post m) (nI (if ld < i + 1 then 1 else 0)) (nI i) 1 f w h 0 a1 a2 a3 a4 a5 a6 a7 a8 a9 a10 a11 a12 a13 a14 a15 a16 a17 := by
      unfold wX_faults_67
      refine el_expect ?_
      dsimp only
      rw [nI_clamp (by omega), hd.1, nI_1]
      refine ⟨(vp_in_nI (by omega) (by omega)), nm_e ?_⟩
      refine pk_loop (σ := Unit) (fun m' j _ => wX_faults_79 post (wX_faults_9 post m) (nI (if ld < i + 1 then 1 else 0)) (nI i) m' (nI j) f w h 0 a1 a2 a3 a4 a5 a6 a7 a8 a9 a10 a11 a12 a13 a14 a15 a16 a17) (fun j _ => B i < j) (L i + 1) (B i + 1) () (by omega) (by omega) ?_ ?_
      · intro m' _ hj
        unfold wX_faults_79
        refine el_lastOf hi hd ?_
        exact pk_lt (L i) (L i + 1) (fun _ => nm_r (nI_1 i) go) (fun z => absurd z (by omega))
      · intro m' j _ hj hbj hk'
        have gtS : ∀ j, j ≤ M → G j 0 = nI (el_gt G j) ∧ el_gt G j ≤ K := q1.2.2.2.1
        have v1 := gtS (min j (C i)) (by omega)
        have v2 := gtS (min (j - 1) (C i)) (by omega)
        have m1 := el_wf_gt q1 (show min (j - 1) (C i) ≤ min j (C i) by omega) (by omega)
        have m2 := el_wf_gt q1 (show min j (C i) ≤ C i by omega) (by omega)
        have m3 := q4 i hi
        have m4 := (q3 i hi).2
        unfold wX_faults_79
        refine el_lastOf hi hd ?_
        refine pk_lt (L i) j (fun z => absurd z (by omega)) (fun _ => ?_)
        refine el_termAt hi hd (by omega) (by omega) ?_
        rw [el_s1 (by omega)]
        refine el_termAt hi hd (by omega) (by omega) ?_
        rw [v1.1, v2.1]
        refine pk_lt (el_gt G (min j (C i))) (el_gt G (min (j - 1) (C i))) (fun z => absurd z (by omega)) (fun _ => ?_)
        refine el_termAt hi hd (by omega) (by omega) ⟨(vp_in_nI (by omega) (by omega)), ?_⟩
        rw [nI_clamp (by omega), (q3 i hi).1, v1.1]
        refine pk_lt (T i) (el_gt G (min j (C i))) (fun z => absurd z (by omega)) (fun _ => ?_)
        unfold wX_faults_126
        exact el_expect (nm_r (nI_1 j) (hk' () (by omega)))
    have f30 : ∀ z0 z1 : Nat, z1 + z0 = (if ld < i + 1 then 1 else 0) → wX_faults_30 post (wX_faults_9 post m) (nI i) (nI z0) (nI z1) f w h 0 a1 a2 a3 a4 a5 a6 a7 a8 a9 a10 a11 a12 a13 a14 a15 a16 a17 := by
      intro z0 z1 e
      unfold wX_faults_30
      refine nm_r (by rw [nI_add, e]) ⟨(vp_in_nI (by omega) (by omega)), (vp_in_nI (by omega) (by omega)), ?_⟩
      rw [nI_clamp (by omega), hd.1, hd.2.2.2.1]
      refine pk_lt (C i) (B i) (fun z => absurd z (by omega)) (fun _ => ⟨(vp_in_nI (by omega) (by omega)), ?_⟩)
      refine el_lastOf hi hd ?_
      exact pk_lt (L i) (C i) (fun z => absurd z (by omega)) (fun _ => f67)
    unfold wX_faults_9
    refine pk_le 5 i (fun z => absurd z (by omega)) (fun _ => ⟨(vp_in_nI (by omega) (by omega)), ?_⟩)
    rw [nI_clamp (by omega)]
    by_cases e : i = ld
    · refine br_t ((h3 i hi).1 e) (f30 1 (if ld < i then 1 else 0) ?_)
      rw [if_neg (by omega), if_pos (by omega)]
    · refine br_f (by rw [(h3 i hi).2 e]; decide) (f30 0 (if ld < i then 1 else 0) ?_)
      by_cases y : ld < i
      · rw [if_pos y, if_pos (by omega)]
      · rw [if_neg y, if_neg (by omega)]
end
end
section
/-! what the law reads; compact -/
theorem el_isKey {post : Int32 → Prop} {k : Nat} (hk : k < 6) (hp : post 1) : wpX_isKey post () (nI k) := by
  unfold wpX_isKey
  exact br_f (nI_pos (by omega)) (pk_le 6 k (fun z => absurd z (by omega)) (fun _ => hp))
theorem el_isSession {post : Int32 → Prop} {k : Nat} (hk : k < 4) (hp : post 1) : wpX_isSession post () (nI k) := by
  unfold wpX_isSession
  exact br_f (nI_pos (by omega)) (pk_le 4 k (fun z => absurd z (by omega)) (fun _ => hp))
section
variable {f w h x : Int32} {a1 a2 a3 a4 a5 a6 a7 a8 a9 a10 a11 a12 a13 a14 a15 a16 a17 : Nat → Int32} {G : Nat → Nat → Int32} {M K n o ld : Nat} {B C L T X Y : Nat → Nat}
theorem el_leader {post : Int32 → Prop} (hT : el_Top G M K B C L T ld f w h a1 a2 a3 a4 a7 a8 a9 a10 a11 a12 a13 a14 a15 a16) (h5 : ld = 5 → post (-2)) (hl : ld < 5 → post (nI ld)) : wpX_leader post (f, w, h, x, a1, a2, a3, a4, a5, a6, a7, a8, a9, a10, a11, a12, a13, a14, a15, a16, a17) := by
  unfold wpX_leader
  dsimp only
  exact el_ldIs hT (fun e => br_f (by decide) (h5 e)) (fun e => br_t (nI_pos' (by omega)) (hl e))
theorem el_get {post : Int32 → Prop} {k : Nat} (hT : el_Top G M K B C L T ld f w h a1 a2 a3 a4 a7 a8 a9 a10 a11 a12 a13 a14 a15 a16) (hk : k < 6) (h5 : ld = 5 → post 0) (hl : ld < 5 → post (el_ap G M k)) : wpX_get post (f, w, h, x, a1, a2, a3, a4, a5, a6, a7, a8, a9, a10, a11, a12, a13, a14, a15, a16, a17) (nI k) := by
  obtain ⟨_, hC, hM⟩ := el_TopC hT
  unfold wpX_get
  dsimp only
  refine el_ldIs hT (fun e => el_isKey hk (br_f (by decide) (br_t (by decide) (h5 e)))) (fun e => el_isKey hk (br_f (by decide) (br_f (nI_pos (by omega)) ?_)))
  rw [el_m15, nI_add, nI_clamp (by omega), (hC ld e).2.2 k (by omega), hM e]
  exact ⟨(vp_in_nI (by omega) (by omega)), hl e⟩
theorem el_local {post : Int32 → Prop} {k : Nat} (hn : n < 5) (hk : k < 6) (hp : post (a12 (15 * n + k))) : wpX_local post (f, w, h, x, a1, a2, a3, a4, a5, a6, a7, a8, a9, a10, a11, a12, a13, a14, a15, a16, a17) (nI n) (nI k) := by
  unfold wpX_local
  dsimp only
  refine el_isNode hn (br_f (by decide) (el_isKey hk (br_f (by decide) ?_)))
  rw [el_m15, nI_add, nI_clamp (by omega)]
  exact ⟨(vp_in_nI (by omega) (by omega)), hp⟩
theorem el_lastNumber {post : Int32 → Prop} {k : Nat} (hn : n < 5) (hk : k < 4) (hp : post (a12 (15 * n + (6 + k)))) : wpX_lastNumber post (f, w, h, x, a1, a2, a3, a4, a5, a6, a7, a8, a9, a10, a11, a12, a13, a14, a15, a16, a17) (nI n) (nI k) := by
  unfold wpX_lastNumber
  dsimp only
  refine el_isNode hn (br_f (by decide) (el_isSession hk (br_f (by decide) ?_)))
  rw [el_m15, el_a6, nI_add, nI_clamp (by omega), Nat.add_assoc]
  exact ⟨(vp_in_nI (by omega) (by omega)), hp⟩
theorem el_same {post : Int32 → Prop} (hn : n < 5) (ho : o < 5) (he : ∀ k, k < 14 → a12 (15 * n + k) = a12 (15 * o + k)) (hp : post 1) : wpX_same post (f, w, h, x, a1, a2, a3, a4, a5, a6, a7, a8, a9, a10, a11, a12, a13, a14, a15, a16, a17) (nI n) (nI o) := by
  unfold wpX_same
  dsimp only
  exact el_isNode hn (br_f (by decide) (el_isNode ho (br_f (by decide) (el_areSame hn ho he (br_f (by decide) hp)))))
theorem el_isUp {post : Int32 → Prop} (hn : n < 5) (h0 : a1 n = 0 → post 0) (h1 : ¬ a1 n = 0 → post 1) : wpX_isUp post (f, w, h, x, a1, a2, a3, a4, a5, a6, a7, a8, a9, a10, a11, a12, a13, a14, a15, a16, a17) (nI n) := by
  unfold wpX_isUp
  dsimp only
  rw [nI_clamp (by omega)]
  exact el_isNode hn (br_f (by decide) ⟨(vp_in_nI (by omega) (by omega)), br_c h0 h1⟩)
theorem el_isMember {post : Int32 → Prop} (hT : el_Top G M K B C L T ld f w h a1 a2 a3 a4 a7 a8 a9 a10 a11 a12 a13 a14 a15 a16) (hld : ld < 5) (hn : n < 5) (h0 : (el_cf G M).testBit n = false → post 0) (h1 : (el_cf G M).testBit n = true → post 1) : wpX_isMember post (f, w, h, x, a1, a2, a3, a4, a5, a6, a7, a8, a9, a10, a11, a12, a13, a14, a15, a16, a17) (nI n) := by
  obtain ⟨hw, hC, hM⟩ := el_TopC hT
  have hcf := el_wf_cf hw (Nat.le_refl M)
  have hb : ∀ m, m < 5 → C m ≤ 1000000 := fun m hm => by have := (hC m hm).1; have := hw.2.1; have := hw.1; omega
  unfold wpX_isMember
  dsimp only
  refine el_isNode hn (br_f (by decide) ?_)
  refine pk_loop (fun m i (s : Int32) => wX_isMember_13 post (nI n) f w h x a1 a2 a3 a4 a5 a6 a7 a8 a9 a10 a11 a12 a13 a14 a15 a16 a17 m s (nI i)) (fun i s => ∃ bt : Nat, s = nI bt ∧ bt < 5 ∧ ∀ m, m < i → m < 5 → C m ≤ C bt) 5 1 _ (by omega) ⟨0, rfl, by omega, fun m hm _ => by rw [show m = 0 by omega]; exact Nat.le_refl _⟩ ?_ ?_
  · rintro m s ⟨bt, rfl, b1, b2⟩
    refine pk_le 5 5 (fun _ => ?_) (fun z => absurd z (by omega))
    have e : C bt = M := by
      have := b2 ld hld hld
      have := (hC bt b1).1
      have := hM hld
      omega
    rw [el_m15, el_a14, nI_clamp (by omega), (hC bt b1).2.2 14 (by omega), e, hcf.2.2, el_bt _ hcf.1 n hn]
    refine ⟨(vp_in_nI (by omega) (by omega)), ?_⟩
    cases y : (el_cf G M).testBit n
    · exact h0 y
    · exact h1 y
  · rintro m i s hi ⟨bt, rfl, b1, b2⟩ hk
    refine pk_le 5 i (fun z => absurd z (by omega)) (fun _ => ?_)
    have u1 := hb i hi
    have u2 := hb bt b1
    rw [nI_clamp (by omega), nI_clamp (by omega), (hC i hi).2.1, (hC bt b1).2.1]
    refine ⟨(vp_in_nI (by omega) (by omega)), (vp_in_nI (by omega) (by omega)), pk_le (C i) (C bt) (fun z => nm_r (nI_1 i) (hk _ ⟨bt, rfl, b1, fun m hm hm5 => ?_⟩)) (fun z => nm_r (nI_1 i) (hk _ ⟨i, rfl, hi, fun m hm hm5 => ?_⟩))⟩
    · by_cases e : m = i
      · rw [e]; exact z
      · exact b2 m (by omega) hm5
    · by_cases e : m = i
      · rw [e]; exact Nat.le_refl _
      · have := b2 m (by omega) hm5; omega
theorem el_sound {post : Int32 → St1 → Prop} (hT : el_Top G M K B C L T ld f w h a1 a2 a3 a4 a7 a8 a9 a10 a11 a12 a13 a14 a15 a16) (hp : post 1 (f, w, h, 0, a1, a2, a3, a4, a5, a6, a7, a8, a9, a10, a11, a12, a13, a14, a15, a16, a17)) : wpL_sound post (f, w, h, x, a1, a2, a3, a4, a5, a6, a7, a8, a9, a10, a11, a12, a13, a14, a15, a16, a17) := by
  obtain ⟨_, hC, hM⟩ := el_TopC hT
  unfold wpL_sound
  dsimp only
  refine el_faults hT (br_t rfl ?_)
  refine el_leader hT (fun e => br_f (by decide) hp) (fun e => br_t (nI_pos' (by omega)) ?_)
  refine pk_loop (σ := Unit) (fun m i _ => wL_sound_22 post (nI ld) f w h 0 a1 a2 a3 a4 a5 a6 a7 a8 a9 a10 a11 a12 a13 a14 a15 a16 a17 m (nI i)) (fun _ _ => True) 6 0 () (by omega) trivial ?_ ?_
  · intro m _ _
    exact pk_le 6 6 (fun _ => hp) (fun z => absurd z (by omega))
  · intro m i _ hi _ hk
    unfold wL_sound_22
    refine pk_le 6 i (fun z => absurd z (by omega)) (fun _ => ?_)
    refine el_get hT hi (fun z => by omega) (fun _ => ?_)
    refine el_local e hi ?_
    rw [(hC ld e).2.2 i (by omega), hM e]
    exact br_t rfl (nm_r (nI_1 i) (hk () trivial))
theorem el_compact {post : St1 → Prop} (hT : el_Top G M K B C L T ld f w h a1 a2 a3 a4 a7 a8 a9 a10 a11 a12 a13 a14 a15 a16)
    (hp : ∀ (b7 b8 b9 b10 b13 : Nat → Int32) (B' : Nat → Nat), el_Top G M K B' C L T ld f w h a1 a2 a3 a4 b7 b8 b9 b10 a11 a12 b13 a14 a15 a16 → post (f, w, h, x, a1, a2, a3, a4, a5, a6, b7, b8, b9, b10, a11, a12, b13, a14, a15, a16, a17)) : wpX_compact post (f, w, h, x, a1, a2, a3, a4, a5, a6, a7, a8, a9, a10, a11, a12, a13, a14, a15, a16, a17) := by
  unfold wpX_compact
  dsimp only
  refine pk_loop (fun m i (s : (Nat → Int32) × (Nat → Int32) × (Nat → Int32) × (Nat → Int32) × (Nat → Int32)) => wX_compact_2 post m (nI i) f w h x a1 a2 a3 a4 a5 a6 s.1 s.2.1 s.2.2.1 s.2.2.2.1 a11 a12 s.2.2.2.2 a14 a15 a16 a17) (fun i s => ∃ B' : Nat → Nat, el_Top G M K B' C L T ld f w h a1 a2 a3 a4 s.1 s.2.1 s.2.2.1 s.2.2.2.1 a11 a12 s.2.2.2.2 a14 a15 a16) 5 0 (a7, a8, a9, a10, a13) (by omega) ⟨B, hT⟩ ?_ ?_
  · rintro m ⟨s1, s2, s3, s4, s5⟩ ⟨B', g⟩
    exact pk_le 5 5 (fun _ => hp _ _ _ _ _ B' g) (fun z => absurd z (by omega))
  · rintro m i ⟨s1, s2, s3, s4, s5⟩ hi ⟨B', g⟩ hk
    dsimp only at g ⊢
    unfold wX_compact_2
    refine pk_le 5 i (fun z => absurd z (by omega)) (fun _ => ?_)
    have hN := (el_Top_Nl g).1
    refine el_fold hi (hN.2.1 i hi) (fun b7 b8 b9 b10 b13 k1 k2 _ => nm_r (nI_1 i) (hk (b7, b8, b9, b10, b13) ⟨el_up B' i (C i), ?_⟩))
    have hL : el_LG G M (el_up B' i (C i)) C L C b7 b8 b9 b10 a11 a12 b13 := by
      intro m hm
      by_cases e : m = i
      · rw [e, el_up_s]; exact k1
      · rw [el_up_n e]; exact el_Nd_Fr (hN.2.1 m hm) k2 e
    obtain ⟨hup, ⟨e, hN', hz, hQ⟩ | ⟨e, hh, ⟨X, Y, hq⟩, hd, hnr⟩⟩ := g
    · exact ⟨hup, Or.inl ⟨e, ⟨hN'.1, hL, hN'.2.2⟩, hz, hQ⟩⟩
    · refine ⟨hup, Or.inr ⟨e, hh, ⟨X, Y, ?_⟩, hd, hnr⟩⟩
      exact ⟨⟨hq.1.1, hq.1.2.1, hL, hq.1.2.2.2⟩, hq.2⟩
end
end
section
/-! turns; the law's picture of the groups -/
theorem el_gsh : ∀ n, n < 5 → (((2 * nI n) &&& 31).toBitVec.smod 32).toNat = 2 * n := by decide +kernel
theorem el_gset : ∀ y, y < 1024 → ∀ n, n < 5 → ∀ g, g < 3 → (nI y &&& (((3 : Int32) <<< ((2 * nI n) &&& 31)) ^^^ (-1))) ||| (nI g <<< ((2 * nI n) &&& 31)) = nI (y - y / 4 ^ n % 4 * 4 ^ n + g * 4 ^ n) := by decide +kernel
theorem el_gfld : ∀ y, y < 1024 → ∀ n, n < 5 → ∀ g, g < 3 → y - y / 4 ^ n % 4 * 4 ^ n + g * 4 ^ n < 1024 ∧ ∀ m, m < 5 → (y - y / 4 ^ n % 4 * 4 ^ n + g * 4 ^ n) / 4 ^ m % 4 = (if m = n then g else y / 4 ^ m % 4) := by decide +kernel
/-- the law's groups are the class's -/
def el_Gp (x2 : Int32) (a2 : Nat → Int32) : Prop := ∃ y : Nat, y < 1024 ∧ x2 = nI y ∧ ∀ n, n < 5 → a2 n = nI (y / 4 ^ n % 4)
theorem el_Gp_get {x2 : Int32} {a2 : Nat → Int32} (h : el_Gp x2 a2) {n : Nat} (hn : n < 5) : (x2 >>> ((2 * nI n) &&& 31)) &&& 3 = a2 n := by
  obtain ⟨y, hy, rfl, hg⟩ := h
  rw [pk_shrN (by omega) _ (2 * n) (el_gsh n hn), pk_andN (by have := Nat.div_le_self y (2 ^ (2 * n)); omega) 2 (by decide), hg n hn, Nat.pow_mul]
theorem el_Gp_set {x2 : Int32} {a2 : Nat → Int32} (h : el_Gp x2 a2) {n g : Nat} (hn : n < 5) (hg : g < 3) : el_Gp ((x2 &&& (((3 : Int32) <<< ((2 * nI n) &&& 31)) ^^^ (-1))) ||| (nI g <<< ((2 * nI n) &&& 31))) (upd a2 n (nI g)) := by
  obtain ⟨y, hy, rfl, hgr⟩ := h
  obtain ⟨k1, k2⟩ := el_gfld y hy n hn g hg
  refine ⟨_, k1, el_gset y hy n hn g hg, fun m hm => ?_⟩
  rw [k2 m hm]
  by_cases e : m = n
  · rw [e, pk_us, if_pos rfl]
  · rw [pk_un e, if_neg e]; exact hgr m hm
theorem el_Gp_0 {a2 : Nat → Int32} (h : ∀ m, m < 5 → a2 m = 0) : el_Gp 0 a2 := by
  refine ⟨0, by omega, rfl, fun n hn => ?_⟩
  rw [Nat.zero_div, Nat.zero_mod]; exact h n hn
/-- the number of a turn's command -/
def el_nu (x4 x3 : Int32) : Int32 := (1 + (x3 / 2)) - ((x4 >>> ((16 : Int32) &&& 31)) &&& 3)
theorem el_nu40 {x4 : Int32} {i : Nat} (hi : i < 40) : el_nu x4 (nI (2 * i)) ≤ 40 := by
  have e : nI (2 * i) / 2 = nI i := by
    have : nI (2 * i) / nI 2 = nI (2 * i / 2) := pk_div (by omega) (by omega) (by omega)
    rw [show 2 * i / 2 = i by omega] at this
    exact this
  obtain ⟨j, hj, ej⟩ := pk_andE (x4 >>> ((16 : Int32) &&& 31)) (m := 3) 2 (by decide)
  unfold el_nu
  rw [e, ej]
  have e1 : 1 + nI i = nI (1 + i) := nI_add 1 i
  rw [e1]
  have hj4 : j < 4 := hj
  refine Int32.le_iff_toInt_le.mpr ?_
  rw [pk_sub_toInt (by omega) (by omega)]
  have : (40 : Int32).toInt = 40 := by decide
  rw [this]
  omega
theorem el_mod {x m : Int32} (k d : Nat) (hm : m.toBitVec.toNat = 2 ^ k - 1) (hk : k ≤ 31) (hd : 0 < d) (hd2 : d < 2 ^ 31) : ∃ j : Nat, j < d ∧ (x &&& m) - (x &&& m) / nI d * nI d = nI j := by
  obtain ⟨j, hj, ej⟩ := pk_andE x (m := m) k hm
  have h2 : 2 ^ k ≤ 2 ^ 31 := Nat.pow_le_pow_right (by omega) hk
  refine ⟨j % d, Nat.mod_lt _ hd, ?_⟩
  rw [ej]
  exact pk_rem (by omega) hd hd2
section
variable {f w h x x4 y : Int32} {a1 a2 a3 a4 a5 a6 a7 a8 a9 a10 a11 a12 a13 a14 a15 a16 a17 : Nat → Int32} {G : Nat → Nat → Int32} {M K n o ld kd nd cd : Nat} {B C L T X Y : Nat → Nat} {x3 : Int32}
/-- stop, start, move, member -/
theorem el_turnA {post : Int32 → St1 → Prop} (hT : el_Top G M K B C L T ld f w h a1 a2 a3 a4 a7 a8 a9 a10 a11 a12 a13 a14 a15 a16) (hK : K + 61 ≤ 1000000) (ek : (x4 &&& 255) - (x4 &&& 255) / 20 * 20 = nI kd) (hkd : kd < 11) (en : ((x4 >>> ((8 : Int32) &&& 31)) &&& 255) - ((x4 >>> ((8 : Int32) &&& 31)) &&& 255) / 5 * 5 = nI nd) (hnd : nd < 5)
    (hp : ∀ (r f w h' : Int32) (b1 b2 b3 b4 b5 b6 b7 b8 b9 b10 b11 b12 b13 b14 b15 b16 b17 : Nat → Int32) (ld' : Nat) (G' : Nat → Nat → Int32) (M' : Nat) (B' C' L' T' : Nat → Nat), el_Top G' M' (K + 61) B' C' L' T' ld' f w h' b1 b2 b3 b4 b7 b8 b9 b10 b11 b12 b13 b14 b15 b16 → el_Rel G M C G' M' C' → ((kd < 6 ∨ 9 ≤ kd) ∧ b2 = a2 ∨ (6 ≤ kd ∧ kd < 9 ∧ (((x4 &&& 196608) = 0 ∧ ∃ g, g < 3 ∧ 1 + ((x4 >>> ((18 : Int32) &&& 31)) &&& 1) = nI g ∧ b2 = upd a2 nd (nI g)) ∨ (¬ (x4 &&& 196608) = 0 ∧ b2 = upd a2 nd (nI 0))))) → post r (f, w, h', x, b1, b2, b3, b4, b5, b6, b7, b8, b9, b10, b11, b12, b13, b14, b15, b16, b17)) : wpL_turn post (f, w, h, x, a1, a2, a3, a4, a5, a6, a7, a8, a9, a10, a11, a12, a13, a14, a15, a16, a17) x4 y x3 := by
  unfold wpL_turn
  dsimp only
  refine ⟨by decide, nm_r ek ⟨by decide, nm_r en ?_⟩⟩
  refine pk_le 2 kd (fun k1 => pk_le 6 kd (fun k2 => pk_le 9 kd (fun k3 => pk_le 11 kd (fun z => absurd z (by omega)) (fun _ => ?_)) (fun k3 => ?_)) (fun k2 => ?_)) (fun k1 => ?_)
  · have go : ∀ fl, wL_turn_104 post fl (nI nd) f w h x a1 a2 a3 a4 a5 a6 a7 a8 a9 a10 a11 a12 a13 a14 a15 a16 a17 := by
      intro fl
      unfold wL_turn_104
      refine el_member hT hnd hK ?_
      intro r f' w' h' b3 b4 b5 b6 b7 b8 b9 b10 b11 b12 b13 b14 b15 b16 b17 ld' G' M' B' C' L' T' t1 t2
      exact hp r f' w' h' a1 a2 b3 b4 b5 b6 b7 b8 b9 b10 b11 b12 b13 b14 b15 b16 b17 ld' G' M' B' C' L' T' t1 t2 (Or.inl ⟨Or.inr k3, rfl⟩)
    exact br_c (fun _ => go 0) (fun _ => go 1)
  · refine br_c (fun z => ?_) (fun z => ?_)
    · obtain ⟨j, hj, ej⟩ := pk_andE (x4 >>> ((18 : Int32) &&& 31)) (m := 1) 1 (by decide)
      have hj2 : j < 2 := hj
      have e1 : 1 + ((x4 >>> ((18 : Int32) &&& 31)) &&& 1) = nI (1 + j) := by rw [ej]; exact nI_add 1 j
      unfold wL_turn_78
      rw [e1]
      refine el_move hT hnd (by omega) (by omega) ?_
      intro r f' w' h' b3 b4 b5 b6 b7 b8 b9 b10 b11 b12 b13 b14 b15 b16 b17 ld' G' M' B' C' L' T' t1 t2 _ _
      exact hp r f' w' h' a1 _ b3 b4 b5 b6 b7 b8 b9 b10 b11 b12 b13 b14 b15 b16 b17 ld' G' M' B' C' L' T' (el_Top_K t1 (by omega) hK) t2 (Or.inr ⟨k2, k3, Or.inl ⟨z, 1 + j, by omega, e1, rfl⟩⟩)
    · unfold wL_turn_78
      refine el_move (g := 0) hT hnd (by omega) (by omega) ?_
      intro r f' w' h' b3 b4 b5 b6 b7 b8 b9 b10 b11 b12 b13 b14 b15 b16 b17 ld' G' M' B' C' L' T' t1 t2 _ _
      exact hp r f' w' h' a1 _ b3 b4 b5 b6 b7 b8 b9 b10 b11 b12 b13 b14 b15 b16 b17 ld' G' M' B' C' L' T' (el_Top_K t1 (by omega) hK) t2 (Or.inr ⟨k2, k3, Or.inr ⟨z, rfl⟩⟩)
  · refine el_start hT hnd (by omega) ?_
    intro r f' w' h' b3 b4 b5 b6 b7 b8 b9 b10 b11 b12 b13 b14 b15 b16 b17 ld' G' M' B' C' L' T' t1 t2 _ _
    exact hp r f' w' h' _ a2 b3 b4 b5 b6 b7 b8 b9 b10 b11 b12 b13 b14 b15 b16 b17 ld' G' M' B' C' L' T' (el_Top_K t1 (by omega) hK) t2 (Or.inl ⟨Or.inl k2, rfl⟩)
  · refine el_stop hT hnd (by omega) ?_
    intro r f' w' h' b3 b4 b5 b6 b7 b8 b9 b10 b11 b12 b13 b14 b15 b16 b17 ld' G' M' B' C' L' T' t1 t2
    exact hp r f' w' h' _ a2 b3 b4 b5 b6 b7 b8 b9 b10 b11 b12 b13 b14 b15 b16 b17 ld' G' M' B' C' L' T' (el_Top_K t1 (by omega) hK) t2 (Or.inl ⟨Or.inl (by omega), rfl⟩)
/-- submit -/
theorem el_turnS {post : Int32 → St1 → Prop} (ek : (x4 &&& 255) - (x4 &&& 255) / 20 * 20 = nI kd) (hkd : 11 ≤ kd) (hkd2 : kd < 17) (en : ((x4 >>> ((8 : Int32) &&& 31)) &&& 255) - ((x4 >>> ((8 : Int32) &&& 31)) &&& 255) / 5 * 5 = nI nd) (ec : (y &&& 2147483647) - (y &&& 2147483647) / 72 * 72 = nI cd) (hs : wpX_submit post (f, w, h, x, a1, a2, a3, a4, a5, a6, a7, a8, a9, a10, a11, a12, a13, a14, a15, a16, a17) (nI cd) (el_nu x4 x3) (x4 >>> ((8 : Int32) &&& 31)) (y &&& 7)) : wpL_turn post (f, w, h, x, a1, a2, a3, a4, a5, a6, a7, a8, a9, a10, a11, a12, a13, a14, a15, a16, a17) x4 y x3 := by
  unfold wpL_turn
  dsimp only
  refine ⟨by decide, nm_r ek ⟨by decide, nm_r en ?_⟩⟩
  refine pk_le 2 kd (fun k1 => pk_le 6 kd (fun k2 => pk_le 9 kd (fun k3 => pk_le 11 kd (fun k4 => ⟨by decide, nm_r ec ⟨by decide, nm_e (pk_le 17 kd (fun z => absurd z (by omega)) (fun _ => ?_))⟩⟩) (fun z => absurd z (by omega))) (fun z => absurd z (by omega))) (fun z => absurd z (by omega))) (fun z => absurd z (by omega))
  exact hs
theorem el_turnP {post : Int32 → St1 → Prop} (ek : (x4 &&& 255) - (x4 &&& 255) / 20 * 20 = nI kd) (hkd : 17 ≤ kd) (hkd2 : kd < 20) (en : ((x4 >>> ((8 : Int32) &&& 31)) &&& 255) - ((x4 >>> ((8 : Int32) &&& 31)) &&& 255) / 5 * 5 = nI nd) (ec : (y &&& 2147483647) - (y &&& 2147483647) / 72 * 72 = nI cd) (hs : wpX_submitAndStop post (f, w, h, x, a1, a2, a3, a4, a5, a6, a7, a8, a9, a10, a11, a12, a13, a14, a15, a16, a17) (nI cd) (el_nu x4 x3) (x4 >>> ((8 : Int32) &&& 31)) (y &&& 7)) : wpL_turn post (f, w, h, x, a1, a2, a3, a4, a5, a6, a7, a8, a9, a10, a11, a12, a13, a14, a15, a16, a17) x4 y x3 := by
  unfold wpL_turn
  dsimp only
  refine ⟨by decide, nm_r ek ⟨by decide, nm_r en ?_⟩⟩
  refine pk_le 2 kd (fun k1 => pk_le 6 kd (fun k2 => pk_le 9 kd (fun k3 => pk_le 11 kd (fun k4 => ⟨by decide, nm_r ec ⟨by decide, nm_e (pk_le 17 kd (fun _ => ?_) (fun z => absurd z (by omega)))⟩⟩) (fun z => absurd z (by omega))) (fun z => absurd z (by omega))) (fun z => absurd z (by omega))) (fun z => absurd z (by omega))
  exact hs
end
end
section
/-! the law, from its end to its beginning -/
def el_gv (G : Nat → Nat → Int32) (M ld k : Nat) : Int32 := if ld < 5 then el_ap G M k else 0
def el_lv (ld : Nat) : Int32 := if ld < 5 then nI ld else -2
section
variable {f w h x x2 x4 x5 x12 x13 : Int32} {a1 a2 a3 a4 a5 a6 a7 a8 a9 a10 a11 a12 a13 a14 a15 a16 a17 : Nat → Int32} {G : Nat → Nat → Int32} {M K n o ld cd Ln k0 kc ks : Nat} {B C L T X Y : Nat → Nat} {xs : Nat → Int32} {x3 nu : Int32}
theorem el_get' {post : Int32 → Prop} {k : Nat} (hT : el_Top G M K B C L T ld f w h a1 a2 a3 a4 a7 a8 a9 a10 a11 a12 a13 a14 a15 a16) (hk : k < 6) (hp : post (el_gv G M ld k)) : wpX_get post (f, w, h, x, a1, a2, a3, a4, a5, a6, a7, a8, a9, a10, a11, a12, a13, a14, a15, a16, a17) (nI k) := by
  unfold el_gv at hp
  refine el_get hT hk (fun e => ?_) (fun e => ?_)
  · rw [if_neg (by omega)] at hp; exact hp
  · rw [if_pos e] at hp; exact hp
theorem el_leader' {post : Int32 → Prop} (hT : el_Top G M K B C L T ld f w h a1 a2 a3 a4 a7 a8 a9 a10 a11 a12 a13 a14 a15 a16) (hp : post (el_lv ld)) : wpX_leader post (f, w, h, x, a1, a2, a3, a4, a5, a6, a7, a8, a9, a10, a11, a12, a13, a14, a15, a16, a17) := by
  unfold el_lv at hp
  refine el_leader hT (fun e => ?_) (fun e => ?_)
  · rw [if_neg (by omega)] at hp; exact hp
  · rw [if_pos e] at hp; exact hp
theorem el_law612 {post : Int32 → Prop} {J12 : Int32 → Int32 → Int32 → Int32 → Int32 → Int32 → (Nat → Int32) → (Nat → Int32) → (Nat → Int32) → (Nat → Int32) → (Nat → Int32) → (Nat → Int32) → (Nat → Int32) → (Nat → Int32) → (Nat → Int32) → (Nat → Int32) → (Nat → Int32) → (Nat → Int32) → (Nat → Int32) → (Nat → Int32) → (Nat → Int32) → (Nat → Int32) → (Nat → Int32) → Prop} (hT : el_Top G M K B C L T ld f w h a1 a2 a3 a4 a7 a8 a9 a10 a11 a12 a13 a14 a15 a16) (hx : (¬ x5 ≤ 16 ∧ ¬ x12 ≤ 1) ∨ x13 = el_lv ld)
    (hj : ∀ (b7 b8 b9 b10 b13 : Nat → Int32) (B' : Nat → Nat), el_Top G M K B' C L T ld f w h a1 a2 a3 a4 b7 b8 b9 b10 a11 a12 b13 a14 a15 a16 → J12 x2 (x3 + 2) f w h x a1 a2 a3 a4 a5 a6 b7 b8 b9 b10 a11 a12 b13 a14 a15 a16 a17) : wL_law_612 post Ln xs J12 x2 x3 x4 x5 x12 x13 kc ks f w h x a1 a2 a3 a4 a5 a6 a7 a8 a9 a10 a11 a12 a13 a14 a15 a16 a17 := by
  unfold wL_law_612
  refine br_c (fun z => ?_) (fun z => nm_e (hj _ _ _ _ _ B hT))
  refine el_get' (k := 2) hT (by omega) ?_
  refine el_local (n := 1) (k := 3) (by omega) (by omega) ?_
  refine el_compact hT (fun b7 b8 b9 b10 b13 B' hT' => ?_)
  refine el_get' (k := 2) hT' (by omega) (br_t rfl ?_)
  refine el_local (n := 1) (k := 3) (by omega) (by omega) (br_t rfl ?_)
  refine el_leader' hT' ?_
  have fin : ∀ z0, z0 = el_lv ld → wL_law_689 post Ln xs J12 x2 x3 z0 (el_lv ld) kc ks f w h x a1 a2 a3 a4 a5 a6 b7 b8 b9 b10 a11 a12 b13 a14 a15 a16 a17 := by
    intro z0 e
    unfold wL_law_689
    exact br_t e.symm (nm_e (hj _ _ _ _ _ B' hT'))
  have f687 : x13 = el_lv ld → wL_law_687 post Ln xs J12 x2 x3 x13 (el_lv ld) kc ks f w h x a1 a2 a3 a4 a5 a6 b7 b8 b9 b10 a11 a12 b13 a14 a15 a16 a17 := by
    intro e
    unfold wL_law_687
    exact fin x13 e
  refine br_c (fun y => ?_) (fun y => br_c (fun y2 => ?_) (fun y2 => el_leader' hT' (fin _ rfl)))
  · rcases hx with q | q
    · exact absurd y q.1
    · exact f687 q
  · rcases hx with q | q
    · exact absurd y2 q.2
    · exact f687 q
theorem el_law588 {post : Int32 → Prop} {J12 : Int32 → Int32 → Int32 → Int32 → Int32 → Int32 → (Nat → Int32) → (Nat → Int32) → (Nat → Int32) → (Nat → Int32) → (Nat → Int32) → (Nat → Int32) → (Nat → Int32) → (Nat → Int32) → (Nat → Int32) → (Nat → Int32) → (Nat → Int32) → (Nat → Int32) → (Nat → Int32) → (Nat → Int32) → (Nat → Int32) → (Nat → Int32) → (Nat → Int32) → Prop} {x15 : Int32} (hT : el_Top G M K B C L T ld f w h a1 a2 a3 a4 a7 a8 a9 a10 a11 a12 a13 a14 a15 a16) (hld : ld < 5) (hcd : cd < 72) (h40 : nu ≤ 40) (h1 : 1 ≤ nu) (hK : K + 60 ≤ 1000000) (he : nu = el_ap G M (6 + cd / 6 % 4)) (H : wL_law_612 post Ln xs J12 x2 x3 x4 x5 x12 x13 kc ks f w h x a1 a2 a3 a4 a5 a6 a7 a8 a9 a10 a11 a12 a13 a14 a15 a16 a17) : wL_law_588 post Ln xs J12 x2 x3 x4 x5 (nI cd) x12 x13 nu x15 kc ks f w h x a1 a2 a3 a4 a5 a6 a7 a8 a9 a10 a11 a12 a13 a14 a15 a16 a17 := by
  unfold wL_law_588
  refine el_submit hT hcd h40 hK (fun r r1 r2 r3 r4 => ?_) ?_
  · rw [r2 hld h1 he]
    refine br_t rfl ?_
    obtain ⟨_, ⟨e, _⟩ | ⟨_, hh, _⟩⟩ := hT
    · omega
    · unfold wpX_pending
      dsimp only
      rw [hh] at H ⊢
      exact br_t (by decide) (br_t rfl H)
  · intro f' w' b3 b4 b5 b7 b8 b9 b10 b11 b12 b13 b14 b15 b16 b17 e B' C' L' T' _ _ _ z
    exact absurd he z
theorem el_law485 {post : Int32 → Prop} {J12 : Int32 → Int32 → Int32 → Int32 → Int32 → Int32 → (Nat → Int32) → (Nat → Int32) → (Nat → Int32) → (Nat → Int32) → (Nat → Int32) → (Nat → Int32) → (Nat → Int32) → (Nat → Int32) → (Nat → Int32) → (Nat → Int32) → (Nat → Int32) → (Nat → Int32) → (Nat → Int32) → (Nat → Int32) → (Nat → Int32) → (Nat → Int32) → (Nat → Int32) → Prop} {x15 z0 : Int32} (hT : el_Top G M K B C L T ld f w h a1 a2 a3 a4 a7 a8 a9 a10 a11 a12 a13 a14 a15 a16) (hld : ld < 5) (hcd : cd < 72) (h40 : nu ≤ 40) (h1 : 1 ≤ nu) (hK : K + 120 ≤ 1000000) (hle : el_ap G M (6 + cd / 6 % 4) ≤ nu) (hin : vp_in (x3 + 1) Ln) (hz : z0 = 1 ∧ nu = el_ap G M (6 + cd / 6 % 4) ∨ z0 = 0 ∧ ¬ nu = el_ap G M (6 + cd / 6 % 4))
    (H : ∀ (f w h : Int32) (b3 b4 b5 b6 b7 b8 b9 b10 b11 b12 b13 b14 b15 b16 b17 : Nat → Int32) (G' : Nat → Nat → Int32) (M' : Nat) (B' C' L' T' : Nat → Nat), el_Top G' M' (K + 60) B' C' L' T' ld f w h a1 a2 b3 b4 b7 b8 b9 b10 b11 b12 b13 b14 b15 b16 → wL_law_612 post Ln xs J12 x2 x3 x4 x5 x12 x13 kc ks f w h x a1 a2 b3 b4 b5 b6 b7 b8 b9 b10 b11 b12 b13 b14 b15 b16 b17) : wL_law_485 post Ln xs J12 x2 x3 x4 x5 (nI cd) x12 x13 nu x15 z0 kc ks f w h x a1 a2 a3 a4 a5 a6 a7 a8 a9 a10 a11 a12 a13 a14 a15 a16 a17 := by
  have e6 : nI cd - nI cd / 6 * 6 = nI (cd % 6) := pk_rem (d := 6) (by omega) (by omega) (by omega)
  have hk6 : cd % 6 < 6 := Nat.mod_lt _ (by omega)
  have hT60 := el_Top_K hT (show K ≤ K + 60 by omega) (by omega)
  have hwf := (el_TopC hT).1
  unfold wL_law_485
  rw [e6]
  refine ⟨by decide, ?_⟩
  refine el_get hT hk6 (fun z => by omega) (fun _ => ⟨hin, ?_⟩)
  refine el_submit hT hcd h40 (by omega) (fun r r1 r2 r3 r4 => ?_) ?_
  · -- done already
    rcases hz with ⟨z1, z2⟩ | ⟨z1, z2⟩
    · have er := r2 hld h1 z2
      subst z1 er
      refine br_f (by decide) ?_
      have H552 : wL_law_552 post Ln xs J12 x2 x3 x4 x5 (nI cd) x12 x13 nu x15 1 (el_ap G M (cd % 6)) kc ks f w h x a1 a2 a3 a4 a5 a6 a7 a8 a9 a10 a11 a12 a13 a14 a15 a16 a17 := by
        unfold wL_law_552
        refine br_f (by decide) ?_
        exact el_law588 hT hld hcd h40 h1 (by omega) z2 (H f w h _ _ _ _ _ _ _ _ _ _ _ _ _ _ _ G M B C L T hT60)
      unfold wL_law_530
      rw [e6]
      refine br_t rfl (br_f (by decide) ⟨by decide, ?_⟩)
      exact el_get hT hk6 (fun z => by omega) (fun _ => br_t rfl H552)
    · rcases r3 hld h1 with q | q
      · exact absurd hle q
      · exact absurd q z2
  · intro f' w' b3 b4 b5 b7 b8 b9 b10 b11 b12 b13 b14 b15 b16 b17 e B' C' L' T' _ _ k3 k4 w1 w2 w3 w4 w5 w6 hT' _
    rcases hz with ⟨z1, z2⟩ | ⟨z1, z2⟩
    · exact absurd z2 k4
    · subst z1
      dsimp only
      refine br_t rfl ?_
      have hs4 : cd / 6 % 4 < 4 := Nat.mod_lt _ (by omega)
      have hkk : e 1 = 0 ∨ e 1 = 1 ∨ e 1 = 2 := by
        rw [w1]
        have : cd / 24 = 0 ∨ cd / 24 = 1 ∨ cd / 24 = 2 := by omega
        rcases this with z | z | z <;> rw [z]
        · exact Or.inl rfl
        · exact Or.inr (Or.inl rfl)
        · exact Or.inr (Or.inr rfl)
      have est := el_stp_cmd (s := el_ap G M) (e := e) hkk hs4 hk6 w2 w3
      have eN : nu = el_ap (el_ext G M e) (M + 1) (6 + cd / 6 % 4) := by
        rw [el_ext_apM, est, pk_un (by omega), pk_us, w4]
      have H588 : wL_law_588 post Ln xs J12 x2 x3 x4 x5 (nI cd) x12 x13 nu x15 kc ks f' w' h x a1 a2 b3 b4 b5 a6 b7 b8 b9 b10 b11 b12 b13 b14 b15 b16 b17 :=
        el_law588 hT' hld hcd h40 h1 (by omega) eN (H f' w' h b3 b4 b5 _ b7 b8 b9 b10 b11 b12 b13 b14 b15 b16 b17 (el_ext G M e) (M + 1) B' C' L' T' hT')
      unfold wL_law_530
      refine br_t rfl (br_t rfl ?_)
      unfold wL_law_552
      rw [e6]
      refine br_t rfl (pk_le cd 23 (fun _ => H588) (fun y1 => pk_le 48 cd (fun _ => H588) (fun y2 => ⟨by decide, ?_⟩)))
      refine el_get hT' hk6 (fun z => by omega) (fun _ => br_t ?_ H588)
      have e24 : cd / 24 = 1 := by omega
      rw [e24] at w1
      have n0 : ¬ e 1 = 0 := by rw [w1]; decide
      rw [el_ext_apM, est, pk_un (by omega), pk_un (by omega), pk_us, if_neg n0, if_pos (show e 1 = 1 from w1), w5]
/-- all nodes are started and brought together; the command again -/
theorem el_law436 {post : Int32 → Prop} {J12 : Int32 → Int32 → Int32 → Int32 → Int32 → Int32 → (Nat → Int32) → (Nat → Int32) → (Nat → Int32) → (Nat → Int32) → (Nat → Int32) → (Nat → Int32) → (Nat → Int32) → (Nat → Int32) → (Nat → Int32) → (Nat → Int32) → (Nat → Int32) → (Nat → Int32) → (Nat → Int32) → (Nat → Int32) → (Nat → Int32) → (Nat → Int32) → (Nat → Int32) → Prop} {x15 : Int32} {UB : Nat → Nat} (hT : el_Top G M K B C L T ld f w h a1 a2 a3 a4 a7 a8 a9 a10 a11 a12 a13 a14 a15 a16) (hU : el_Ub G M B C L a10 UB) (hUB : nI (UB (cd / 6 % 4)) = nu) (hcd : cd < 72) (h40 : nu ≤ 40) (h1 : 1 ≤ nu) (hK : K + 720 ≤ 1000000) (hin : vp_in (x3 + 1) Ln)
    (H : ∀ (f w h : Int32) (b1 b2 b3 b4 b5 b6 b7 b8 b9 b10 b11 b12 b13 b14 b15 b16 b17 : Nat → Int32) (ld' : Nat) (G' : Nat → Nat → Int32) (M' : Nat) (B' C' L' T' : Nat → Nat), el_Top G' M' (K + 660) B' C' L' T' ld' f w h b1 b2 b3 b4 b7 b8 b9 b10 b11 b12 b13 b14 b15 b16 → (∀ m, m < 5 → b2 m = 0) → wL_law_612 post Ln xs J12 0 x3 x4 x5 x12 x13 kc ks f w h x b1 b2 b3 b4 b5 b6 b7 b8 b9 b10 b11 b12 b13 b14 b15 b16 b17) : ∃ fu, wL_law_436 post Ln xs J12 x3 x4 x5 (nI cd) (nI (cd / 6 % 4)) x12 x13 nu x15 kc ks fu 0 f w h x a1 a2 a3 a4 a5 a6 a7 a8 a9 a10 a11 a12 a13 a14 a15 a16 a17 := by
  have hs4 : cd / 6 % 4 < 4 := Nat.mod_lt _ (by omega)
  refine pk_loop (fun m i (s : St1) => wL_law_436 post Ln xs J12 x3 x4 x5 (nI cd) (nI (cd / 6 % 4)) x12 x13 nu x15 kc ks m (nI i) s.1 s.2.1 s.2.2.1 s.2.2.2.1 s.2.2.2.2.1 s.2.2.2.2.2.1 s.2.2.2.2.2.2.1 s.2.2.2.2.2.2.2.1 s.2.2.2.2.2.2.2.2.1 s.2.2.2.2.2.2.2.2.2.1 s.2.2.2.2.2.2.2.2.2.2.1 s.2.2.2.2.2.2.2.2.2.2.2.1 s.2.2.2.2.2.2.2.2.2.2.2.2.1 s.2.2.2.2.2.2.2.2.2.2.2.2.2.1 s.2.2.2.2.2.2.2.2.2.2.2.2.2.2.1 s.2.2.2.2.2.2.2.2.2.2.2.2.2.2.2.1 s.2.2.2.2.2.2.2.2.2.2.2.2.2.2.2.2.1 s.2.2.2.2.2.2.2.2.2.2.2.2.2.2.2.2.2.1 s.2.2.2.2.2.2.2.2.2.2.2.2.2.2.2.2.2.2.1 s.2.2.2.2.2.2.2.2.2.2.2.2.2.2.2.2.2.2.2.1 s.2.2.2.2.2.2.2.2.2.2.2.2.2.2.2.2.2.2.2.2) (fun i s => s.2.2.2.1 = x ∧ ∃ (ld' : Nat) (G' : Nat → Nat → Int32) (M' : Nat) (B' C' L' T' : Nat → Nat), el_Top G' M' (K + 120 * i) B' C' L' T' ld' s.1 s.2.1 s.2.2.1 s.2.2.2.2.1 s.2.2.2.2.2.1 s.2.2.2.2.2.2.1 s.2.2.2.2.2.2.2.1 s.2.2.2.2.2.2.2.2.2.2.1 s.2.2.2.2.2.2.2.2.2.2.2.1 s.2.2.2.2.2.2.2.2.2.2.2.2.1 s.2.2.2.2.2.2.2.2.2.2.2.2.2.1 s.2.2.2.2.2.2.2.2.2.2.2.2.2.2.1 s.2.2.2.2.2.2.2.2.2.2.2.2.2.2.2.1 s.2.2.2.2.2.2.2.2.2.2.2.2.2.2.2.2.1 s.2.2.2.2.2.2.2.2.2.2.2.2.2.2.2.2.2.1 s.2.2.2.2.2.2.2.2.2.2.2.2.2.2.2.2.2.2.1 s.2.2.2.2.2.2.2.2.2.2.2.2.2.2.2.2.2.2.2.1 ∧ el_Ub G' M' B' C' L' s.2.2.2.2.2.2.2.2.2.2.2.2.2.1 UB ∧ (∀ m, m < i → m < 5 → s.2.2.2.2.1 m = 1 ∧ s.2.2.2.2.2.1 m = 0) ∧ (i = 5 → ld' < 5)) 5 0 (f, w, h, x, a1, a2, a3, a4, a5, a6, a7, a8, a9, a10, a11, a12, a13, a14, a15, a16, a17) (by omega) ⟨rfl, ld, G, M, B, C, L, T, hT, hU, fun m hm => absurd hm (by omega), fun z => absurd z (by omega)⟩ ?_ ?_
  · rintro m ⟨f, w, h, x0, a1, a2, a3, a4, a5, a6, a7, a8, a9, a10, a11, a12, a13, a14, a15, a16, a17⟩ ⟨ex, ld', G', M', B', C', L', T', g1, g2, g3, g4⟩
    dsimp only at ex g1 g2 g3 ⊢
    subst ex
    unfold wL_law_436
    have hl5 := g4 rfl
    obtain ⟨hw, hC, hM⟩ := el_TopC g1
    have e12 : a12 (15 * ld' + (6 + cd / 6 % 4)) = el_ap G' M' (6 + cd / 6 % 4) := by
      rw [(hC ld' hl5).2.2 _ (by omega), hM hl5]
    have hle : el_ap G' M' (6 + cd / 6 % 4) ≤ nu := by rw [← hUB]; exact g2.1 _ hs4
    refine pk_le 5 5 (fun _ => ?_) (fun z => absurd z (by omega))
    refine el_leader g1 (fun z => by omega) (fun _ => ?_)
    refine el_lastNumber hl5 hs4 ?_
    rw [e12]
    have fin : ∀ z0, (z0 = 1 ∧ nu = el_ap G' M' (6 + cd / 6 % 4) ∨ z0 = 0 ∧ ¬ nu = el_ap G' M' (6 + cd / 6 % 4)) → wL_law_485 post Ln xs J12 0 x3 x4 x5 (nI cd) x12 x13 nu x15 z0 kc ks f w h x0 a1 a2 a3 a4 a5 a6 a7 a8 a9 a10 a11 a12 a13 a14 a15 a16 a17 := by
      intro z0 hz
      refine el_law485 g1 hl5 hcd h40 h1 (by omega) hle hin hz ?_
      intro f' w' h' b3 b4 b5 b6 b7 b8 b9 b10 b11 b12 b13 b14 b15 b16 b17 G2 M2 B2 C2 L2 T2 t1
      exact H f' w' h' a1 a2 b3 b4 b5 b6 b7 b8 b9 b10 b11 b12 b13 b14 b15 b16 b17 ld' G2 M2 B2 C2 L2 T2 (el_Top_K t1 (by omega) (by omega)) (fun m hm => (g3 m hm hm).2)
    exact br_c (fun z => fin 1 (Or.inl ⟨rfl, z.symm⟩)) (fun z => fin 0 (Or.inr ⟨rfl, fun y => z y.symm⟩))
  · rintro m i ⟨f, w, h, x0, a1, a2, a3, a4, a5, a6, a7, a8, a9, a10, a11, a12, a13, a14, a15, a16, a17⟩ hi ⟨ex, ld', G', M', B', C', L', T', g1, g2, g3, g4⟩ hk
    dsimp only at ex g1 g2 g3 hk ⊢
    subst ex
    unfold wL_law_436
    refine pk_le 5 i (fun z => absurd z (by omega)) (fun _ => ?_)
    refine el_start g1 hi (by omega) ?_
    intro r f1 w1 h1' b3 b4 b5 b6 b7 b8 b9 b10 b11 b12 b13 b14 b15 b16 b17 ld1 G1 M1 B1 C1 L1 T1 t1 t2 t3 t4
    refine el_move (g := 0) t1 hi (by omega) (by omega) ?_
    intro r2 f2 w2 h2' c3 c4 c5 c6 c7 c8 c9 c10 c11 c12 c13 c14 c15 c16 c17 ld2 G2 M2 B2 C2 L2 T2 s1 s2 s3 s4
    refine nm_r (nI_1 i) (hk (f2, w2, h2', x0, upd a1 i 1, upd a2 i (nI 0), c3, c4, c5, c6, c7, c8, c9, c10, c11, c12, c13, c14, c15, c16, c17) ⟨rfl, ld2, G2, M2, B2, C2, L2, T2, ?_, s3 UB (t3 UB g2), fun m hm hm5 => ?_, fun z => s4 (fun n' o' hn' ho' => ?_)⟩)
    · dsimp only
      rw [show K + 120 * (i + 1) = K + 120 * i + 60 + 60 by omega]; exact s1
    · dsimp only
      by_cases e : m = i
      · rw [e, pk_us, pk_us]; exact ⟨rfl, rfl⟩
      · rw [pk_un e, pk_un e]; exact g3 m (by omega) hm5
    · have all : ∀ m, m < 5 → upd a1 i 1 m = 1 ∧ upd a2 i (nI 0) m = 0 := by
        intro m hm
        by_cases e : m = i
        · rw [e, pk_us, pk_us]; exact ⟨rfl, rfl⟩
        · rw [pk_un e, pk_un e]; exact g3 m (by omega) hm
      refine decide_eq_true ⟨?_, ?_, ?_⟩
      · rw [(all n' hn').1]; decide
      · rw [(all o' ho').1]; decide
      · rw [(all n' hn').2, (all o' ho').2]
end
end
section
/-! one turn of the law -/
abbrev el_J : Type := Int32 → Int32 → Int32 → Int32 → Int32 → Int32 → (Nat → Int32) → (Nat → Int32) → (Nat → Int32) → (Nat → Int32) → (Nat → Int32) → (Nat → Int32) → (Nat → Int32) → (Nat → Int32) → (Nat → Int32) → (Nat → Int32) → (Nat → Int32) → (Nat → Int32) → (Nat → Int32) → (Nat → Int32) → (Nat → Int32) → (Nat → Int32) → (Nat → Int32) → Prop
section
variable {f w h x x2 x4 x10 x11 x12 x13 : Int32} {a1 a2 a3 a4 a5 a6 a7 a8 a9 a10 a11 a12 a13 a14 a15 a16 a17 b12 : Nat → Int32} {G G' : Nat → Nat → Int32} {M M' K K' n o ld cd kd nd Ln k0 kc ks : Nat} {B C L T X Y C' : Nat → Nat} {xs : Nat → Int32} {x3 : Int32}
theorem el_law398 {post : Int32 → Prop} {J12 : el_J} (hT : el_Top G M K B C L T ld f w h a1 a2 a3 a4 a7 a8 a9 a10 a11 a12 a13 a14 a15 a16) (hgp : el_Gp x2 a2) (hkd : kd < 20) (hcd : cd < 72) (h40 : el_nu x4 x3 ≤ 40) (hK : K + 720 ≤ 1000000) (hin : vp_in (x3 + 1) Ln) (hr : 17 ≤ kd → ¬ x12 ≤ 1 → 1 ≤ el_nu x4 x3 ∧ ∃ UB : Nat → Nat, nI (UB (cd / 6 % 4)) = el_nu x4 x3 ∧ el_Ub G M B C L a10 UB) (hx : x13 = el_lv ld)
    (hj : ∀ (x2 f w h : Int32) (b1 b2 b3 b4 b5 b6 b7 b8 b9 b10 b11 b12 b13 b14 b15 b16 b17 : Nat → Int32) (ld' : Nat) (G' : Nat → Nat → Int32) (M' : Nat) (B' C' L' T' : Nat → Nat), el_Top G' M' (K + 660) B' C' L' T' ld' f w h b1 b2 b3 b4 b7 b8 b9 b10 b11 b12 b13 b14 b15 b16 → el_Gp x2 b2 → J12 x2 (x3 + 2) f w h x b1 b2 b3 b4 b5 b6 b7 b8 b9 b10 b11 b12 b13 b14 b15 b16 b17) : wL_law_398 post Ln xs J12 x2 x3 x4 (nI kd) (nI cd) (nI (cd / 6 % 4)) x12 x13 kc ks f w h x a1 a2 a3 a4 a5 a6 a7 a8 a9 a10 a11 a12 a13 a14 a15 a16 a17 := by
  have plain : wL_law_612 post Ln xs J12 x2 x3 x4 (nI kd) x12 x13 kc ks f w h x a1 a2 a3 a4 a5 a6 a7 a8 a9 a10 a11 a12 a13 a14 a15 a16 a17 := by
    refine el_law612 hT (Or.inr hx) ?_
    intro b7 b8 b9 b10 b13 B' t
    exact hj x2 f w h _ _ _ _ _ _ _ _ _ _ _ _ _ _ _ _ _ ld G M B' C L T (el_Top_K t (by omega) (by omega)) hgp
  unfold wL_law_398
  refine pk_le kd 16 (fun _ => plain) (fun z => br_c (fun _ => plain) (fun z2 => ⟨by decide, nm_e (nm_e ?_)⟩))
  obtain ⟨h1, UB, hUB, hU⟩ := hr (by omega) z2
  refine el_law436 hT hU hUB hcd h40 h1 hK hin ?_
  intro f' w' h' b1 b2 b3 b4 b5 b6 b7 b8 b9 b10 b11 b12 b13 b14 b15 b16 b17 ld' G' M' B' C' L' T' t1 t2
  refine el_law612 t1 (Or.inl ⟨?_, z2⟩) ?_
  · exact nI_ge (b := kd) (a := 16) (by omega) (by omega)
  · intro c7 c8 c9 c10 c13 B2 t3
    exact hj 0 f' w' h' _ _ _ _ _ _ _ _ _ _ _ _ _ _ _ _ _ ld' G' M' B2 C' L' T' t3 (el_Gp_0 t2)
theorem el_law167 {post : Int32 → Prop} {J12 : el_J} (hT : el_Top G M K B C L T ld f w h a1 a2 a3 a4 a7 a8 a9 a10 a11 a12 a13 a14 a15 a16) (hgp : el_Gp x2 a2) (hkd : kd < 20) (hcd : cd < 72) (h40 : el_nu x4 x3 ≤ 40) (hK : K + 720 ≤ 1000000) (hin : vp_in (x3 + 1) Ln)
    (ek : (x4 &&& 255) - (x4 &&& 255) / 20 * 20 = nI kd) (en : ((x4 >>> ((8 : Int32) &&& 31)) &&& 255) - ((x4 >>> ((8 : Int32) &&& 31)) &&& 255) / 5 * 5 = nI nd) (ec : (xs (x3 + 1).toNatClampNeg &&& 2147483647) - (xs (x3 + 1).toNatClampNeg &&& 2147483647) / 72 * 72 = nI cd)
    (hr : 17 ≤ kd → ¬ x12 ≤ 1 → 1 ≤ el_nu x4 x3 ∧ ∃ UB : Nat → Nat, nI (UB (cd / 6 % 4)) = el_nu x4 x3 ∧ el_Ub G M B C L a10 UB) (hs : 11 ≤ kd → kd < 17 → x12 = 0 → ld < 5 ∧ 1 ≤ el_nu x4 x3 ∧ el_nu x4 x3 = el_ap G M (6 + cd / 6 % 4)) (h0 : x10 ≤ a12 (15 * 0 + (6 + cd / 6 % 4))) (h3 : x11 ≤ a12 (15 * 3 + (6 + cd / 6 % 4)))
    (hj : ∀ (x2 f w h x : Int32) (b1 b2 b3 b4 b5 b6 b7 b8 b9 b10 b11 b12 b13 b14 b15 b16 b17 : Nat → Int32) (ld' : Nat) (G' : Nat → Nat → Int32) (M' : Nat) (B' C' L' T' : Nat → Nat), el_Top G' M' (K + 660) B' C' L' T' ld' f w h b1 b2 b3 b4 b7 b8 b9 b10 b11 b12 b13 b14 b15 b16 → el_Gp x2 b2 → J12 x2 (x3 + 2) f w h x b1 b2 b3 b4 b5 b6 b7 b8 b9 b10 b11 b12 b13 b14 b15 b16 b17) : wL_law_167 post Ln xs J12 x2 x3 x4 (nI kd) 0 (nI cd) (nI (cd / 6 % 4)) x10 x11 x12 kc ks f w h x a1 a2 a3 a4 a5 a6 a7 a8 a9 a10 a11 a12 a13 a14 a15 a16 a17 := by
  have hs4 : cd / 6 % 4 < 4 := Nat.mod_lt _ (by omega)
  have hk6 : cd % 6 < 6 := Nat.mod_lt _ (by omega)
  have e6 : nI cd - nI cd / 6 * 6 = nI (cd % 6) := pk_rem (d := 6) (by omega) (by omega) (by omega)
  obtain ⟨hw, hC, hM⟩ := el_TopC hT
  have num : ∀ m, m < 5 → ∃ v : Nat, v ≤ 40 ∧ a12 (15 * m + (6 + cd / 6 % 4)) = nI v := by
    intro m hm
    obtain ⟨v, hv, e⟩ := (el_wf_sta hw (C m) (hC m hm).1).2 _ hs4
    exact ⟨v, hv, by rw [(hC m hm).2.2 _ (by omega)]; exact e⟩
  unfold wL_law_167
  refine el_leader' hT ?_
  refine pk_loop (fun m i (s : Int32) => wL_law_176 post Ln xs J12 x2 x3 x4 (nI kd) (nI cd) (nI (cd / 6 % 4)) x10 x11 x12 (el_lv ld) kc ks f w h x a1 a2 a3 a4 a5 a6 a7 a8 a9 a10 a11 a12 a13 a14 a15 a16 a17 m s (nI i)) (fun i s => ∃ v : Nat, v ≤ 40 * i ∧ s = nI v) 5 0 _ (by omega) ⟨0, by omega, rfl⟩ ?_ ?_
  · rintro m s ⟨v, hv, rfl⟩
    unfold wL_law_176
    refine pk_le 5 5 (fun _ => ?_) (fun z => absurd z (by omega))
    refine el_sound hT (br_f (by decide) (br_f (nI_pos (by omega)) ?_))
    refine el_lastNumber (n := 0) (by omega) hs4 (br_f (Int32.not_lt.mpr h0) ?_)
    refine el_lastNumber (n := 3) (by omega) hs4 (br_t h3 ?_)
    have plain : wL_law_398 post Ln xs J12 x2 x3 x4 (nI kd) (nI cd) (nI (cd / 6 % 4)) x12 (el_lv ld) kc ks f w h 0 a1 a2 a3 a4 a5 a6 a7 a8 a9 a10 a11 a12 a13 a14 a15 a16 a17 := by
      refine el_law398 hT hgp hkd hcd h40 hK hin hr rfl ?_
      intro x2 f' w' h' b1 b2 b3 b4 b5 b6 b7 b8 b9 b10 b11 b12 b13 b14 b15 b16 b17 ld' G' M' B' C' L' T' t1 t2
      exact hj x2 f' w' h' 0 b1 b2 b3 b4 b5 b6 b7 b8 b9 b10 b11 b12 b13 b14 b15 b16 b17 ld' G' M' B' C' L' T' t1 t2
    refine pk_le kd 10 (fun _ => plain) (fun y1 => pk_le 17 kd (fun _ => plain) (fun y2 => br_c (fun y3 => ⟨by decide, ?_⟩) (fun _ => plain)))
    obtain ⟨s1, s2, s3⟩ := hs (by omega) y2 y3
    rw [e6]
    refine el_local (n := 4) (by omega) hk6 ⟨by decide, ?_⟩
    refine el_get' hT hk6 ⟨hin, ?_⟩
    refine el_turnS ek (by omega) y2 en ec ?_
    refine el_submit hT hcd h40 (by omega) (fun r r1 r2 r3 r4 => ?_) ?_
    · rw [r2 s1 s2 s3]
      refine br_t rfl ⟨by decide, ?_⟩
      refine el_local (n := 4) (by omega) hk6 (br_t rfl ⟨by decide, ?_⟩)
      exact el_get' hT hk6 (br_t rfl plain)
    · intro f' w' b3 b4 b5 b7 b8 b9 b10 b11 b12 b13 b14 b15 b16 b17 e B' C' L' T' _ _ _ z
      exact absurd s3 z
  · rintro m i s hi ⟨v, hv, rfl⟩ hk
    have l252 : wL_law_252 post Ln xs J12 (wL_law_176 post Ln xs J12 x2 x3 x4 (nI kd) (nI cd) (nI (cd / 6 % 4)) x10 x11 x12 (el_lv ld) kc ks f w h x a1 a2 a3 a4 a5 a6 a7 a8 a9 a10 a11 a12 a13 a14 a15 a16 a17 m) x2 x3 x4 (nI kd) (nI v) (nI cd) (nI (cd / 6 % 4)) x10 x11 x12 (el_lv ld) (nI i) kc ks f w h x a1 a2 a3 a4 a5 a6 a7 a8 a9 a10 a11 a12 a13 a14 a15 a16 a17 := by
      unfold wL_law_252
      obtain ⟨v', hv', e'⟩ := num i hi
      refine el_lastNumber hi hs4 ?_
      rw [e']
      exact nm_r (nI_add v v') (nm_r (nI_1 i) (hk _ ⟨v + v', by omega, rfl⟩))
    have l230 : wL_law_230 post Ln xs J12 (wL_law_176 post Ln xs J12 x2 x3 x4 (nI kd) (nI cd) (nI (cd / 6 % 4)) x10 x11 x12 (el_lv ld) kc ks f w h x a1 a2 a3 a4 a5 a6 a7 a8 a9 a10 a11 a12 a13 a14 a15 a16 a17 m) x2 x3 x4 (nI kd) (nI v) (nI cd) (nI (cd / 6 % 4)) x10 x11 x12 (el_lv ld) (nI i) kc ks f w h x a1 a2 a3 a4 a5 a6 a7 a8 a9 a10 a11 a12 a13 a14 a15 a16 a17 := by
      unfold wL_law_230 wL_law_231
      exact br_t rfl l252
    unfold wL_law_176
    refine pk_le 5 i (fun z => absurd z (by omega)) (fun _ => ?_)
    by_cases hld : ld < 5
    · have elv : el_lv ld = nI ld := if_pos hld
      rw [elv] at l252 l230 ⊢
      refine br_f (nI_pos (by omega)) ?_
      refine el_isUp hi (fun _ => br_f (by decide) l230) (fun hup => br_t rfl ?_)
      refine el_isMember hT hld hi (fun _ => br_f (by decide) l230) (fun hme => br_t rfl ?_)
      rw [el_Gp_get hgp hi, el_Gp_get hgp hld]
      refine br_c (fun eg => ?_) (fun _ => l230)
      unfold wL_law_231
      refine br_f (by decide) ?_
      refine el_same hi hld (fun k hk => ?_) (br_t rfl l252)
      have hCi : C i = M := by
        obtain ⟨_, ⟨e, _⟩ | ⟨_, hh, _, hd, hnr⟩⟩ := hT
        · omega
        · exact hnr i hi hme (decide_eq_true ⟨hd.1, hup, eg.symm⟩)
      rw [(hC i hi).2.2 k (by omega), (hC ld hld).2.2 k (by omega), hCi, hM hld]
    · have elv : el_lv ld = -2 := if_neg hld
      rw [elv] at l230 ⊢
      exact br_t (by decide) l230
theorem el_rel_num {f' w' h' : Int32} {b1 b2 b3 b4 b7 b8 b9 b10 b11 b13 b14 b15 b16 : Nat → Int32} {B' L' T' : Nat → Nat} {ld' m q : Nat} (hT : el_Top G M K B C L T ld f w h a1 a2 a3 a4 a7 a8 a9 a10 a11 a12 a13 a14 a15 a16) (hT' : el_Top G' M' K' B' C' L' T' ld' f' w' h' b1 b2 b3 b4 b7 b8 b9 b10 b11 b12 b13 b14 b15 b16) (hR : el_Rel G M C G' M' C') (hm : m < 5) (hq : q < 4) : a12 (15 * m + (6 + q)) ≤ b12 (15 * m + (6 + q)) := by
  obtain ⟨hw, hC, _⟩ := el_TopC hT
  obtain ⟨hw', hC', _⟩ := el_TopC hT'
  obtain ⟨r1, r2, r3⟩ := hR
  rw [(hC m hm).2.2 _ (by omega), (hC' m hm).2.2 _ (by omega)]
  have e : el_ap G (C m) = el_ap G' (C m) := el_ap_congr (C m) (fun j hj => (r1 j (by have := (hC m hm).1; omega)).symm)
  rw [e]
  exact el_wf_mono hw' hq (r3 m hm) (hC' m hm).1
end
end
section
/-! the law's loop, and what is owed -/
section
variable {f w h x x2 : Int32} {a1 a2 a3 a4 a5 a6 a7 a8 a9 a10 a11 a12 a13 a14 a15 a16 a17 : Nat → Int32} {G : Nat → Nat → Int32} {M K ld Ln kc ks : Nat} {B C L T : Nat → Nat} {xs : Nat → Int32}
theorem el_law701 {post : Int32 → Prop} (hT : el_Top G M K B C L T ld f w h a1 a2 a3 a4 a7 a8 a9 a10 a11 a12 a13 a14 a15 a16) (hp : post 1) : wL_law_701 post Ln xs kc ks f w h x a1 a2 a3 a4 a5 a6 a7 a8 a9 a10 a11 a12 a13 a14 a15 a16 a17 := by
  unfold wL_law_701
  exact el_sound hT hp
theorem el_law12 {post : Int32 → Prop} {m i : Nat} (hp1 : post 1) (hLn : Ln ≤ 260) (hT : el_Top G M K B C L T ld f w h a1 a2 a3 a4 a7 a8 a9 a10 a11 a12 a13 a14 a15 a16) (hgp : el_Gp x2 a2) (hi : i < 40) (hK : K + 900 ≤ 1000000)
    (hk : ∀ (x2 f w h x : Int32) (b1 b2 b3 b4 b5 b6 b7 b8 b9 b10 b11 b12 b13 b14 b15 b16 b17 : Nat → Int32) (ld' : Nat) (G' : Nat → Nat → Int32) (M' : Nat) (B' C' L' T' : Nat → Nat), el_Top G' M' (K + 900) B' C' L' T' ld' f w h b1 b2 b3 b4 b7 b8 b9 b10 b11 b12 b13 b14 b15 b16 → el_Gp x2 b2 → wL_law_12 post Ln xs kc ks m x2 (nI (2 * (i + 1))) f w h x b1 b2 b3 b4 b5 b6 b7 b8 b9 b10 b11 b12 b13 b14 b15 b16 b17) : wL_law_12 post Ln xs kc ks (m + 1) x2 (nI (2 * i)) f w h x a1 a2 a3 a4 a5 a6 a7 a8 a9 a10 a11 a12 a13 a14 a15 a16 a17 := by
  unfold wL_law_12
  refine pk_le Ln (2 * i + 1) (fun _ => el_law701 hT hp1) (fun hl => ?_) rfl (nI_1 _)
  refine pk_le 80 (2 * i) (fun z => absurd z (by omega)) (fun _ => ?_)
  obtain ⟨kd, hkd, ek⟩ := el_mod (x := xs (2 * i)) (m := 255) 8 20 (by decide) (by omega) (by omega) (by omega)
  obtain ⟨nd, hnd, en⟩ := el_mod (x := xs (2 * i) >>> ((8 : Int32) &&& 31)) (m := 255) 8 5 (by decide) (by omega) (by omega) (by omega)
  obtain ⟨cd, hcd, ec⟩ := el_mod (x := xs (2 * i + 1)) (m := 2147483647) 31 72 (by decide) (by omega) (by omega) (by omega)
  have hs4 : cd / 6 % 4 < 4 := Nat.mod_lt _ (by omega)
  have e31 : nI (2 * i) + 1 = nI (2 * i + 1) := nI_1 _
  have c1 : (nI (2 * i) + 1).toNatClampNeg = 2 * i + 1 := by rw [e31, nI_clamp (by omega)]
  have hin : vp_in (nI (2 * i) + 1) Ln := by rw [e31]; exact vp_in_nI hl (by omega)
  rw [c1, nI_clamp (by omega)]
  refine ⟨vp_in_nI (by omega) (by omega), nm_e ⟨by decide, nm_r ek ⟨by decide, nm_r en ⟨hin, by decide, nm_r ec ⟨by decide, by decide, nm_r (el_ses hcd) ?_⟩⟩⟩⟩⟩
  have ec' : (xs (nI (2 * i) + 1).toNatClampNeg &&& 2147483647) - (xs (nI (2 * i) + 1).toNatClampNeg &&& 2147483647) / 72 * 72 = nI cd := by rw [c1]; exact ec
  refine el_lastNumber (n := 0) (by omega) hs4 ?_
  refine el_lastNumber (n := 3) (by omega) hs4 ⟨hin, ?_⟩
  have h40 := el_nu40 (x4 := xs (2 * i)) hi
  have step : ∀ K', K' ≤ K + 61 → ∀ (x2 f w h x : Int32) (b1 b2 b3 b4 b5 b6 b7 b8 b9 b10 b11 b12 b13 b14 b15 b16 b17 : Nat → Int32) (ld' : Nat) (G' : Nat → Nat → Int32) (M' : Nat) (B' C' L' T' : Nat → Nat), el_Top G' M' (K' + 660) B' C' L' T' ld' f w h b1 b2 b3 b4 b7 b8 b9 b10 b11 b12 b13 b14 b15 b16 → el_Gp x2 b2 → wL_law_12 post Ln xs kc ks m x2 (nI (2 * i) + 2) f w h x b1 b2 b3 b4 b5 b6 b7 b8 b9 b10 b11 b12 b13 b14 b15 b16 b17 := by
    intro K' hK' x2 f w h x b1 b2 b3 b4 b5 b6 b7 b8 b9 b10 b11 b12 b13 b14 b15 b16 b17 ld' G' M' B' C' L' T' t1 t2
    have e2 : nI (2 * i) + 2 = nI (2 * (i + 1)) := by
      rw [el_a2, show 2 * i + 2 = 2 * (i + 1) by omega]
    rw [e2]
    exact hk x2 f w h x b1 b2 b3 b4 b5 b6 b7 b8 b9 b10 b11 b12 b13 b14 b15 b16 b17 ld' G' M' B' C' L' T' (el_Top_K t1 (by omega) hK) t2
  -- what comes behind a turn
  have l167 : ∀ (K1 : Nat) (x2 r f' w' h' : Int32) (b1 b2 b3 b4 b5 b6 b7 b8 b9 b10 b11 b12 b13 b14 b15 b16 b17 : Nat → Int32) (ld' : Nat) (G' : Nat → Nat → Int32) (M' : Nat) (B' C' L' T' : Nat → Nat), K1 ≤ K + 61 → el_Top G' M' K1 B' C' L' T' ld' f' w' h' b1 b2 b3 b4 b7 b8 b9 b10 b11 b12 b13 b14 b15 b16 → el_Rel G M C G' M' C' → el_Gp x2 b2 → (17 ≤ kd → ¬ r ≤ 1 → 1 ≤ el_nu (xs (2 * i)) (nI (2 * i)) ∧ ∃ UB : Nat → Nat, nI (UB (cd / 6 % 4)) = el_nu (xs (2 * i)) (nI (2 * i)) ∧ el_Ub G' M' B' C' L' b10 UB) → (11 ≤ kd → kd < 17 → r = 0 → ld' < 5 ∧ 1 ≤ el_nu (xs (2 * i)) (nI (2 * i)) ∧ el_nu (xs (2 * i)) (nI (2 * i)) = el_ap G' M' (6 + cd / 6 % 4)) → wL_law_167 post Ln xs (wL_law_12 post Ln xs kc ks m) x2 (nI (2 * i)) (xs (2 * i)) (nI kd) 0 (nI cd) (nI (cd / 6 % 4)) (a12 (15 * 0 + (6 + cd / 6 % 4))) (a12 (15 * 3 + (6 + cd / 6 % 4))) r kc ks f' w' h' x b1 b2 b3 b4 b5 b6 b7 b8 b9 b10 b11 b12 b13 b14 b15 b16 b17 := by
    intro K1 x2 r f' w' h' b1 b2 b3 b4 b5 b6 b7 b8 b9 b10 b11 b12 b13 b14 b15 b16 b17 ld' G' M' B' C' L' T' hK1 t1 t2 t3 t4 t5
    exact el_law167 t1 t3 hkd hcd h40 (by omega) hin ek en ec' t4 t5 (el_rel_num hT t1 t2 (by omega) hs4) (el_rel_num hT t1 t2 (by omega) hs4) (step K1 hK1)
  by_cases k1 : kd < 11
  · -- nodes
    refine el_turnA hT (by omega) ek k1 en hnd ?_
    intro r f' w' h' b1 b2 b3 b4 b5 b6 b7 b8 b9 b10 b11 b12 b13 b14 b15 b16 b17 ld' G' M' B' C' L' T' t1 t2 t3
    have go : ∀ x2', el_Gp x2' b2 → wL_law_167 post Ln xs (wL_law_12 post Ln xs kc ks m) x2' (nI (2 * i)) (xs (2 * i)) (nI kd) 0 (nI cd) (nI (cd / 6 % 4)) (a12 (15 * 0 + (6 + cd / 6 % 4))) (a12 (15 * 3 + (6 + cd / 6 % 4))) r kc ks f' w' h' x b1 b2 b3 b4 b5 b6 b7 b8 b9 b10 b11 b12 b13 b14 b15 b16 b17 := by
      intro x2' hg
      exact l167 (K + 61) x2' r f' w' h' b1 b2 b3 b4 b5 b6 b7 b8 b9 b10 b11 b12 b13 b14 b15 b16 b17 ld' G' M' B' C' L' T' (Nat.le_refl _) t1 t2 hg (fun z => absurd z (by omega)) (fun z => absurd z (by omega))
    dsimp only
    refine pk_le kd 5 (fun y => ?_) (fun y => pk_le 9 kd (fun y2 => ?_) (fun y2 => br_c (fun y3 => ?_) (fun y3 => ?_)))
    · rcases t3 with ⟨_, e⟩ | ⟨z, _⟩
      · exact go x2 (by rw [e]; exact hgp)
      · omega
    · rcases t3 with ⟨_, e⟩ | ⟨_, z, _⟩
      · exact go x2 (by rw [e]; exact hgp)
      · omega
    · rcases t3 with ⟨z, _⟩ | ⟨_, _, ⟨_, g, hg, eg, e⟩ | ⟨z, _⟩⟩
      · omega
      · unfold wL_law_146
        rw [eg]
        exact nm_e (go _ (by rw [e]; exact el_Gp_set hgp hnd hg))
      · exact absurd y3 z
    · rcases t3 with ⟨z, _⟩ | ⟨_, _, ⟨z, _⟩ | ⟨_, e⟩⟩
      · omega
      · exact absurd z y3
      · unfold wL_law_146
        exact nm_e (go _ (by rw [e]; exact el_Gp_set (g := 0) hgp hnd (by omega)))
  · have br : ∀ (r : Int32) (A : Prop) (A1 A2 A3 : Prop), A → (nI kd ≤ 5 → A1) ∧ (¬ nI kd ≤ 5 → ((9 ≤ nI kd → A) ∧ (¬ 9 ≤ nI kd → A2 ∧ A3))) := by
      intro r A A1 A2 A3 hA
      exact pk_le kd 5 (fun y => absurd y (by omega)) (fun _ => pk_le 9 kd (fun _ => hA) (fun y => absurd y (by omega)))
    by_cases k2 : kd < 17
    · -- a command
      refine el_turnS ek (by omega) k2 en ec ?_
      refine el_submit hT hcd h40 (by omega) (fun r r1 r2 r3 r4 => ?_) ?_
      · refine br r _ _ _ _ ?_
        exact l167 K x2 r f w h _ _ _ _ _ _ _ _ _ _ _ _ _ _ _ _ _ ld G M B C L T (by omega) hT el_Rel_rfl hgp (fun z => absurd z (by omega)) (fun _ _ z => absurd z r1)
      · intro f' w' b3 b4 b5 b7 b8 b9 b10 b11 b12 b13 b14 b15 b16 b17 e B' C' L' T' s1 s2 s3 s4 w1 w2 w3 w4 w5 w6 t1 t2
        have hk6 : cd % 6 < 6 := Nat.mod_lt _ (by omega)
        have hkk : e 1 = 0 ∨ e 1 = 1 ∨ e 1 = 2 := by
          rw [w1]
          have : cd / 24 = 0 ∨ cd / 24 = 1 ∨ cd / 24 = 2 := by omega
          rcases this with z | z | z <;> rw [z]
          · exact Or.inl rfl
          · exact Or.inr (Or.inl rfl)
          · exact Or.inr (Or.inr rfl)
        have eN : el_nu (xs (2 * i)) (nI (2 * i)) = el_ap (el_ext G M e) (M + 1) (6 + cd / 6 % 4) := by
          rw [el_ext_apM, el_stp_cmd (s := el_ap G M) (e := e) hkk hs4 hk6 w2 w3, pk_un (by omega), pk_us, w4]
        dsimp only
        refine br 0 _ _ _ _ ?_
        exact l167 (K + 60) x2 0 f' w' h _ _ b3 b4 b5 _ b7 b8 b9 b10 b11 b12 b13 b14 b15 b16 b17 ld (el_ext G M e) (M + 1) B' C' L' T' (by omega) t1 t2 hgp (fun z => absurd z (by omega)) (fun _ _ _ => ⟨s1, s2, eN⟩)
    · -- a command whose leader stops
      refine el_turnP ek (by omega) hkd en ec ?_
      refine el_submitAndStop hT hcd h40 (by omega) (fun r r1 r2 => ?_) ?_
      · refine br r _ _ _ _ ?_
        exact l167 K x2 r f w h _ _ _ _ _ _ _ _ _ _ _ _ _ _ _ _ _ ld G M B C L T (by omega) hT el_Rel_rfl hgp (fun _ z => absurd r2 z) (fun _ z => absurd z (by omega))
      · intro r f' w' h' b1 b3 b4 b5 b6 b7 b8 b9 b10 b11 b12 b13 b14 b15 b16 b17 ld' G' M' B' C' L' T' s1 s2 s3 t1 t2 t3
        dsimp only
        refine br r _ _ _ _ ?_
        refine l167 (K + 60) x2 r f' w' h' b1 _ b3 b4 b5 b6 b7 b8 b9 b10 b11 b12 b13 b14 b15 b16 b17 ld' G' M' B' C' L' T' (by omega) t1 t2 hgp (fun _ _ => ⟨s2, ?_⟩) (fun _ z => absurd z (by omega))
        obtain ⟨v, hv, ev⟩ := nI_of2 (x := el_nu (xs (2 * i)) (nI (2 * i))) (M := 40) (n := 40) (by decide) (fun z => by
          have := Int32.lt_of_le_of_lt s2 z
          exact absurd this (by decide)) h40
        refine ⟨fun s => if s = cd / 6 % 4 then v else 40, by dsimp only; rw [if_pos rfl, ev], t3 _ (fun s hs => ?_) (by rw [if_pos rfl, ← ev]; exact Int32.le_refl _)⟩
        by_cases e : s = cd / 6 % 4
        · rw [if_pos e, ← ev, e]; exact s3
        · rw [if_neg e]
          obtain ⟨v', hv', e'⟩ := (el_wf_sta (el_TopC hT).1 M (Nat.le_refl _)).2 s hs
          rw [e']; exact nI_le hv' (by omega)
end
theorem i_vc (xs : Nat → Int32) (L : Nat) (hL : L ≤ 260) : wpL_law (fun r => r = 1) L xs := by
  unfold wpL_law
  refine ⟨17, 1850, by omega, by omega, ?_⟩
  refine el_init ?_
  intro f w h x a1 a2 a3 a4 a5 a6 a7 a8 a9 a10 a11 a12 a13 a14 a15 a16 a17 ld G M B C L' T hT h2
  refine pk_loop (fun m i (s : Int32 × St1) => wL_law_12 (fun r => r = 1) L xs (1 + 17) (21 + 1850) m s.1 (nI (2 * i)) s.2.1 s.2.2.1 s.2.2.2.1 s.2.2.2.2.1 s.2.2.2.2.2.1 s.2.2.2.2.2.2.1 s.2.2.2.2.2.2.2.1 s.2.2.2.2.2.2.2.2.1 s.2.2.2.2.2.2.2.2.2.1 s.2.2.2.2.2.2.2.2.2.2.1 s.2.2.2.2.2.2.2.2.2.2.2.1 s.2.2.2.2.2.2.2.2.2.2.2.2.1 s.2.2.2.2.2.2.2.2.2.2.2.2.2.1 s.2.2.2.2.2.2.2.2.2.2.2.2.2.2.1 s.2.2.2.2.2.2.2.2.2.2.2.2.2.2.2.1 s.2.2.2.2.2.2.2.2.2.2.2.2.2.2.2.2.1 s.2.2.2.2.2.2.2.2.2.2.2.2.2.2.2.2.2.1 s.2.2.2.2.2.2.2.2.2.2.2.2.2.2.2.2.2.2.1 s.2.2.2.2.2.2.2.2.2.2.2.2.2.2.2.2.2.2.2.1 s.2.2.2.2.2.2.2.2.2.2.2.2.2.2.2.2.2.2.2.2.1 s.2.2.2.2.2.2.2.2.2.2.2.2.2.2.2.2.2.2.2.2.2) (fun i s => ∃ (ld : Nat) (G : Nat → Nat → Int32) (M : Nat) (B C L' T : Nat → Nat), el_Top G M (60 + 900 * i) B C L' T ld s.2.1 s.2.2.1 s.2.2.2.1 s.2.2.2.2.2.1 s.2.2.2.2.2.2.1 s.2.2.2.2.2.2.2.1 s.2.2.2.2.2.2.2.2.1 s.2.2.2.2.2.2.2.2.2.2.2.1 s.2.2.2.2.2.2.2.2.2.2.2.2.1 s.2.2.2.2.2.2.2.2.2.2.2.2.2.1 s.2.2.2.2.2.2.2.2.2.2.2.2.2.2.1 s.2.2.2.2.2.2.2.2.2.2.2.2.2.2.2.1 s.2.2.2.2.2.2.2.2.2.2.2.2.2.2.2.2.1 s.2.2.2.2.2.2.2.2.2.2.2.2.2.2.2.2.2.1 s.2.2.2.2.2.2.2.2.2.2.2.2.2.2.2.2.2.2.1 s.2.2.2.2.2.2.2.2.2.2.2.2.2.2.2.2.2.2.2.1 s.2.2.2.2.2.2.2.2.2.2.2.2.2.2.2.2.2.2.2.2.1 ∧ el_Gp s.1 s.2.2.2.2.2.2.1) 40 0 (0, (f, w, h, x, a1, a2, a3, a4, a5, a6, a7, a8, a9, a10, a11, a12, a13, a14, a15, a16, a17)) (by omega) ⟨ld, G, M, B, C, L', T, hT, el_Gp_0 h2⟩ ?_ ?_
  · rintro m ⟨x2, ⟨f, w, h, x, a1, a2, a3, a4, a5, a6, a7, a8, a9, a10, a11, a12, a13, a14, a15, a16, a17⟩⟩ ⟨ld, G, M, B, C, L', T, g1, g2⟩
    unfold wL_law_12
    refine br_c (fun _ => el_law701 g1 rfl) (fun _ => br_c (fun _ => el_law701 g1 rfl) (fun z => absurd (by decide) z))
  · rintro m i ⟨x2, ⟨f, w, h, x, a1, a2, a3, a4, a5, a6, a7, a8, a9, a10, a11, a12, a13, a14, a15, a16, a17⟩⟩ hi ⟨ld, G, M, B, C, L', T, g1, g2⟩ hk
    refine el_law12 rfl hL g1 g2 hi (by omega) ?_
    intro x2' f' w' h' x' b1 b2 b3 b4 b5 b6 b7 b8 b9 b10 b11 b12 b13 b14 b15 b16 b17 ld' G' M' B' C' L2 T' t1 t2
    exact hk (x2', f', w', h', x', b1, b2, b3, b4, b5, b6, b7, b8, b9, b10, b11, b12, b13, b14, b15, b16, b17) ⟨ld', G', M', B', C', L2, T', by rw [show 60 + 900 * (i + 1) = 60 + 900 * i + 900 by omega]; exact t1, t2⟩
end
