section
/-! bits of an Int32 (this family began as rows of kit/laws/BITS.to-paste), then the picture -/
def vw_bt (x : Int32) (i : Nat) : Bool := x.toBitVec.getLsbD i
theorem vw_b_ext {x y : Int32} (h : ∀ i, i < 32 → vw_bt x i = vw_bt y i) : x = y := Int32.toBitVec_inj.mp (BitVec.eq_of_getLsbD_eq (fun i hi => h i hi))
theorem vw_b_or (x y : Int32) (i : Nat) : vw_bt (x ||| y) i = (vw_bt x i || vw_bt y i) := by unfold vw_bt; rw [Int32.toBitVec_or, BitVec.getLsbD_or]
theorem vw_b_and (x y : Int32) (i : Nat) : vw_bt (x &&& y) i = (vw_bt x i && vw_bt y i) := by unfold vw_bt; rw [Int32.toBitVec_and, BitVec.getLsbD_and]
theorem vw_b_255 : ∀ i, i < 8 → vw_bt 255 i = true := by decide +kernel
theorem vw_b_1 : ∀ i, i < 32 → vw_bt 1 i = decide (i = 0) := by decide +kernel
theorem vw_b_0 (i : Nat) : vw_bt 0 i = false := BitVec.getLsbD_zero
theorem vw_s_l : ∀ n, n < 32 → ((nI n &&& 31).toBitVec.smod 32).toNat = n := by decide +kernel
theorem vw_s_u : ∀ n, n < 32 → (((nI n).toUInt32 &&& Int32.toUInt32 31).toBitVec % 32).toNat = n := by decide +kernel
theorem vw_b_shl (n : Nat) (hn : n < 32) (x : Int32) {i : Nat} (hi : i < 32) : vw_bt (x <<< (nI n &&& 31)) i = (decide (n ≤ i) && vw_bt x (i - n)) := by
  unfold vw_bt
  rw [Int32.toBitVec_shiftLeft]
  show (x.toBitVec <<< ((nI n &&& 31).toBitVec.smod 32).toNat).getLsbD i = _
  rw [vw_s_l n hn, BitVec.getLsbD_shiftLeft]
  rcases Nat.lt_or_ge i n with h | h
  · simp [h, Nat.not_le.mpr h]
  · simp [hi, h, Nat.not_lt.mpr h]
theorem vw_b_ushr (n : Nat) (hn : n < 32) (x : Int32) (i : Nat) : vw_bt ((x.toUInt32 >>> ((nI n).toUInt32 &&& Int32.toUInt32 31)).toInt32) i = vw_bt x (n + i) := by
  show (x.toUInt32 >>> ((nI n).toUInt32 &&& Int32.toUInt32 31)).toBitVec.getLsbD i = x.toUInt32.toBitVec.getLsbD (n + i)
  rw [UInt32.toBitVec_shiftRight]
  show (x.toUInt32.toBitVec >>> (((nI n).toUInt32 &&& Int32.toUInt32 31).toBitVec % 32).toNat).getLsbD i = _
  rw [vw_s_u n hn, BitVec.getLsbD_ushiftRight]
theorem vw_b_sshr (n : Nat) (hn : n < 32) (x : Int32) {i : Nat} (hi : i < 32) : vw_bt (x >>> (nI n &&& 31)) i = if n + i < 32 then vw_bt x (n + i) else vw_bt x 31 := by
  unfold vw_bt
  rw [Int32.toBitVec_shiftRight]
  show (x.toBitVec.sshiftRight ((nI n &&& 31).toBitVec.smod 32).toNat).getLsbD i = _
  rw [vw_s_l n hn, BitVec.getLsbD_sshiftRight, BitVec.msb_eq_getLsbD_last]
  simp [hi]
/-- the low bit as an int -/
theorem vw_low (y : Int32) : y &&& 1 = nI (vw_bt y 0).toNat := by
  apply vw_b_ext
  intro i hi
  rw [vw_b_and, vw_b_1 i hi]
  cases hb : vw_bt y 0 with
  | false =>
    show _ = vw_bt 0 i
    rw [vw_b_0]
    by_cases e : i = 0
    · rw [e, hb]; rfl
    · rw [decide_eq_false e, Bool.and_false]
  | true =>
    show _ = vw_bt 1 i
    rw [vw_b_1 i hi]
    by_cases e : i = 0
    · rw [e, hb]; rfl
    · rw [decide_eq_false e, Bool.and_false]
theorem vw_ub (x : Int32) {v : Nat} (hv : v < 8) : ((x.toUInt32 >>> ((nI v).toUInt32 &&& Int32.toUInt32 31)).toInt32 &&& 1) = nI (vw_bt x v).toNat := by
  rw [vw_low, vw_b_ushr v (by omega), Nat.add_zero]
theorem vw_sb (x : Int32) {v : Nat} (hv : v < 8) : ((x >>> (nI v &&& 31)) &&& 1) = nI (vw_bt x v).toNat := by
  rw [vw_low, vw_b_sshr v (by omega) x (by omega), if_pos (by omega), Nat.add_zero]
/-- a branch on a truth value held as an int -/
theorem vw_sel {x : Int32} {A B : Prop} (b : Bool) (hx : x = nI b.toNat) (f : b = false → A) (g : b = true → B) : (x = 0 → A) ∧ (¬ x = 0 → B) := by
  subst hx
  cases b with
  | false => exact br_t rfl (f rfl)
  | true => exact br_f (by decide) (g rfl)
theorem vw_toI (x y : Int32) : x ≤ y ↔ x.toInt ≤ y.toInt := Int32.le_iff_toInt_le
/-- which bits below 8 a mask has -/
def vw_B (q : Nat → Bool) (x : Int32) : Prop := ∀ i, i < 8 → vw_bt x i = q i
theorem vw_B_or {q q' : Nat → Bool} {x : Int32} {v : Nat} (hv : v < 8) (h : vw_B q x) (hq : ∀ i, i < 8 → q' i = (q i || decide (i = v))) : vw_B q' (x ||| ((1 : Int32) <<< (nI v &&& 31))) := by
  intro i hi
  rw [vw_b_or, h i hi, hq i hi, vw_b_shl v (by omega) 1 (by omega), vw_b_1 (i - v) (by omega)]
  congr 1
  rw [← Bool.decide_and]
  exact decide_eq_decide.mpr (by omega)
theorem vw_B_congr {q q' : Nat → Bool} {x : Int32} (h : vw_B q x) (hq : ∀ i, i < 8 → q' i = q i) : vw_B q' x := fun i hi => by rw [h i hi, hq i hi]
/-- the stakes -/
def vw_S (s : Nat → Nat) (a1 : Nat → Int32) : Prop := ∀ v, v < 8 → s v ≤ 100 ∧ a1 v = nI (s v)
theorem vw_S_upd {s s' : Nat → Nat} {a1 : Nat → Int32} {v w : Nat} (h : vw_S s a1) (hw : w ≤ 100) (e : s' v = w) (ho : ∀ i, i < 8 → i ≠ v → s' i = s i) : vw_S s' (upd a1 v (nI w)) := by
  intro i hi
  by_cases ei : i = v
  · rw [ei, pk_us, e]
    exact ⟨hw, rfl⟩
  · rw [pk_un ei, ho i hi ei]
    exact h i hi
/-- what a set of validators holds -/
def vw_sm (q : Nat → Bool) (s : Nat → Nat) : Nat → Nat
  | 0 => 0
  | n + 1 => vw_sm q s n + (if q n = true then s n else 0)
theorem vw_sm_le {q : Nat → Bool} {s : Nat → Nat} : ∀ n, (∀ v, v < n → s v ≤ 100) → vw_sm q s n ≤ 100 * n := by
  intro n
  induction n with
  | zero => intro _; exact Nat.le_refl 0
  | succ n ih =>
    intro h
    have h1 := ih (fun v hv => h v (by omega))
    have h2 := h n (by omega)
    show vw_sm q s n + (if q n = true then s n else 0) ≤ _
    split <;> omega
theorem vw_sm_congr {q q' : Nat → Bool} {s s' : Nat → Nat} : ∀ n, (∀ v, v < n → q v = q' v) → (∀ v, v < n → s v = s' v) → vw_sm q s n = vw_sm q' s' n := by
  intro n
  induction n with
  | zero => intro _ _; rfl
  | succ n ih =>
    intro h h'
    show vw_sm q s n + (if q n = true then s n else 0) = vw_sm q' s' n + (if q' n = true then s' n else 0)
    rw [ih (fun v hv => h v (by omega)) (fun v hv => h' v (by omega)), h n (by omega), h' n (by omega)]
theorem vw_sm_none {q : Nat → Bool} {s : Nat → Nat} : ∀ n, (∀ v, v < n → q v = false) → vw_sm q s n = 0 := by
  intro n
  induction n with
  | zero => intro _; rfl
  | succ n ih =>
    intro h
    show vw_sm q s n + (if q n = true then s n else 0) = 0
    rw [ih (fun v hv => h v (by omega)), h n (by omega)]
    rfl
theorem vw_sm_zero {q : Nat → Bool} {s : Nat → Nat} : ∀ n, (∀ v, v < n → s v = 0) → vw_sm q s n = 0 := by
  intro n
  induction n with
  | zero => intro _; rfl
  | succ n ih =>
    intro h
    show vw_sm q s n + (if q n = true then s n else 0) = 0
    rw [ih (fun v hv => h v (by omega)), h n (by omega)]
    split <;> rfl
def vw_tot (s : Nat → Nat) : Nat := vw_sm (fun _ => true) s 8
/-- more than two thirds -/
def vw_sp (s : Nat → Nat) (q : Nat → Bool) : Bool := decide (2 * vw_tot s < 3 * vw_sm q s 8)
theorem vw_S_le {s : Nat → Nat} {a1 : Nat → Int32} (h : vw_S s a1) (q : Nat → Bool) : vw_sm q s 8 ≤ 800 := vw_sm_le 8 (fun v hv => (h v hv).1)
theorem vw_sp_none {s : Nat → Nat} {q : Nat → Bool} (h : ∀ v, v < 8 → q v = false) : vw_sp s q = false := by
  unfold vw_sp
  rw [vw_sm_none 8 h]
  exact decide_eq_false (by omega)
/-- the three kinds of link: 0 to t, t to 8, 0 to 10 -/
def vw_src (t c : Nat) : Nat := if c = 1 then t else 0
def vw_tgt (t c : Nat) : Nat := if c = 0 then t else if c = 1 then 8 else 10
/-- the table of links: n of them, the kinds in rising order, with the voters of each -/
def vw_L (t : Nat) (p : Nat → Nat → Bool) (n : Nat) (kd : Nat → Nat) (a6 a7 a8 : Nat → Int32) : Prop :=
  (∀ j, j < n → kd j < 3) ∧ (∀ i j, i < j → j < n → kd i < kd j) ∧ (∀ j, j < n → a6 j = nI (vw_src t (kd j)) ∧ a7 j = nI (vw_tgt t (kd j)) ∧ vw_B (p (kd j)) (a8 j)) ∧ (∀ c, c < 3 → (∀ j, j < n → kd j ≠ c) → ∀ v, v < 8 → p c v = false)
theorem vw_n3 {n : Nat} {kd : Nat → Nat} (h1 : ∀ j, j < n → kd j < 3) (h2 : ∀ i j, i < j → j < n → kd i < kd j) : n ≤ 3 := by
  rcases Nat.lt_or_ge 3 n with h | h
  · have e1 := h2 0 1 (by omega) (by omega)
    have e2 := h2 1 2 (by omega) (by omega)
    have e3 := h2 2 3 (by omega) (by omega)
    have e4 := h1 3 h
    omega
  · exact h
theorem vw_L_n {t n : Nat} {p : Nat → Nat → Bool} {kd : Nat → Nat} {a6 a7 a8 : Nat → Int32} (h : vw_L t p n kd a6 a7 a8) : n ≤ 3 := vw_n3 h.1 h.2.1
theorem vw_tgt_lt {t c d : Nat} (ht : 4 ≤ t ∧ t ≤ 6) (hc : c < 3) (hd : d < 3) : vw_tgt t c ≤ vw_tgt t d ↔ c ≤ d := by
  unfold vw_tgt
  repeat' split
  all_goals omega
theorem vw_tgt_in {t c : Nat} (ht : 4 ≤ t ∧ t ≤ 6) (hc : c < 3) : 4 ≤ vw_tgt t c ∧ vw_tgt t c ≤ 10 ∧ vw_tgt t c % 4 ≠ 3 := by
  unfold vw_tgt
  repeat' split
  all_goals omega
theorem vw_src_in {t c : Nat} (ht : 4 ≤ t ∧ t ≤ 6) (hc : c < 3) : vw_src t c ≤ 6 ∧ vw_src t c % 4 ≠ 3 := by
  unfold vw_src
  repeat' split
  all_goals omega
theorem vw_tgt_inj {t c d : Nat} (ht : 4 ≤ t ∧ t ≤ 6) (hc : c < 3) (hd : d < 3) (e : nI (vw_tgt t c) = nI (vw_tgt t d)) : c = d := by
  have h1 := vw_tgt_in ht hc
  have h2 := vw_tgt_in ht hd
  rw [nI_eq (by omega) (by omega)] at e
  have h3 := (vw_tgt_lt ht hc hd).mp (by omega)
  have h4 := (vw_tgt_lt ht hd hc).mp (by omega)
  omega
/-- one more voter of a kind -/
def vw_up (p : Nat → Nat → Bool) (c v : Nat) : Nat → Nat → Bool := fun d i => p d i || decide (d = c ∧ i = v)
theorem vw_up_o {p : Nat → Nat → Bool} {c v d : Nat} (h : d ≠ c) : vw_up p c v d = p d := by
  funext i
  unfold vw_up
  rw [decide_eq_false (fun z => h z.1), Bool.or_false]
theorem vw_up_s {p : Nat → Nat → Bool} {c v : Nat} (i : Nat) : vw_up p c v c i = (p c i || decide (i = v)) := by
  unfold vw_up
  congr 1
  exact decide_eq_decide.mpr ⟨fun z => z.2, fun z => ⟨rfl, z⟩⟩
theorem vw_up_n {p : Nat → Nat → Bool} {c v i : Nat} (h : i ≠ v) (d : Nat) : vw_up p c v d i = p d i := by
  unfold vw_up
  rw [decide_eq_false (fun z => h z.2), Bool.or_false]
theorem vw_up_t {p : Nat → Nat → Bool} {c v : Nat} : vw_up p c v c v = true := by
  rw [vw_up_s, decide_eq_true rfl, Bool.or_true]
theorem vw_L_put {t n k c v : Nat} {p : Nat → Nat → Bool} {kd : Nat → Nat} {a6 a7 a8 : Nat → Int32} (h : vw_L t p n kd a6 a7 a8) (hk : k < n) (hc : kd k = c) (hv : v < 8) :
    vw_L t (vw_up p c v) n kd a6 a7 (upd a8 k (a8 k ||| ((1 : Int32) <<< (nI v &&& 31)))) := by
  obtain ⟨h1, h2, h3, h4⟩ := h
  refine ⟨h1, h2, fun j hj => ⟨(h3 j hj).1, (h3 j hj).2.1, ?_⟩, fun d hd hn => ?_⟩
  · by_cases e : j = k
    · rw [e, pk_us, hc]
      have hb := (h3 k hk).2.2
      rw [hc] at hb
      exact vw_B_or hv hb (fun i _ => vw_up_s i)
    · rw [pk_un e, vw_up_o]
      · exact (h3 j hj).2.2
      · rw [← hc]
        rcases Nat.lt_or_gt_of_ne e with z | z
        · have := h2 j k z hk
          omega
        · have := h2 k j z hj
          omega
  · have hdc : d ≠ c := fun z => hn k hk (by rw [hc, z])
    rw [vw_up_o hdc]
    exact h4 d hd hn
end
section
/-! the small methods -/
theorem vw_cell {post : Int32 → Prop} {L : Nat} {xs : Nat → Int32} (hL : L ≤ 5) (c : Nat) {x : Int32} (hc : c < 5) (H : ∀ r, post r) (hx : x = nI c := by rfl) : wpL_cellAt post L xs () x := by
  subst hx
  unfold wpL_cellAt
  exact pk_le L c (fun _ => H _) (fun z => ⟨pk_in c L z, H _⟩)
theorem vw_val {post : Int32 → Prop} {v : Nat} (hv : v < 8) (H : post 1) : wpX_isValidator post () (nI v) := by
  unfold wpX_isValidator
  exact br_f (nI_pos (by omega)) (pk_lt 7 v (fun z => absurd z (by omega)) (fun _ => H))
theorem vw_cp {post : Int32 → Prop} {c : Nat} (hc : c ≤ 126) (hm : c % 4 ≠ 3) (H : post 1) : wpX_isCheckpoint post () (nI c) := by
  unfold wpX_isCheckpoint
  refine br_f (nI_pos (by omega)) (pk_lt 126 c (fun z => absurd z (by omega)) (fun _ => ?_))
  refine br_f ?_ H
  rw [pk_andN (n := c) (m := 3) (by omega) 2 (by decide)]
  intro e
  have e' : nI (c % 2 ^ 2) = nI 3 := e
  rw [nI_eq (by omega) (by omega)] at e'
  omega
theorem vw_cp7 {post : Int32 → Prop} (H : post 0) : wpX_isCheckpoint post () 7 := by
  unfold wpX_isCheckpoint
  exact br_f (by decide) (br_f (by decide) (br_t (by decide) H))
theorem vw_linkOf {post : Int32 → Prop} {o h kn : Int32} {a1 a2 a3 a4 a5 a6 a7 a8 a9 : Nat → Int32} {n : Nat} {x y : Int32} (hn : n ≤ 64)
    (H1 : ∀ k, k < n → a6 k = x → a7 k = y → post (nI k)) (H2 : (∀ k, k < n → ¬ (a6 k = x ∧ a7 k = y)) → post (-1)) : wpX_linkOf post (o, h, nI n, kn, a1, a2, a3, a4, a5, a6, a7, a8, a9) x y := by
  unfold wpX_linkOf
  refine pk_loop (σ := Unit) (fun m i _ => wX_linkOf_2 post x y o h (nI n) kn a1 a2 a3 a4 a5 a6 a7 a8 a9 m (nI i)) (fun i _ => ∀ k, k < i → ¬ (a6 k = x ∧ a7 k = y)) n 0 () (by omega) (fun k hk => absurd hk (by omega)) ?_ ?_
  · intro m _ h
    exact pk_le n n (fun _ => H2 h) (fun z => absurd z (by omega))
  · intro m i _ hi h hw
    refine pk_le n i (fun z => absurd z (by omega)) (fun _ => ⟨pk_in i 64 (by omega), ?_⟩)
    rw [nI_clamp (show i < 2 ^ 31 by omega)]
    refine br_c (fun e => ⟨pk_in i 64 (by omega), br_c (fun e2 => H1 i hi e e2) (fun e2 => nm_r (nI_1 i) (hw () ?_))⟩) (fun e => nm_r (nI_1 i) (hw () ?_))
    · exact lt_s h (fun z => e2 z.2)
    · exact lt_s h (fun z => e z.1)
theorem vw_stakes {post : Int32 → Prop} {o h l kn : Int32} {a1 a2 a3 a4 a5 a6 a7 a8 a9 : Nat → Int32} {s : Nat → Nat} {q : Nat → Bool} {x : Int32} (hs : vw_S s a1) (hq : vw_B q x) (H : post (nI (vw_sm q s 8))) : wpX_stakes post (o, h, l, kn, a1, a2, a3, a4, a5, a6, a7, a8, a9) x := by
  unfold wpX_stakes
  refine pk_loop (σ := Int32) (fun m i z => wX_stakes_4 post x o h l kn a1 a2 a3 a4 a5 a6 a7 a8 a9 m z (nI i)) (fun i z => z = nI (vw_sm q s i)) 8 0 0 (by omega) rfl ?_ ?_
  · intro m z h
    refine pk_le 8 8 (fun _ => ?_) (fun z => absurd z (by omega))
    rw [h]
    exact H
  · intro m i z hi h hw
    refine pk_le 8 i (fun z => absurd z (by omega)) (fun _ => ?_)
    refine vw_sel (q i) (by rw [vw_ub x hi, hq i hi]) (fun e => ?_) (fun e => ⟨pk_in i 8 hi, ?_⟩)
    · refine nm_r (e' := nI (vw_sm q s (i + 1))) ?_ (nm_r (nI_1 i) (hw _ rfl))
      rw [h]
      show nI (vw_sm q s i) + nI 0 = nI (vw_sm q s i + (if q i = true then s i else 0))
      rw [e, nI_add]
      rfl
    · refine nm_r (e' := nI (vw_sm q s (i + 1))) ?_ (nm_r (nI_1 i) (hw _ rfl))
      rw [h, nI_clamp (show i < 2 ^ 31 by omega), (hs i hi).2, nI_add]
      show _ = nI (vw_sm q s i + (if q i = true then s i else 0))
      rw [e, if_pos rfl]
theorem vw_isSup {post : Int32 → Prop} {o h l kn : Int32} {a1 a2 a3 a4 a5 a6 a7 a8 a9 : Nat → Int32} {s : Nat → Nat} {q : Nat → Bool} {k : Nat} (hs : vw_S s a1) (hk : k < 64) (hq : vw_B q (a8 k)) (H : post (nI (vw_sp s q).toNat)) : wpX_isSupported post (o, h, l, kn, a1, a2, a3, a4, a5, a6, a7, a8, a9) (nI k) := by
  unfold wpX_isSupported
  refine vw_stakes hs (q := fun _ => true) (fun i hi => vw_b_255 i hi) ⟨pk_in k 64 hk, ?_⟩
  rw [nI_clamp (show k < 2 ^ 31 by omega)]
  refine vw_stakes hs hq ?_
  have b1 := vw_S_le hs (fun _ => true)
  have b2 := vw_S_le hs q
  refine pk_le (3 * vw_sm q s 8) (2 * vw_sm (fun _ => true) s 8) (fun z => ?_) (fun z => ?_) (pk_mul 3 _) (pk_mul 2 _)
  · have e : vw_sp s q = false := decide_eq_false (show ¬ 2 * vw_sm (fun _ => true) s 8 < 3 * vw_sm q s 8 by omega)
    rw [e] at H
    exact H
  · have e : vw_sp s q = true := decide_eq_true (show 2 * vw_sm (fun _ => true) s 8 < 3 * vw_sm q s 8 by omega)
    rw [e] at H
    exact H
theorem vw_support {post : Int32 → Prop} {t n c : Nat} {p : Nat → Nat → Bool} {kd : Nat → Nat} {s : Nat → Nat} {o h kn : Int32} {a1 a2 a3 a4 a5 a6 a7 a8 a9 : Nat → Int32} {x y : Int32} (ht : 4 ≤ t ∧ t ≤ 6) (hs : vw_S s a1) (hl : vw_L t p n kd a6 a7 a8) (hc : c < 3)
    (hx : x = nI (vw_src t c)) (hy : y = nI (vw_tgt t c)) (H : post (nI (vw_sm (p c) s 8))) : wpX_support post (o, h, nI n, kn, a1, a2, a3, a4, a5, a6, a7, a8, a9) x y := by
  have hn := vw_L_n hl
  obtain ⟨l1, l2, l3, l4⟩ := hl
  unfold wpX_support
  refine vw_linkOf (by omega) (fun k hk e1 e2 => ?_) (fun hno => ?_)
  · have ek : kd k = c := by
      rw [(l3 k hk).2.1, hy] at e2
      exact vw_tgt_inj ht (l1 k hk) hc e2
    refine br_t (nI_pos' (by omega)) ⟨pk_in k 64 (by omega), ?_⟩
    rw [nI_clamp (show k < 2 ^ 31 by omega)]
    have hb := (l3 k hk).2.2
    rw [ek] at hb
    exact vw_stakes hs hb H
  · refine br_f (by decide) ?_
    have e0 : vw_sm (p c) s 8 = 0 := by
      refine vw_sm_none 8 (l4 c hc (fun j hj e => hno j hj ?_))
      rw [(l3 j hj).1, (l3 j hj).2.1, e, hx, hy]
      exact ⟨rfl, rfl⟩
    rw [e0] at H
    exact H
theorem vw_support9 {post : Int32 → Prop} {t n : Nat} {p : Nat → Nat → Bool} {kd : Nat → Nat} {o h kn : Int32} {a1 a2 a3 a4 a5 a6 a7 a8 a9 : Nat → Int32} (ht : 4 ≤ t ∧ t ≤ 6) (hl : vw_L t p n kd a6 a7 a8) (H : post 0) : wpX_support post (o, h, nI n, kn, a1, a2, a3, a4, a5, a6, a7, a8, a9) 0 9 := by
  have hn := vw_L_n hl
  obtain ⟨l1, l2, l3, l4⟩ := hl
  unfold wpX_support
  refine vw_linkOf (by omega) (fun k hk e1 e2 => ?_) (fun hno => br_f (by decide) H)
  exfalso
  rw [(l3 k hk).2.1] at e2
  have h1 := vw_tgt_in ht (l1 k hk)
  have e3 : nI (vw_tgt t (kd k)) = nI 9 := e2
  rw [nI_eq (by omega) (by omega)] at e3
  have h2 : vw_tgt t (kd k) ≠ 9 := by
    unfold vw_tgt
    repeat' split
    all_goals omega
  exact h2 e3
theorem vw_stake {post : Int32 → St2 → Prop} {o h l kn : Int32} {a1 a2 a3 a4 a5 a6 a7 a8 a9 : Nat → Int32} {v w : Nat} {x y : Int32} (hv : v < 8) (hw : w ≤ 100) (hx : x = nI v) (hy : y = nI w) (H : post (a1 v) (o, h, l, 0, upd a1 v (nI w), a2, a3, a4, a5, a6, a7, a8, a9)) : wpX_stake post (o, h, l, kn, a1, a2, a3, a4, a5, a6, a7, a8, a9) x y := by
  subst hx hy
  unfold wpX_stake
  refine vw_val hv (br_f (by decide) ⟨pk_in v 8 hv, nm_e ?_⟩)
  rw [nI_clamp (show v < 2 ^ 31 by omega)]
  exact br_t (nI_pos' (by omega)) (pk_le w 100 (fun _ => ⟨pk_in v 8 hv, nm_e H⟩) (fun z => absurd z (by omega)))
theorem vw_offender {post : Int32 → Prop} {o h l kn : Int32} {a1 a2 a3 a4 a5 a6 a7 a8 a9 : Nat → Int32} {v : Nat} {q : Nat → Bool} (hv : v < 8) (hq : vw_B q o) (H : post (nI (q v).toNat)) : wpX_offender post (o, h, l, kn, a1, a2, a3, a4, a5, a6, a7, a8, a9) (nI v) := by
  unfold wpX_offender
  refine vw_val hv (br_f (by decide) ?_)
  rw [vw_ub o hv, hq v hv]
  exact H
theorem vw_offended {post : Int32 → Prop} {o h l kn : Int32} {a1 a2 a3 a4 a5 a6 a7 a8 a9 : Nat → Int32} {s : Nat → Nat} {q : Nat → Bool} (hs : vw_S s a1) (hq : vw_B q o) (H : post (nI (vw_sm q s 8))) : wpX_offended post (o, h, l, kn, a1, a2, a3, a4, a5, a6, a7, a8, a9) := by
  unfold wpX_offended
  exact vw_stakes hs hq H
end
section
/-! justification -/
def vw_J (t : Nat) (s : Nat → Nat) (p : Nat → Nat → Bool) (m x : Nat) : Bool :=
  decide (x = 0) || (decide (x = t ∧ 0 < m) && vw_sp s (p 0)) || (decide (x = 8 ∧ 1 < m) && vw_sp s (p 0) && vw_sp s (p 1)) || (decide (x = 10 ∧ 2 < m) && vw_sp s (p 2))
def vw_A (t : Nat) (s : Nat → Nat) (p : Nat → Nat → Bool) (m : Nat) (a9 : Nat → Int32) : Prop := ∀ x, x < 128 → a9 x = nI (vw_J t s p m x).toNat
theorem vw_J_0 {t : Nat} {s : Nat → Nat} {p : Nat → Nat → Bool} (x : Nat) : vw_J t s p 0 x = decide (x = 0) := by
  unfold vw_J
  simp
theorem vw_J_step {t : Nat} {s : Nat → Nat} {p : Nat → Nat → Bool} {c : Nat} (ht : 4 ≤ t ∧ t ≤ 6) (hc : c < 3) (x : Nat) :
    vw_J t s p (c + 1) x = (vw_J t s p c x || (decide (x = vw_tgt t c) && vw_J t s p c (vw_src t c) && vw_sp s (p c))) := by
  rcases (by omega : c = 0 ∨ c = 1 ∨ c = 2) with e | e | e
  · subst e
    have e1 : vw_tgt t 0 = t := rfl
    have e2 : vw_src t 0 = 0 := rfl
    rw [e1, e2]
    unfold vw_J
    generalize vw_sp s (p 0) = b0
    generalize vw_sp s (p 1) = b1
    generalize vw_sp s (p 2) = b2
    rw [Bool.eq_iff_iff]
    cases b0 <;> cases b1 <;> cases b2 <;> simp <;> omega
  · subst e
    have e1 : vw_tgt t 1 = 8 := rfl
    have e2 : vw_src t 1 = t := rfl
    rw [e1, e2]
    unfold vw_J
    generalize vw_sp s (p 0) = b0
    generalize vw_sp s (p 1) = b1
    generalize vw_sp s (p 2) = b2
    rw [Bool.eq_iff_iff]
    cases b0 <;> cases b1 <;> cases b2 <;> simp <;> omega
  · subst e
    have e1 : vw_tgt t 2 = 10 := rfl
    have e2 : vw_src t 2 = 0 := rfl
    rw [e1, e2]
    unfold vw_J
    generalize vw_sp s (p 0) = b0
    generalize vw_sp s (p 1) = b1
    generalize vw_sp s (p 2) = b2
    rw [Bool.eq_iff_iff]
    cases b0 <;> cases b1 <;> cases b2 <;> simp <;> omega
theorem vw_A_same {t : Nat} {s : Nat → Nat} {p : Nat → Nat → Bool} {c : Nat} {a9 : Nat → Int32} (ht : 4 ≤ t ∧ t ≤ 6) (hc : c < 3) (h : vw_A t s p c a9) (hz : (vw_J t s p c (vw_src t c) && vw_sp s (p c)) = false) : vw_A t s p (c + 1) a9 := by
  intro x hx
  rw [h x hx, vw_J_step ht hc, Bool.and_assoc, hz, Bool.and_false, Bool.or_false]
theorem vw_A_set {t : Nat} {s : Nat → Nat} {p : Nat → Nat → Bool} {c : Nat} {a9 : Nat → Int32} (ht : 4 ≤ t ∧ t ≤ 6) (hc : c < 3) (h : vw_A t s p c a9) (h1 : vw_J t s p c (vw_src t c) = true) (h2 : vw_sp s (p c) = true) : vw_A t s p (c + 1) (upd a9 (vw_tgt t c) 1) := by
  intro x hx
  rw [vw_J_step ht hc, h1, h2, Bool.and_true, Bool.and_true]
  by_cases e : x = vw_tgt t c
  · rw [e, pk_us, decide_eq_true rfl, Bool.or_true]
    rfl
  · rw [pk_un e, decide_eq_false e, Bool.or_false]
    exact h x hx
theorem vw_A_skip {t : Nat} {s : Nat → Nat} {p : Nat → Nat → Bool} {m : Nat} {a9 : Nat → Int32} (ht : 4 ≤ t ∧ t ≤ 6) (h : vw_A t s p m a9) : ∀ d, m + d ≤ 3 → (∀ c, m ≤ c → c < m + d → vw_sp s (p c) = false) → vw_A t s p (m + d) a9 := by
  intro d
  induction d with
  | zero => intro _ _; exact h
  | succ d ih =>
    intro h1 h2
    have h3 := ih (by omega) (fun c c1 c2 => h2 c c1 (by omega))
    exact vw_A_same (c := m + d) ht (by omega) h3 (by rw [h2 (m + d) (by omega) (by omega), Bool.and_false])
theorem vw_A_to {t : Nat} {s : Nat → Nat} {p : Nat → Nat → Bool} {m m' : Nat} {a9 : Nat → Int32} (ht : 4 ≤ t ∧ t ≤ 6) (h : vw_A t s p m a9) (h1 : m ≤ m') (h2 : m' ≤ 3) (h3 : ∀ c, m ≤ c → c < m' → vw_sp s (p c) = false) : vw_A t s p m' a9 := by
  have h4 := vw_A_skip ht h (m' - m) (by omega) (fun c c1 c2 => h3 c c1 (by omega))
  rw [show m + (m' - m) = m' by omega] at h4
  exact h4
theorem vw_fill {f s : Nat → Int32} {i : Nat} {x : Int32} (h : ∀ j, j < i → s j = f j) (hx : x = f i) : ∀ j, j < i + 1 → upd s i x j = f j := by
  intro j hj
  by_cases e : j = i
  · rw [e, pk_us, hx]
  · rw [pk_un e]
    exact h j (by omega)
theorem vw_L_abs {t n : Nat} {s : Nat → Nat} {p : Nat → Nat → Bool} {kd : Nat → Nat} {a6 a7 a8 : Nat → Int32} (hl : vw_L t p n kd a6 a7 a8) {c : Nat} (hc : c < 3) (h : ∀ j, j < n → kd j ≠ c) : vw_sp s (p c) = false := vw_sp_none (hl.2.2.2 c hc h)
theorem vw_jall45 {post : St2 → Prop} {t n : Nat} {p : Nat → Nat → Bool} {kd : Nat → Nat} {s : Nat → Nat} {o h kn : Int32} {a1 a2 a3 a4 a5 a6 a7 a8 a9 : Nat → Int32} (ht : 4 ≤ t ∧ t ≤ 6) (hs : vw_S s a1) (hl : vw_L t p n kd a6 a7 a8) (h0 : vw_A t s p 0 a9)
    (H : ∀ b9, vw_A t s p 3 b9 → post (o, h, nI n, kn, a1, a2, a3, a4, a5, a6, a7, a8, b9)) : ∃ m, wX_justifyAll_45 post o h (nI n) kn m 0 a1 a2 a3 a4 a5 a6 a7 a8 a9 := by
  have hn := vw_L_n hl
  have ha : ∀ c, c < 3 → (∀ j, j < n → kd j ≠ c) → vw_sp s (p c) = false := fun c hc h => vw_L_abs hl hc h
  obtain ⟨l1, l2, l3, l4⟩ := hl
  refine pk_loop (σ := Nat → Int32) (fun m i b9 => wX_justifyAll_45 post o h (nI n) kn m (nI i) a1 a2 a3 a4 a5 a6 a7 a8 b9) (fun i b9 => ∃ m, m ≤ 3 ∧ vw_A t s p m b9 ∧ (∀ j, j < i → kd j < m) ∧ (∀ j, i ≤ j → j < n → m ≤ kd j)) n 0 a9 (by omega) ⟨0, by omega, h0, fun j hj => absurd hj (by omega), fun j _ _ => by omega⟩ ?_ ?_
  · intro f b9 h
    obtain ⟨m, m1, m2, m3, m4⟩ := h
    refine pk_le n n (fun _ => H b9 (vw_A_to ht m2 m1 (by omega) (fun c c1 c2 => ha c c2 (fun j hj e => ?_)))) (fun z => absurd z (by omega))
    have := m3 j hj
    omega
  · intro f i b9 hi h hw
    obtain ⟨m, m1, m2, m3, m4⟩ := h
    have hc := l1 i hi
    have hA : vw_A t s p (kd i) b9 := by
      refine vw_A_to ht m2 (m4 i (by omega) hi) (by omega) (fun c c1 c2 => ha c (by omega) (fun j hj e => ?_))
      rcases Nat.lt_or_ge j i with z | z
      · have := m3 j z
        omega
      · rcases Nat.lt_or_ge i j with z2 | z2
        · have := l2 i j z2 hj
          omega
        · have : j = i := by omega
          subst this
          omega
    have hI : ∀ b9', vw_A t s p (kd i + 1) b9' → ∃ m, m ≤ 3 ∧ vw_A t s p m b9' ∧ (∀ j, j < i + 1 → kd j < m) ∧ (∀ j, i + 1 ≤ j → j < n → m ≤ kd j) := by
      intro b9' hb
      refine ⟨kd i + 1, by omega, hb, fun j hj => ?_, fun j hj hj2 => ?_⟩
      · rcases Nat.lt_or_ge j i with z | z
        · have := l2 j i z hi
          omega
        · have : j = i := by omega
          subst this
          omega
      · have := l2 i j (by omega) hj2
        omega
    have i1 := vw_src_in ht hc
    have i2 := vw_tgt_in ht hc
    refine pk_le n i (fun z => absurd z (by omega)) (fun _ => ⟨pk_in i 64 (by omega), ?_⟩)
    rw [nI_clamp (show i < 2 ^ 31 by omega), (l3 i hi).1, (l3 i hi).2.1, nI_clamp (show vw_src t (kd i) < 2 ^ 31 by omega), nI_clamp (show vw_tgt t (kd i) < 2 ^ 31 by omega)]
    refine ⟨pk_in _ 128 (show vw_src t (kd i) < 128 by omega), vw_sel (vw_J t s p (kd i) (vw_src t (kd i))) (hA _ (by omega)) (fun e => nm_r (nI_1 i) (hw b9 (hI b9 ?_))) (fun e => ?_)⟩
    · exact vw_A_same ht hc hA (by rw [e, Bool.false_and])
    · refine vw_isSup hs (by omega) (l3 i hi).2.2 (vw_sel (vw_sp s (p (kd i))) rfl (fun e2 => nm_r (nI_1 i) (hw b9 (hI b9 ?_))) (fun e2 => ⟨pk_in i 64 (by omega), pk_in _ 128 (show vw_tgt t (kd i) < 128 by omega), nm_e (nm_r (nI_1 i) (hw _ (hI _ ?_)))⟩))
      · exact vw_A_same ht hc hA (by rw [e2, Bool.and_false])
      · exact vw_A_set ht hc hA e e2
theorem vw_jall {post : St2 → Prop} {t n : Nat} {p : Nat → Nat → Bool} {kd : Nat → Nat} {s : Nat → Nat} {o h kn : Int32} {a1 a2 a3 a4 a5 a6 a7 a8 a9 : Nat → Int32} (ht : 4 ≤ t ∧ t ≤ 6) (hs : vw_S s a1) (hl : vw_L t p n kd a6 a7 a8) (hk : kn = 0 ∨ (kn = 1 ∧ vw_A t s p 3 a9))
    (H : ∀ b9, vw_A t s p 3 b9 → post (o, h, nI n, 1, a1, a2, a3, a4, a5, a6, a7, a8, b9)) : wpX_justifyAll post (o, h, nI n, kn, a1, a2, a3, a4, a5, a6, a7, a8, a9) := by
  unfold wpX_justifyAll
  rcases hk with hk | ⟨hk, hA⟩
  · refine br_t hk ?_
    refine pk_loop (σ := Nat → Int32) (fun m i b9 => wX_justifyAll_15 post o h (nI n) 1 m (nI i) a1 a2 a3 a4 a5 a6 a7 a8 b9) (fun i b9 => ∀ x, x < i → b9 x = nI (vw_J t s p 0 x).toNat) 128 0 a9 (by omega) (fun x hx => absurd hx (by omega)) ?_ ?_
    · intro f b9 h
      exact pk_le 128 128 (fun _ => vw_jall45 ht hs hl h H) (fun z => absurd z (by omega))
    · intro f i b9 hi h hw
      refine pk_le 128 i (fun z => absurd z (by omega)) (fun _ => ?_)
      rw [nI_clamp (show i < 2 ^ 31 by omega)]
      refine pk_eq i 0 (fun e => ⟨pk_in i 128 hi, nm_e (nm_r (nI_1 i) (hw _ (vw_fill (f := fun x => nI (vw_J t s p 0 x).toNat) h ?_)))⟩) (fun e => ⟨pk_in i 128 hi, nm_e (nm_r (nI_1 i) (hw _ (vw_fill (f := fun x => nI (vw_J t s p 0 x).toNat) h ?_)))⟩)
      · show 1 = nI (vw_J t s p 0 i).toNat
        rw [vw_J_0, decide_eq_true e]
        rfl
      · show 0 = nI (vw_J t s p 0 i).toNat
        rw [vw_J_0, decide_eq_false e]
        rfl
  · subst hk
    exact br_f (by decide) (H a9 hA)
theorem vw_justified {post : Int32 → St2 → Prop} {t n c : Nat} {p : Nat → Nat → Bool} {kd : Nat → Nat} {s : Nat → Nat} {o h kn : Int32} {a1 a2 a3 a4 a5 a6 a7 a8 a9 : Nat → Int32} {x : Int32} (ht : 4 ≤ t ∧ t ≤ 6) (hs : vw_S s a1) (hl : vw_L t p n kd a6 a7 a8) (hk : kn = 0 ∨ (kn = 1 ∧ vw_A t s p 3 a9)) (hx : x = nI c) (hc : c ≤ 126) (hm : c % 4 ≠ 3)
    (H : ∀ b9, vw_A t s p 3 b9 → post (nI (vw_J t s p 3 c).toNat) (o, h, nI n, 1, a1, a2, a3, a4, a5, a6, a7, a8, b9)) : wpX_justified post (o, h, nI n, kn, a1, a2, a3, a4, a5, a6, a7, a8, a9) x := by
  subst hx
  unfold wpX_justified
  refine vw_cp hc hm (br_f (by decide) (vw_jall ht hs hl hk (fun b9 hb => ?_)))
  refine ⟨pk_in c 128 (by omega), ?_⟩
  have h := H b9 hb
  rw [nI_clamp (show c < 2 ^ 31 by omega)]
  refine vw_sel (vw_J t s p 3 c) (hb c (by omega)) (fun e => ?_) (fun e => ?_)
  · rw [e] at h
    exact h
  · rw [e] at h
    exact h
theorem vw_justified7 {post : Int32 → St2 → Prop} {o h l kn : Int32} {a1 a2 a3 a4 a5 a6 a7 a8 a9 : Nat → Int32} (H : post (-1) (o, h, l, kn, a1, a2, a3, a4, a5, a6, a7, a8, a9)) : wpX_justified post (o, h, l, kn, a1, a2, a3, a4, a5, a6, a7, a8, a9) 7 := by
  unfold wpX_justified
  exact vw_cp7 (br_t rfl H)
/-- a link that makes its source final -/
def vw_M (t : Nat) (s : Nat → Nat) (p : Nat → Nat → Bool) (c d : Nat) : Prop := vw_src t d = c ∧ vw_tgt t d / 4 = c / 4 + 1 ∧ vw_sp s (p d) = true
theorem vw_fin26 {post : Int32 → St2 → Prop} {t n c : Nat} {p : Nat → Nat → Bool} {kd : Nat → Nat} {s : Nat → Nat} {o h kn : Int32} {a1 a2 a3 a4 a5 a6 a7 a8 a9 : Nat → Int32} (ht : 4 ≤ t ∧ t ≤ 6) (hs : vw_S s a1) (hl : vw_L t p n kd a6 a7 a8) (hc : c ≤ 126)
    (H1 : ∀ k, k < n → vw_M t s p c (kd k) → post 1 (o, h, nI n, kn, a1, a2, a3, a4, a5, a6, a7, a8, a9)) (H0 : (∀ k, k < n → ¬ vw_M t s p c (kd k)) → post 0 (o, h, nI n, kn, a1, a2, a3, a4, a5, a6, a7, a8, a9)) : ∃ m, wX_isFinal_26 post (nI c) o h (nI n) kn a1 a2 a3 a4 a5 a6 a7 a8 a9 m 0 := by
  have hn := vw_L_n hl
  obtain ⟨l1, l2, l3, l4⟩ := hl
  refine pk_loop (σ := Unit) (fun m i _ => wX_isFinal_26 post (nI c) o h (nI n) kn a1 a2 a3 a4 a5 a6 a7 a8 a9 m (nI i)) (fun i _ => ∀ k, k < i → ¬ vw_M t s p c (kd k)) n 0 () (by omega) (fun k hk => absurd hk (by omega)) ?_ ?_
  · intro m _ h
    exact pk_le n n (fun _ => H0 h) (fun z => absurd z (by omega))
  · intro m i _ hi h hw
    have i1 := vw_src_in ht (l1 i hi)
    have i2 := vw_tgt_in ht (l1 i hi)
    refine pk_le n i (fun z => absurd z (by omega)) (fun _ => ⟨pk_in i 64 (by omega), ?_⟩)
    rw [nI_clamp (show i < 2 ^ 31 by omega), (l3 i hi).1, (l3 i hi).2.1]
    refine pk_eq (vw_src t (kd i)) c (fun e => ⟨pk_in i 64 (by omega), ?_⟩) (fun e => ?_)
    · rw [pk_shrN (show vw_tgt t (kd i) < 2 ^ 31 by omega) ((2 : Int32) &&& 31) 2 (by decide), pk_shrN (show c < 2 ^ 31 by omega) ((2 : Int32) &&& 31) 2 (by decide), nI_1]
      refine pk_eq (vw_tgt t (kd i) / 2 ^ 2) (c / 2 ^ 2 + 1) (fun e2 => ?_) (fun e2 => ?_)
      · unfold wX_isFinal_65
        refine br_f (by decide) (vw_isSup hs (by omega) (l3 i hi).2.2 (vw_sel (vw_sp s (p (kd i))) rfl (fun e3 => nm_r (nI_1 i) (hw () (lt_s h ?_))) (fun e3 => H1 i hi ⟨e, by omega, e3⟩)))
        intro z
        rw [z.2.2] at e3
        exact absurd e3 (by decide)
      · unfold wX_isFinal_64 wX_isFinal_65
        refine br_t rfl (nm_r (nI_1 i) (hw () (lt_s h (fun z => e2 ?_))))
        have := z.2.1
        omega
    · unfold wX_isFinal_64 wX_isFinal_65
      exact br_t rfl (nm_r (nI_1 i) (hw () (lt_s h (fun z => e z.1))))
theorem vw_isFinal {post : Int32 → St2 → Prop} {t n c : Nat} {p : Nat → Nat → Bool} {kd : Nat → Nat} {s : Nat → Nat} {o h kn : Int32} {a1 a2 a3 a4 a5 a6 a7 a8 a9 : Nat → Int32} {x : Int32} (ht : 4 ≤ t ∧ t ≤ 6) (hs : vw_S s a1) (hl : vw_L t p n kd a6 a7 a8) (hk : kn = 0 ∨ (kn = 1 ∧ vw_A t s p 3 a9)) (hx : x = nI c) (hc : c ≤ 126) (hm : c % 4 ≠ 3)
    (F : Bool) (hF0 : vw_J t s p 3 c = false → F = false) (hF1 : vw_J t s p 3 c = true → ∀ d, d < 3 → vw_M t s p c d → F = true) (hF2 : vw_J t s p 3 c = true → (∀ d, d < 3 → ¬ vw_M t s p c d) → F = false)
    (H : ∀ b9, vw_A t s p 3 b9 → post (nI F.toNat) (o, h, nI n, 1, a1, a2, a3, a4, a5, a6, a7, a8, b9)) : wpX_isFinal post (o, h, nI n, kn, a1, a2, a3, a4, a5, a6, a7, a8, a9) x := by
  subst hx
  unfold wpX_isFinal
  refine vw_cp hc hm (br_f (by decide) (vw_jall ht hs hl hk (fun b9 hb => ?_)))
  refine ⟨pk_in c 128 (by omega), ?_⟩
  have h := H b9 hb
  rw [nI_clamp (show c < 2 ^ 31 by omega)]
  refine vw_sel (vw_J t s p 3 c) (hb c (by omega)) (fun e => ?_) (fun e => ?_)
  · rw [hF0 e] at h
    exact h
  · refine vw_fin26 ht hs hl hc (fun k hk2 hM => ?_) (fun hno => ?_)
    · rw [hF1 e (kd k) (hl.1 k hk2) hM] at h
      exact h
    · have hN : ∀ d, d < 3 → ¬ vw_M t s p c d := by
        intro d hd hM
        by_cases ex : ∃ k, k < n ∧ kd k = d
        · obtain ⟨k, k1, k2⟩ := ex
          exact hno k k1 (by rw [k2]; exact hM)
        · have := vw_L_abs (s := s) hl hd (fun j hj z => ex ⟨j, hj, z⟩)
          rw [hM.2.2] at this
          exact absurd this (by decide)
      rw [hF2 e hN] at h
      exact h
theorem vw_highest {post : Int32 → St2 → Prop} {t n : Nat} {p : Nat → Nat → Bool} {kd : Nat → Nat} {s : Nat → Nat} {o h kn : Int32} {a1 a2 a3 a4 a5 a6 a7 a8 a9 : Nat → Int32} (ht : 4 ≤ t ∧ t ≤ 6) (hs : vw_S s a1) (hl : vw_L t p n kd a6 a7 a8) (hk : kn = 0 ∨ (kn = 1 ∧ vw_A t s p 3 a9))
    (H : ∀ b9, vw_A t s p 3 b9 → ∀ x, x < 128 → vw_J t s p 3 x = true → (∀ y, x < y → y < 128 → vw_J t s p 3 y = false) → post (nI x) (o, h, nI n, 1, a1, a2, a3, a4, a5, a6, a7, a8, b9)) : wpX_highest post (o, h, nI n, kn, a1, a2, a3, a4, a5, a6, a7, a8, a9) := by
  unfold wpX_highest
  refine vw_jall ht hs hl hk (fun b9 hb => ?_)
  refine pk_loop (σ := Int32) (fun m i z => wX_highest_8 post o h (nI n) 1 a1 a2 a3 a4 a5 a6 a7 a8 b9 m z (nI i)) (fun i z => ∃ x, z = nI x ∧ x < 128 ∧ vw_J t s p 3 x = true ∧ ∀ y, x < y → y < i → vw_J t s p 3 y = false) 128 0 0 (by omega) ⟨0, rfl, by omega, rfl, fun y h1 h2 => absurd h2 (by omega)⟩ ?_ ?_
  · intro m z h
    obtain ⟨x, rfl, h1, h2, h3⟩ := h
    exact pk_le 128 128 (fun _ => H b9 hb x h1 h2 h3) (fun z => absurd z (by omega))
  · intro m i z hi h hw
    obtain ⟨x, rfl, h1, h2, h3⟩ := h
    refine pk_le 128 i (fun z => absurd z (by omega)) (fun _ => ⟨pk_in i 128 hi, ?_⟩)
    rw [nI_clamp (show i < 2 ^ 31 by omega)]
    refine vw_sel (vw_J t s p 3 i) (hb i hi) (fun e => nm_r (nI_1 i) (hw _ ⟨x, rfl, h1, h2, fun y y1 y2 => ?_⟩)) (fun e => nm_r (nI_1 i) (hw _ ⟨i, rfl, hi, e, fun y y1 y2 => absurd y2 (by omega)⟩))
    by_cases ey : y = i
    · rw [ey]
      exact e
    · exact h3 y y1 (by omega)
def vw_cn (f : Nat → Nat) : Nat → Nat
  | 0 => 0
  | n + 1 => vw_cn f n + f n
theorem vw_jIn {post : Int32 → St2 → Prop} {t n e : Nat} {p : Nat → Nat → Bool} {kd : Nat → Nat} {s : Nat → Nat} {o h kn : Int32} {a1 a2 a3 a4 a5 a6 a7 a8 a9 : Nat → Int32} {x : Int32} (ht : 4 ≤ t ∧ t ≤ 6) (hs : vw_S s a1) (hl : vw_L t p n kd a6 a7 a8) (hk : kn = 0 ∨ (kn = 1 ∧ vw_A t s p 3 a9)) (hx : x = nI e) (he : e ≤ 31)
    (H : ∀ b9, vw_A t s p 3 b9 → post (nI (vw_cn (fun j => (vw_J t s p 3 (4 * e + j)).toNat) 3)) (o, h, nI n, 1, a1, a2, a3, a4, a5, a6, a7, a8, b9)) : wpX_justifiedIn post (o, h, nI n, kn, a1, a2, a3, a4, a5, a6, a7, a8, a9) x := by
  subst hx
  unfold wpX_justifiedIn
  refine br_f (nI_pos (by omega)) (pk_le e 31 (fun _ => vw_jall ht hs hl hk (fun b9 hb => ?_)) (fun z => absurd z (by omega)))
  refine nm_r (pk_mul 4 e) ?_
  have e3 : 4 * nI e + 3 = nI (4 * e + 3) := by
    rw [show (4 : Int32) * nI e = nI (4 * e) from pk_mul 4 e]
    exact nI_add (4 * e) 3
  refine pk_loop (σ := Int32) (fun m i z => wX_justifiedIn_22 post (nI e) o h (nI n) 1 a1 a2 a3 a4 a5 a6 a7 a8 b9 m z (nI (4 * e + i))) (fun i z => z = nI (vw_cn (fun j => (vw_J t s p 3 (4 * e + j)).toNat) i)) 3 0 0 (by omega) rfl ?_ ?_
  · intro m z h
    subst h
    exact pk_le (4 * e + 3) (4 * e + 3) (fun _ => H b9 hb) (fun z => absurd z (by omega)) e3
  · intro m i z hi h hw
    subst h
    refine pk_le (4 * e + 3) (4 * e + i) (fun z => absurd z (by omega)) (fun _ => ⟨pk_in (4 * e + i) 128 (by omega), ?_⟩) e3
    rw [nI_clamp (show 4 * e + i < 2 ^ 31 by omega)]
    refine vw_sel (vw_J t s p 3 (4 * e + i)) (hb _ (by omega)) (fun e1 => nm_r (e' := nI (vw_cn (fun j => (vw_J t s p 3 (4 * e + j)).toNat) (i + 1))) ?_ (nm_r (nI_1 _) (hw _ rfl))) (fun e1 => nm_r (e' := nI (vw_cn (fun j => (vw_J t s p 3 (4 * e + j)).toNat) (i + 1))) ?_ (nm_r (nI_1 _) (hw _ rfl)))
    · show _ + nI 0 = nI (vw_cn (fun j => (vw_J t s p 3 (4 * e + j)).toNat) i + (vw_J t s p 3 (4 * e + i)).toNat)
      rw [e1, nI_add]
      rfl
    · show _ + nI 1 = nI (vw_cn (fun j => (vw_J t s p 3 (4 * e + j)).toNat) i + (vw_J t s p 3 (4 * e + i)).toNat)
      rw [e1, nI_add]
      rfl
end
section
/-! votes: judge, enter, openLink, vote -/
def vw_V (p : Nat → Nat → Bool) (a2 a3 a4 : Nat → Int32) : Prop :=
  (∀ j, j < 256 → 2 ≤ (a2 j).toInt) ∧ (∀ j, j < 256 → (a3 j).toInt ≤ 2) ∧ (∀ v, v < 8 → (a3 (32 * v)).toInt ≤ 0) ∧ (∀ v, v < 8 → a4 (32 * v + 1) = nI (p 0 v).toNat ∧ a4 (32 * v + 2) = nI ((p 1 v).toNat + (p 2 v).toNat))
def vw_se (c : Nat) : Nat := if c = 1 then 1 else 0
def vw_te (c : Nat) : Nat := if c = 0 then 1 else 2
/-- the verdict: a second vote with a target in epoch 2 -/
def vw_vd (p : Nat → Nat → Bool) (c v : Nat) : Bool := if c = 0 then false else if c = 1 then p 2 v else p 1 v
theorem vw_se_e {t c : Nat} (ht : 4 ≤ t ∧ t ≤ 6) : vw_src t c / 2 ^ 2 = vw_se c := by
  unfold vw_src vw_se
  split
  all_goals omega
theorem vw_te_e {t c : Nat} (ht : 4 ≤ t ∧ t ≤ 6) : vw_tgt t c / 2 ^ 2 = vw_te c := by
  unfold vw_tgt vw_te
  repeat' split
  all_goals omega
theorem vw_ep (c : Nat) : vw_se c ≤ 1 ∧ vw_se c < vw_te c ∧ 1 ≤ vw_te c ∧ vw_te c ≤ 2 ∧ (1 ≤ vw_se c → vw_te c = 2) := by
  unfold vw_se vw_te
  repeat' split
  all_goals omega
theorem vw_V_cnt {p : Nat → Nat → Bool} {a2 a3 a4 : Nat → Int32} {c v : Nat} (h : vw_V p a2 a3 a4) (hc : c < 3) (hv : v < 8) (hp : p c v = false) : a4 (32 * v + vw_te c) = nI (vw_vd p c v).toNat := by
  have h4 := h.2.2.2 v hv
  rcases (by omega : c = 0 ∨ c = 1 ∨ c = 2) with e | e | e
  · subst e
    show a4 (32 * v + 1) = nI 0
    rw [h4.1, hp]
    rfl
  · subst e
    show a4 (32 * v + 2) = nI (p 2 v).toNat
    rw [h4.2, hp]
    show nI (0 + (p 2 v).toNat) = _
    rw [Nat.zero_add]
  · subst e
    show a4 (32 * v + 2) = nI (p 1 v).toNat
    rw [h4.2, hp]
    rfl
theorem vw_judge23 {post : Int32 → Prop} {p : Nat → Nat → Bool} {c v : Nat} {o h l kn : Int32} {a1 a2 a3 a4 a5 a6 a7 a8 a9 : Nat → Int32} {b : Bool} {z : Int32} (hV : vw_V p a2 a3 a4) (hv : v < 8) (hz : z = nI b.toNat) (H : post (nI b.toNat)) :
    wX_judge_23 post (nI (vw_se c)) (nI (vw_te c)) (nI (32 * v)) z o h l kn a1 a2 a3 a4 a5 a6 a7 a8 a9 := by
  subst hz
  have he := vw_ep c
  unfold wX_judge_23
  rw [nI_add (32 * v) (vw_se c), nI_clamp (show 32 * v + vw_se c < 2 ^ 31 by omega)]
  refine ⟨pk_in (32 * v + vw_se c) 256 (by omega), br_t ?_ ?_⟩
  · rw [vw_toI, nI_toInt (show vw_te c < 2 ^ 31 by omega)]
    have := hV.1 (32 * v + vw_se c) (by omega)
    omega
  · unfold wX_judge_45
    rw [nI_add (32 * v) (vw_se c), nI_clamp (show 32 * v + vw_se c < 2 ^ 31 by omega)]
    refine nm_r (nI_add b.toNat 0) ⟨pk_in (32 * v + vw_se c) 256 (by omega), br_t ?_ (nm_r (nI_add b.toNat 0) H)⟩
    rw [vw_toI, nI_toInt (show vw_te c < 2 ^ 31 by omega)]
    have h2 := hV.2.1 (32 * v + vw_se c) (by omega)
    rcases (by omega : vw_se c = 0 ∨ 1 ≤ vw_se c) with e | e
    · rw [e, Nat.add_zero]
      have h3 := hV.2.2.1 v hv
      omega
    · have := he.2.2.2.2 e
      omega
theorem vw_judge {post : Int32 → Prop} {p : Nat → Nat → Bool} {c v : Nat} {o h l kn : Int32} {a1 a2 a3 a4 a5 a6 a7 a8 a9 : Nat → Int32} (hV : vw_V p a2 a3 a4) (hc : c < 3) (hv : v < 8) (hp : p c v = false) (H : post (nI (vw_vd p c v).toNat)) :
    wpX_judge post (o, h, l, kn, a1, a2, a3, a4, a5, a6, a7, a8, a9) (nI v) (nI (vw_se c)) (nI (vw_te c)) := by
  have he := vw_ep c
  unfold wpX_judge
  refine nm_r (pk_mul 32 v) ?_
  rw [nI_add (32 * v) (vw_te c), nI_clamp (show 32 * v + vw_te c < 2 ^ 31 by omega), vw_V_cnt hV hc hv hp]
  refine ⟨pk_in (32 * v + vw_te c) 256 (by omega), ?_⟩
  cases hb : vw_vd p c v with
  | false =>
    rw [hb] at H
    exact br_t (by decide) (vw_judge23 (b := false) hV hv rfl H)
  | true =>
    rw [hb] at H
    exact br_f (by decide) (vw_judge23 (b := true) hV hv rfl H)
theorem vw_V_a4 {p : Nat → Nat → Bool} {a2 a3 a4 : Nat → Int32} {c v : Nat} (h : vw_V p a2 a3 a4) (hc : c < 3) (hv : v < 8) (hp : p c v = false) :
    ∀ w, w < 8 → upd a4 (32 * v + vw_te c) (a4 (32 * v + vw_te c) + 1) (32 * w + 1) = nI (vw_up p c v 0 w).toNat ∧ upd a4 (32 * v + vw_te c) (a4 (32 * v + vw_te c) + 1) (32 * w + 2) = nI ((vw_up p c v 1 w).toNat + (vw_up p c v 2 w).toNat) := by
  intro w hw
  have h4 := h.2.2.2 w hw
  rcases (by omega : c = 0 ∨ c = 1 ∨ c = 2) with e | e | e
  · subst e
    rw [show vw_te 0 = 1 from rfl, vw_up_o (d := 1) (by omega), vw_up_o (d := 2) (by omega), pk_un (show 32 * w + 2 ≠ 32 * v + 1 by omega)]
    refine ⟨?_, h4.2⟩
    by_cases ew : w = v
    · subst ew
      rw [pk_us, h4.1, hp, vw_up_t]
      rfl
    · rw [pk_un (show 32 * w + 1 ≠ 32 * v + 1 by omega), vw_up_n ew]
      exact h4.1
  · subst e
    rw [show vw_te 1 = 2 from rfl, vw_up_o (d := 0) (by omega), vw_up_o (d := 2) (by omega), pk_un (show 32 * w + 1 ≠ 32 * v + 2 by omega)]
    refine ⟨h4.1, ?_⟩
    by_cases ew : w = v
    · subst ew
      rw [pk_us, h4.2, hp, vw_up_t, nI_1]
      show nI (0 + (p 2 w).toNat + 1) = nI (1 + (p 2 w).toNat)
      rw [show 0 + (p 2 w).toNat + 1 = 1 + (p 2 w).toNat by omega]
    · rw [pk_un (show 32 * w + 2 ≠ 32 * v + 2 by omega), vw_up_n ew]
      exact h4.2
  · subst e
    rw [show vw_te 2 = 2 from rfl, vw_up_o (d := 0) (by omega), vw_up_o (d := 1) (by omega), pk_un (show 32 * w + 1 ≠ 32 * v + 2 by omega)]
    refine ⟨h4.1, ?_⟩
    by_cases ew : w = v
    · subst ew
      rw [pk_us, h4.2, hp, vw_up_t, nI_1]
      rfl
    · rw [pk_un (show 32 * w + 2 ≠ 32 * v + 2 by omega), vw_up_n ew]
      exact h4.2
theorem vw_enter77 {post : St2 → Prop} {c v : Nat} {o h l kn : Int32} {a1 a2 a3 a4 a5 a6 a7 a8 a9 : Nat → Int32} (hv : v < 8) (h2 : ∀ j, j < 256 → (a3 j).toInt ≤ 2) (h3 : ∀ w, w < 8 → (a3 (32 * w)).toInt ≤ 0)
    (H : ∀ b3 : Nat → Int32, (∀ j, j < 256 → (b3 j).toInt ≤ 2) → (∀ w, w < 8 → (b3 (32 * w)).toInt ≤ 0) → post (o, h, l, kn, a1, a2, b3, a4, a5, a6, a7, a8, a9)) : ∃ m, wX_enter_77 post (nI (vw_te c)) (nI (32 * v)) o h l kn m (nI (vw_se c + 1)) a1 a2 a3 a4 a5 a6 a7 a8 a9 := by
  have he := vw_ep c
  refine pk_loop (σ := Nat → Int32) (fun m i b3 => wX_enter_77 post (nI (vw_te c)) (nI (32 * v)) o h l kn m (nI i) a1 a2 b3 a4 a5 a6 a7 a8 a9) (fun i b3 => 1 ≤ i ∧ (∀ j, j < 256 → (b3 j).toInt ≤ 2) ∧ (∀ w, w < 8 → (b3 (32 * w)).toInt ≤ 0)) 32 (vw_se c + 1) a3 (by omega) ⟨by omega, h2, h3⟩ ?_ ?_
  · intro m b3 h
    exact pk_le 32 32 (fun _ => H b3 h.2.1 h.2.2) (fun z => absurd z (by omega))
  · intro m i b3 hi h hw
    obtain ⟨i1, g2, g3⟩ := h
    refine pk_le 32 i (fun z => absurd z (by omega)) (fun _ => ?_)
    rw [nI_add (32 * v) i, nI_clamp (show 32 * v + i < 2 ^ 31 by omega)]
    have hin : vp_in (nI (32 * v + i)) 256 := pk_in (32 * v + i) 256 (by omega)
    have hg : ∀ x : Int32, x.toInt ≤ 2 → 1 ≤ i + 1 ∧ (∀ j, j < 256 → (upd b3 (32 * v + i) x j).toInt ≤ 2) ∧ (∀ w, w < 8 → (upd b3 (32 * v + i) x (32 * w)).toInt ≤ 0) := by
      intro x hx
      refine ⟨by omega, fun j hj => ?_, fun w hw2 => ?_⟩
      · by_cases e : j = 32 * v + i
        · rw [e, pk_us]
          exact hx
        · rw [pk_un e]
          exact g2 j hj
      · rw [pk_un (show 32 * w ≠ 32 * v + i by omega)]
        exact g3 w hw2
    refine ⟨hin, br_c (fun _ => ⟨hin, hin, nm_e (nm_r (nI_1 i) (hw _ (hg _ ?_)))⟩) (fun _ => ⟨hin, nm_e (nm_r (nI_1 i) (hw _ (hg _ ?_)))⟩)⟩
    · exact g2 _ (by omega)
    · rw [nI_toInt (show vw_te c < 2 ^ 31 by omega)]
      omega
theorem vw_enter {post : St2 → Prop} {p : Nat → Nat → Bool} {c v : Nat} {o h l kn : Int32} {a1 a2 a3 a4 a5 a6 a7 a8 a9 : Nat → Int32} (hV : vw_V p a2 a3 a4) (hc : c < 3) (hv : v < 8) (hp : p c v = false)
    (H : ∀ b2 b3 b4, vw_V (vw_up p c v) b2 b3 b4 → post (o, h, l, kn, a1, b2, b3, b4, a5, a6, a7, a8, a9)) : wpX_enter post (o, h, l, kn, a1, a2, a3, a4, a5, a6, a7, a8, a9) (nI v) (nI (vw_se c)) (nI (vw_te c)) := by
  have he := vw_ep c
  have h4 := vw_V_a4 hV hc hv hp
  unfold wpX_enter
  refine nm_r (pk_mul 32 v) ?_
  rw [nI_add (32 * v) (vw_te c), nI_clamp (show 32 * v + vw_te c < 2 ^ 31 by omega)]
  have hin : vp_in (nI (32 * v + vw_te c)) 256 := pk_in (32 * v + vw_te c) 256 (by omega)
  refine ⟨hin, hin, nm_e ?_⟩
  generalize upd a4 (32 * v + vw_te c) (a4 (32 * v + vw_te c) + 1) = b4 at h4 ⊢
  refine pk_loop (σ := Nat → Int32) (fun m i b2 => wX_enter_22 post (nI (vw_se c)) (nI (vw_te c)) (nI (32 * v)) o h l kn m (nI i) a1 b2 a3 b4 a5 a6 a7 a8 a9) (fun i b2 => ∀ j, j < 256 → 2 ≤ (b2 j).toInt) (vw_se c) 0 a2 (by omega) hV.1 ?_ ?_
  · intro m b2 h
    exact pk_le (vw_se c) (vw_se c) (fun _ => nm_r (nI_1 _) (vw_enter77 hv hV.2.1 hV.2.2.1 (fun b3 g2 g3 => H b2 b3 b4 ⟨h, g2, g3, h4⟩))) (fun z => absurd z (by omega))
  · intro m i b2 hi h hw
    refine pk_le (vw_se c) i (fun z => absurd z (by omega)) (fun _ => ?_)
    rw [nI_add (32 * v) i, nI_clamp (show 32 * v + i < 2 ^ 31 by omega)]
    have hin2 : vp_in (nI (32 * v + i)) 256 := pk_in (32 * v + i) 256 (by omega)
    have hg : ∀ x : Int32, 2 ≤ x.toInt → ∀ j, j < 256 → 2 ≤ (upd b2 (32 * v + i) x j).toInt := by
      intro x hx j hj
      by_cases e : j = 32 * v + i
      · rw [e, pk_us]
        exact hx
      · rw [pk_un e]
        exact h j hj
    refine ⟨hin2, br_c (fun _ => ⟨hin2, hin2, nm_e (nm_r (nI_1 i) (hw _ (hg _ ?_)))⟩) (fun _ => ⟨hin2, nm_e (nm_r (nI_1 i) (hw _ (hg _ ?_)))⟩)⟩
    · exact h _ (by omega)
    · rw [nI_toInt (show vw_te c < 2 ^ 31 by omega)]
      have := he.2.2.2.2 (by omega)
      omega
/-- the table while a place is made in it -/
def vw_O (n c : Nat) (kd : Nat → Nat) (a6 a7 a8 : Nat → Int32) (i q : Nat) (b6 b7 b8 : Nat → Int32) : Prop :=
  i ≤ q ∧ q ≤ n ∧ (∀ j, j < q → b6 j = a6 j ∧ b7 j = a7 j ∧ b8 j = a8 j) ∧ (∀ j, q ≤ j → j < n → b6 (j + 1) = a6 j ∧ b7 (j + 1) = a7 j ∧ b8 (j + 1) = a8 j ∧ c < kd j) ∧ (i < q → kd (q - 1) < c)
theorem vw_O_shift {n c i : Nat} {kd : Nat → Nat} {a6 a7 a8 b6 b7 b8 : Nat → Int32} (h : vw_O n c kd a6 a7 a8 (i + 1) (i + 1) b6 b7 b8) (hk : c < kd i) : vw_O n c kd a6 a7 a8 i i (upd b6 (i + 1) (b6 i)) (upd b7 (i + 1) (b7 i)) (upd b8 (i + 1) (b8 i)) := by
  obtain ⟨h1, h2, h3, h4, h5⟩ := h
  refine ⟨by omega, by omega, fun j hj => ?_, fun j hj hj2 => ?_, fun z => absurd z (by omega)⟩
  · rw [pk_un (show j ≠ i + 1 by omega), pk_un (show j ≠ i + 1 by omega), pk_un (show j ≠ i + 1 by omega)]
    exact h3 j (by omega)
  · by_cases e : j = i
    · subst e
      rw [pk_us, pk_us, pk_us]
      have := h3 j (by omega)
      exact ⟨this.1, this.2.1, this.2.2, hk⟩
    · rw [pk_un (show j + 1 ≠ i + 1 by omega), pk_un (show j + 1 ≠ i + 1 by omega), pk_un (show j + 1 ≠ i + 1 by omega)]
      exact h4 j (by omega) hj2
theorem vw_O_stay {n c i : Nat} {kd : Nat → Nat} {a6 a7 a8 b6 b7 b8 : Nat → Int32} (h : vw_O n c kd a6 a7 a8 (i + 1) (i + 1) b6 b7 b8) (hk : kd i < c) : vw_O n c kd a6 a7 a8 i (i + 1) b6 b7 b8 := by
  obtain ⟨h1, h2, h3, h4, h5⟩ := h
  exact ⟨by omega, by omega, h3, h4, fun _ => hk⟩
theorem vw_O_pass {n c i q : Nat} {kd : Nat → Nat} {a6 a7 a8 b6 b7 b8 : Nat → Int32} (h : vw_O n c kd a6 a7 a8 (i + 1) q b6 b7 b8) (hq : q ≠ i + 1) : vw_O n c kd a6 a7 a8 i q b6 b7 b8 := by
  obtain ⟨h1, h2, h3, h4, h5⟩ := h
  exact ⟨by omega, by omega, h3, h4, fun _ => h5 (by omega)⟩
def vw_kd (kd : Nat → Nat) (q c : Nat) : Nat → Nat := fun j => if j < q then kd j else if j = q then c else kd (j - 1)
theorem vw_kd_lo {kd : Nat → Nat} {q c j : Nat} (h : j < q) : vw_kd kd q c j = kd j := if_pos h
theorem vw_kd_at {kd : Nat → Nat} {q c : Nat} : vw_kd kd q c q = c := by
  unfold vw_kd
  rw [if_neg (by omega), if_pos rfl]
theorem vw_kd_hi {kd : Nat → Nat} {q c j : Nat} (h : q < j + 1) : vw_kd kd q c (j + 1) = kd j := by
  unfold vw_kd
  rw [if_neg (by omega), if_neg (by omega), Nat.add_sub_cancel]
theorem vw_O_end {t n c q : Nat} {p : Nat → Nat → Bool} {kd : Nat → Nat} {a6 a7 a8 b6 b7 b8 : Nat → Int32} (hc : c < 3) (hl : vw_L t p n kd a6 a7 a8) (hno : ∀ j, j < n → kd j ≠ c) (h : vw_O n c kd a6 a7 a8 0 q b6 b7 b8) :
    vw_L t p (n + 1) (vw_kd kd q c) (upd b6 q (nI (vw_src t c))) (upd b7 q (nI (vw_tgt t c))) (upd b8 q 0) := by
  obtain ⟨l1, l2, l3, l4⟩ := hl
  obtain ⟨h1, h2, h3, h4, h5⟩ := h
  have lo : ∀ j, j < q → kd j < c := by
    intro j hj
    have e := h5 (by omega)
    rcases (by omega : j = q - 1 ∨ j < q - 1) with z | z
    · rw [z]
      exact e
    · have := l2 j (q - 1) z (by omega)
      omega
  have cs : ∀ j, j < n + 1 → (j < q ∧ vw_kd kd q c j = kd j) ∨ (j = q ∧ vw_kd kd q c j = c) ∨ (∃ i, j = i + 1 ∧ q ≤ i ∧ i < n ∧ vw_kd kd q c j = kd i) := by
    intro j hj
    rcases Nat.lt_or_ge j q with z | z
    · exact Or.inl ⟨z, vw_kd_lo z⟩
    · by_cases e : j = q
      · refine Or.inr (Or.inl ⟨e, ?_⟩)
        rw [e]
        exact vw_kd_at
      · obtain ⟨i, rfl⟩ : ∃ i, j = i + 1 := ⟨j - 1, by omega⟩
        exact Or.inr (Or.inr ⟨i, rfl, by omega, by omega, vw_kd_hi (by omega)⟩)
  refine ⟨fun j hj => ?_, fun i j hij hj => ?_, fun j hj => ?_, fun d hd hn => ?_⟩
  · rcases cs j hj with ⟨z, e⟩ | ⟨z, e⟩ | ⟨i, z, z2, z3, e⟩
    · rw [e]
      exact l1 j (by omega)
    · rw [e]
      exact hc
    · rw [e]
      exact l1 i z3
  · rcases cs i (by omega) with ⟨z, e⟩ | ⟨z, e⟩ | ⟨i', z, z2, z3, e⟩ <;> rcases cs j hj with ⟨y, f⟩ | ⟨y, f⟩ | ⟨j', y, y2, y3, f⟩ <;> rw [e, f]
    · exact l2 i j hij (by omega)
    · exact lo i z
    · exact l2 i j' (by omega) y3
    · omega
    · omega
    · exact (h4 j' y2 y3).2.2.2
    · omega
    · omega
    · exact l2 i' j' (by omega) y3
  · rcases cs j hj with ⟨z, e⟩ | ⟨z, e⟩ | ⟨i, z, z2, z3, e⟩
    · rw [e, pk_un (show j ≠ q by omega), pk_un (show j ≠ q by omega), pk_un (show j ≠ q by omega), (h3 j z).1, (h3 j z).2.1, (h3 j z).2.2]
      exact l3 j (by omega)
    · rw [e, z, pk_us, pk_us, pk_us]
      refine ⟨rfl, rfl, fun i hi => ?_⟩
      rw [vw_b_0, l4 c hc hno i hi]
    · rw [e, z, pk_un (show i + 1 ≠ q by omega), pk_un (show i + 1 ≠ q by omega), pk_un (show i + 1 ≠ q by omega), (h4 i z2 z3).1, (h4 i z2 z3).2.1, (h4 i z2 z3).2.2.1]
      exact l3 i z3
  · refine l4 d hd (fun j hj => ?_)
    rcases Nat.lt_or_ge j q with z | z
    · have := hn j (by omega)
      rw [vw_kd_lo z] at this
      exact this
    · have := hn (j + 1) (by omega)
      rw [vw_kd_hi (by omega)] at this
      exact this
theorem vw_open {post : Int32 → St2 → Prop} {t n c : Nat} {p : Nat → Nat → Bool} {kd : Nat → Nat} {o h kn : Int32} {a1 a2 a3 a4 a5 a6 a7 a8 a9 : Nat → Int32} (ht : 4 ≤ t ∧ t ≤ 6) (hc : c < 3) (hl : vw_L t p n kd a6 a7 a8) (hno : ∀ j, j < n → kd j ≠ c)
    (H : ∀ q kd' b6 b7 b8, q < n + 1 → kd' q = c → vw_L t p (n + 1) kd' b6 b7 b8 → post (nI q) (o, h, nI (n + 1), kn, a1, a2, a3, a4, a5, b6, b7, b8, a9)) : wpX_openLink post (o, h, nI n, kn, a1, a2, a3, a4, a5, a6, a7, a8, a9) (nI (vw_src t c)) (nI (vw_tgt t c)) := by
  have hn := vw_L_n hl
  unfold wpX_openLink
  refine ⟨n + 1, pk_loopD (σ := Nat × (Nat → Int32) × (Nat → Int32) × (Nat → Int32)) (fun m i z => wX_openLink_11 post (nI (vw_src t c)) (nI (vw_tgt t c)) o h (nI n) kn m (nI z.1) (nI i) a1 a2 a3 a4 a5 z.2.1 z.2.2.1 z.2.2.2 a9) (fun i z => vw_O n c kd a6 a7 a8 i z.1 z.2.1 z.2.2.1 z.2.2.2) ?_ ?_ n (n, a6, a7, a8) ?_⟩
  · intro m z hO
    obtain ⟨q, b6, b7, b8⟩ := z
    have h' : vw_O n c kd a6 a7 a8 0 q b6 b7 b8 := hO
    have hq : q ≤ n := h'.2.1
    have hL := vw_O_end hc hl hno h'
    have hin : vp_in (nI q) 64 := pk_in q 64 (by omega)
    show wX_openLink_11 post (nI (vw_src t c)) (nI (vw_tgt t c)) o h (nI n) kn (m + 1) (nI q) (nI 0) a1 a2 a3 a4 a5 b6 b7 b8 a9
    refine pk_le 0 0 (fun _ => ?_) (fun z => absurd z (by omega))
    rw [nI_clamp (show q < 2 ^ 31 by omega)]
    exact ⟨hin, nm_e ⟨hin, nm_e ⟨hin, nm_e (nm_r (nI_1 n) (H q (vw_kd kd q c) _ _ _ (by omega) vw_kd_at hL))⟩⟩⟩
  · intro m i z hO hw
    obtain ⟨q, b6, b7, b8⟩ := z
    have h' : vw_O n c kd a6 a7 a8 (i + 1) q b6 b7 b8 := hO
    have hq1 : i + 1 ≤ q := h'.1
    have hq : q ≤ n := h'.2.1
    show wX_openLink_11 post (nI (vw_src t c)) (nI (vw_tgt t c)) o h (nI n) kn (m + 1) (nI q) (nI (i + 1)) a1 a2 a3 a4 a5 b6 b7 b8 a9
    refine pk_le (i + 1) 0 (fun z => absurd z (by omega)) (fun _ => ?_)
    refine pk_eq q (i + 1) (fun e => ?_) (fun e => nm_r (pk_m1 i) (hw (q, b6, b7, b8) (vw_O_pass h' e)))
    subst e
    rw [nI_pred i, nI_clamp (show i < 2 ^ 31 by omega), nI_clamp (show i + 1 < 2 ^ 31 by omega)]
    have hi : i < n := by omega
    have hin : vp_in (nI i) 64 := pk_in i 64 (by omega)
    have hin1 : vp_in (nI (i + 1)) 64 := pk_in (i + 1) 64 (by omega)
    have hb : b7 i = nI (vw_tgt t (kd i)) := by rw [(h'.2.2.1 i (by omega)).2.1, (hl.2.2.1 i hi).2.1]
    have i1 := vw_tgt_in ht (hl.1 i hi)
    have i2 := vw_tgt_in ht hc
    have i3 := vw_tgt_lt ht (hl.1 i hi) hc
    have i4 := hno i hi
    refine ⟨hin, pk_le (vw_tgt t (kd i)) (vw_tgt t c) (fun z => nm_r (pk_m1 i) (hw (i + 1, b6, b7, b8) (vw_O_stay h' ?_))) (fun z => ⟨hin, hin1, nm_e ⟨hin, hin1, nm_e ⟨hin, hin1, nm_e (nm_e (nm_r (pk_m1 i) (hw (i, _, _, _) (vw_O_shift h' ?_))))⟩⟩⟩) hb⟩
    · have := i3.mp z
      omega
    · rcases Nat.lt_or_ge c (kd i) with y | y
      · exact y
      · have := i3.mpr y
        omega
  · exact ⟨Nat.le_refl n, Nat.le_refl n, fun j _ => ⟨rfl, rfl, rfl⟩, fun j h1 h2 => absurd h2 (by omega), fun z => absurd z (by omega)⟩
theorem vw_137 {post : Int32 → St2 → Prop} {k v hN : Nat} {o l kn : Int32} {a1 a2 a3 a4 a5 a6 a7 a8 a9 : Nat → Int32} {x6 : Int32} (hk : k < 64) (hv : v < 8)
    (H : ∀ b5, post x6 (o, nI (hN + 1), l, 0, a1, a2, a3, a4, b5, a6, a7, upd a8 k (a8 k ||| ((1 : Int32) <<< (nI v &&& 31))), a9)) : wX_vote_137 post (nI v) (nI k) x6 o (nI hN) l kn a1 a2 a3 a4 a5 a6 a7 a8 a9 := by
  have hin : vp_in (nI k) 64 := pk_in k 64 hk
  have hin1 : vp_in (nI v) 8 := pk_in v 8 hv
  unfold wX_vote_137
  rw [nI_clamp (show k < 2 ^ 31 by omega), nI_clamp (show v < 2 ^ 31 by omega)]
  exact ⟨hin, hin, nm_e (nm_r (nI_1 hN) ⟨hin1, hin1, nm_e (H _)⟩)⟩
theorem vw_113 {post : Int32 → St2 → Prop} {t n c v hN : Nat} {p : Nat → Nat → Bool} {kd : Nat → Nat} {o kn : Int32} {a1 a2 a3 a4 a5 a6 a7 a8 a9 : Nat → Int32} {x4 x6 : Int32} (ht : 4 ≤ t ∧ t ≤ 6) (hc : c < 3) (hv : v < 8) (hp : p c v = false) (hV : vw_V p a2 a3 a4) (hl : vw_L t p n kd a6 a7 a8)
    (hx : (∃ k, k < n ∧ kd k = c ∧ x4 = nI k) ∨ (x4 = -1 ∧ ∀ j, j < n → kd j ≠ c))
    (H : ∀ n' kd' b2 b3 b4 b5 b6 b7 b8, vw_V (vw_up p c v) b2 b3 b4 → vw_L t (vw_up p c v) n' kd' b6 b7 b8 → post x6 (o, nI (hN + 1), nI n', 0, a1, b2, b3, b4, b5, b6, b7, b8, a9)) :
    wX_vote_113 post (nI v) (nI (vw_src t c)) (nI (vw_tgt t c)) x4 x6 o (nI hN) (nI n) kn a1 a2 a3 a4 a5 a6 a7 a8 a9 := by
  have hn := vw_L_n hl
  have i1 := vw_src_in ht hc
  have i2 := vw_tgt_in ht hc
  unfold wX_vote_113
  rw [pk_shrN (show vw_src t c < 2 ^ 31 by omega) ((2 : Int32) &&& 31) 2 (by decide), pk_shrN (show vw_tgt t c < 2 ^ 31 by omega) ((2 : Int32) &&& 31) 2 (by decide), vw_se_e ht, vw_te_e ht]
  refine vw_enter hV hc hv hp (fun b2 b3 b4 hV' => ?_)
  rcases hx with ⟨k, k1, k2, k3⟩ | ⟨e, hno⟩
  · subst k3
    refine br_t (nI_pos' (by omega)) (vw_137 (by omega) hv (fun b5 => H n kd b2 b3 b4 b5 _ _ _ hV' (vw_L_put hl k1 k2 hv)))
  · subst e
    refine br_f (by decide) (vw_open ht hc hl hno (fun q kd' b6 b7 b8 q1 q2 hL => ?_))
    exact vw_137 (by omega) hv (fun b5 => H (n + 1) kd' b2 b3 b4 b5 _ _ _ hV' (vw_L_put hL q1 q2 hv))
theorem vw_off_f {p : Nat → Nat → Bool} {c v : Nat} (hc : c < 3) (h : vw_vd p c v = false) (i : Nat) : (vw_up p c v 1 i && vw_up p c v 2 i) = (p 1 i && p 2 i) := by
  by_cases ei : i = v
  · subst ei
    rcases (by omega : c = 0 ∨ c = 1 ∨ c = 2) with e | e | e
    · subst e
      rw [vw_up_o (d := 1) (by omega), vw_up_o (d := 2) (by omega)]
    · subst e
      have h' : p 2 i = false := h
      rw [vw_up_o (d := 2) (by omega), h', Bool.and_false, Bool.and_false]
    · subst e
      have h' : p 1 i = false := h
      rw [vw_up_o (d := 1) (by omega), h', Bool.false_and, Bool.false_and]
  · rw [vw_up_n ei, vw_up_n ei]
theorem vw_off_t {p : Nat → Nat → Bool} {c v : Nat} (hc : c < 3) (h : vw_vd p c v = true) (i : Nat) : (vw_up p c v 1 i && vw_up p c v 2 i) = ((p 1 i && p 2 i) || decide (i = v)) := by
  by_cases ei : i = v
  · subst ei
    rw [decide_eq_true rfl, Bool.or_true]
    rcases (by omega : c = 0 ∨ c = 1 ∨ c = 2) with e | e | e
    · subst e
      exact absurd (show false = true from h) (by decide)
    · subst e
      have h' : p 2 i = true := h
      rw [vw_up_o (d := 2) (by omega), h', vw_up_t]
      rfl
    · subst e
      have h' : p 1 i = true := h
      rw [vw_up_o (d := 1) (by omega), h', vw_up_t]
      rfl
  · rw [vw_up_n ei, vw_up_n ei, decide_eq_false ei, Bool.or_false]
/-- the state while votes come in -/
def vw_K (t : Nat) (s : Nat → Nat) (p : Nat → Nat → Bool) (hN : Nat) (u : St2) : Prop := match u with
  | (o, h, l, kn, a1, a2, a3, a4, a5, a6, a7, a8, a9) => vw_B (fun i => p 1 i && p 2 i) o ∧ h = nI hN ∧ kn = 0 ∧ vw_S s a1 ∧ vw_V p a2 a3 a4 ∧ ∃ n kd, l = nI n ∧ vw_L t p n kd a6 a7 a8
theorem vw_64 {post : Int32 → St2 → Prop} {t n c v hN : Nat} {s : Nat → Nat} {p : Nat → Nat → Bool} {kd : Nat → Nat} {o kn : Int32} {a1 a2 a3 a4 a5 a6 a7 a8 a9 : Nat → Int32} {x4 : Int32} (ht : 4 ≤ t ∧ t ≤ 6) (hc : c < 3) (hv : v < 8) (hh : hN < 64) (hp : p c v = false)
    (hB : vw_B (fun i => p 1 i && p 2 i) o) (hS : vw_S s a1) (hV : vw_V p a2 a3 a4) (hl : vw_L t p n kd a6 a7 a8)
    (hx : (∃ k, k < n ∧ kd k = c ∧ x4 = nI k) ∨ (x4 = -1 ∧ ∀ j, j < n → kd j ≠ c))
    (H : ∀ u', vw_K t s (vw_up p c v) (hN + 1) u' → post (nI (vw_vd p c v).toNat) u') :
    wX_vote_63 post (nI v) (nI (vw_src t c)) (nI (vw_tgt t c)) x4 o (nI hN) (nI n) kn a1 a2 a3 a4 a5 a6 a7 a8 a9 := by
  have i1 := vw_src_in ht hc
  have i2 := vw_tgt_in ht hc
  unfold wX_vote_63 wX_vote_64
  rw [pk_shrN (show vw_src t c < 2 ^ 31 by omega) ((2 : Int32) &&& 31) 2 (by decide), pk_shrN (show vw_tgt t c < 2 ^ 31 by omega) ((2 : Int32) &&& 31) 2 (by decide), vw_se_e ht, vw_te_e ht]
  refine br_t rfl (pk_lt hN 64 (fun _ => ?_) (fun z => absurd z (by omega)))
  refine vw_judge hV hc hv hp (vw_sel (vw_vd p c v) rfl (fun e => ?_) (fun e => nm_e ?_))
  · exact vw_113 ht hc hv hp hV hl hx (fun n' kd' b2 b3 b4 b5 b6 b7 b8 hV' hL' => H _ ⟨vw_B_congr hB (fun i _ => vw_off_f hc e i), rfl, rfl, hS, hV', n', kd', rfl, hL'⟩)
  · exact vw_113 ht hc hv hp hV hl hx (fun n' kd' b2 b3 b4 b5 b6 b7 b8 hV' hL' => H _ ⟨vw_B_or hv hB (fun i _ => vw_off_t hc e i), rfl, rfl, hS, hV', n', kd', rfl, hL'⟩)
theorem vw_vote {post : Int32 → St2 → Prop} {t c v hN : Nat} {s : Nat → Nat} {p : Nat → Nat → Bool} {u : St2} {x y : Int32} (ht : 4 ≤ t ∧ t ≤ 6) (hc : c < 3) (hv : v < 8) (hh : hN < 64) (hp : p c v = false) (hK : vw_K t s p hN u)
    (hx : x = nI (vw_src t c)) (hy : y = nI (vw_tgt t c)) (H : ∀ u', vw_K t s (vw_up p c v) (hN + 1) u' → post (nI (vw_vd p c v).toNat) u') : wpX_vote post u (nI v) x y := by
  subst hx hy
  obtain ⟨o, h, l, kn, a1, a2, a3, a4, a5, a6, a7, a8, a9⟩ := u
  obtain ⟨hB, e1, e2, hS, hV, n, kd, e3, hl⟩ := hK
  subst e1 e2 e3
  have hn := vw_L_n hl
  have i1 := vw_src_in ht hc
  have i2 := vw_tgt_in ht hc
  have he := vw_ep c
  unfold wpX_vote
  refine vw_val hv (br_f (by decide) (vw_cp (by omega) i1.2 (br_f (by decide) (vw_cp (by omega) i2.2.2 (br_f (by decide) ?_)))))
  rw [pk_shrN (show vw_src t c < 2 ^ 31 by omega) ((2 : Int32) &&& 31) 2 (by decide), pk_shrN (show vw_tgt t c < 2 ^ 31 by omega) ((2 : Int32) &&& 31) 2 (by decide), vw_se_e ht, vw_te_e ht]
  refine pk_lt (vw_se c) (vw_te c) (fun _ => ?_) (fun z => absurd z (by omega))
  refine vw_linkOf (by omega) (fun k hk f1 f2 => ?_) (fun hno => ?_)
  · have ek : kd k = c := by
      rw [(hl.2.2.1 k hk).2.1] at f2
      exact vw_tgt_inj ht (hl.1 k hk) hc f2
    refine br_f (nI_pos (by omega)) ⟨pk_in k 64 (by omega), ?_⟩
    rw [nI_clamp (show k < 2 ^ 31 by omega), vw_ub (a8 k) hv, (hl.2.2.1 k hk).2.2 v hv, ek, hp]
    exact br_t rfl (vw_64 ht hc hv hh hp hB hS hV hl (Or.inl ⟨k, hk, ek, rfl⟩) H)
  · refine br_t (by decide) (vw_64 ht hc hv hh hp hB hS hV hl (Or.inr ⟨rfl, fun j hj e => hno j hj ?_⟩) H)
    rw [(hl.2.2.1 j hj).1, (hl.2.2.1 j hj).2.1, e]
    exact ⟨rfl, rfl⟩
end
section
/-! the constructor -/
theorem vw_K0 {t : Nat} {a1 a2 a3 : Nat → Int32} (h1 : ∀ j, j < 8 → a1 j = 1) (h2 : ∀ j, j < 256 → a2 j = 32) (h3 : ∀ j, j < 256 → a3 j = -1) :
    vw_K t (fun _ => 1) (fun _ _ => false) 0 (0, 0, 0, 0, a1, a2, a3, fun _ => 0, fun _ => 0, fun _ => 0, fun _ => 0, fun _ => 0, fun _ => 0) := by
  refine ⟨fun i _ => vw_b_0 i, rfl, rfl, fun v hv => ⟨show 1 ≤ 100 by decide, h1 v hv⟩, ⟨fun j hj => ?_, fun j hj => ?_, fun v hv => ?_, fun v hv => ⟨rfl, rfl⟩⟩, 0, fun _ => 0, rfl, fun j hj => absurd hj (by omega), fun i j _ hj => absurd hj (by omega), fun j hj => absurd hj (by omega), fun c _ _ v _ => rfl⟩
  · rw [h2 j hj]
    decide
  · rw [h3 j hj]
    decide
  · rw [h3 (32 * v) (by omega)]
    decide
theorem vw_init103 {post : St2 → Prop} {t mc ms kc ks : Nat} {a1 : Nat → Int32} (h1 : ∀ j, j < 8 → a1 j = 1) (H : ∀ u, vw_K t (fun _ => 1) (fun _ _ => false) 0 u → post u) :
    ∃ m, wX_init_103 post mc ms kc ks 0 0 0 0 m 0 a1 (fun _ => 0) (fun _ => 0) (fun _ => 0) (fun _ => 0) (fun _ => 0) (fun _ => 0) (fun _ => 0) (fun _ => 0) := by
  refine pk_loop (σ := (Nat → Int32) × (Nat → Int32)) (fun m i z => wX_init_103 post mc ms kc ks 0 0 0 0 m (nI i) a1 z.1 z.2 (fun _ => 0) (fun _ => 0) (fun _ => 0) (fun _ => 0) (fun _ => 0) (fun _ => 0)) (fun i z => (∀ j, j < i → z.1 j = 32) ∧ (∀ j, j < i → z.2 j = -1)) 256 0 (fun _ => 0, fun _ => 0) (by omega) ⟨fun j hj => absurd hj (by omega), fun j hj => absurd hj (by omega)⟩ ?_ ?_
  · intro m z h
    obtain ⟨b2, b3⟩ := z
    exact pk_le 256 256 (fun _ => H _ (vw_K0 h1 h.1 h.2)) (fun z => absurd z (by omega))
  · intro m i z hi h hw
    obtain ⟨b2, b3⟩ := z
    show wX_init_103 post mc ms kc ks 0 0 0 0 (m + 1) (nI i) a1 b2 b3 (fun _ => 0) (fun _ => 0) (fun _ => 0) (fun _ => 0) (fun _ => 0) (fun _ => 0)
    refine pk_le 256 i (fun z => absurd z (by omega)) (fun _ => ?_)
    rw [nI_clamp (show i < 2 ^ 31 by omega)]
    exact ⟨pk_in i 256 hi, nm_e ⟨pk_in i 256 hi, nm_e (nm_r (nI_1 i) (hw (_, _) ⟨vw_fill (f := fun _ => 32) h.1 rfl, vw_fill (f := fun _ => -1) h.2 rfl⟩))⟩⟩
theorem vw_init {post : St2 → Prop} (t : Nat) (H : ∀ u, vw_K t (fun _ => 1) (fun _ _ => false) 0 u → post u) : wpX_init post 9 1104 (0, 0, 0, 0) := by
  unfold wpX_init
  refine ⟨by omega, by omega, by omega, by omega, by omega, by omega, by omega, by omega, by omega, by omega, by omega, by omega, by omega, by omega, by omega, by omega, by omega, by omega, ?_⟩
  refine pk_loop (σ := Nat → Int32) (fun m i b1 => wX_init_82 post 9 1104 9 1104 0 0 0 0 m (nI i) b1 (fun _ => 0) (fun _ => 0) (fun _ => 0) (fun _ => 0) (fun _ => 0) (fun _ => 0) (fun _ => 0) (fun _ => 0)) (fun i b1 => ∀ j, j < i → b1 j = 1) 8 0 (fun _ => 0) (by omega) (fun j hj => absurd hj (by omega)) ?_ ?_
  · intro m b1 h
    exact pk_le 8 8 (fun _ => vw_init103 h H) (fun z => absurd z (by omega))
  · intro m i b1 hi h hw
    refine pk_le 8 i (fun z => absurd z (by omega)) (fun _ => ?_)
    rw [nI_clamp (show i < 2 ^ 31 by omega)]
    exact ⟨pk_in i 8 hi, nm_e (nm_r (nI_1 i) (hw _ (vw_fill (f := fun _ => 1) h rfl)))⟩
end
section
/-! the law behind its first loop -/
theorem vw_J_t {t : Nat} {s : Nat → Nat} {p : Nat → Nat → Bool} (ht : 4 ≤ t ∧ t ≤ 6) : vw_J t s p 3 t = vw_sp s (p 0) := by
  unfold vw_J
  generalize vw_sp s (p 0) = b0
  generalize vw_sp s (p 1) = b1
  generalize vw_sp s (p 2) = b2
  rw [Bool.eq_iff_iff]
  cases b0 <;> cases b1 <;> cases b2 <;> simp <;> omega
theorem vw_J_8 {t : Nat} {s : Nat → Nat} {p : Nat → Nat → Bool} (ht : 4 ≤ t ∧ t ≤ 6) : vw_J t s p 3 8 = (vw_sp s (p 0) && vw_sp s (p 1)) := by
  unfold vw_J
  generalize vw_sp s (p 0) = b0
  generalize vw_sp s (p 1) = b1
  generalize vw_sp s (p 2) = b2
  rw [Bool.eq_iff_iff]
  cases b0 <;> cases b1 <;> cases b2 <;> simp <;> omega
theorem vw_J_10 {t : Nat} {s : Nat → Nat} {p : Nat → Nat → Bool} (ht : 4 ≤ t ∧ t ≤ 6) : vw_J t s p 3 10 = vw_sp s (p 2) := by
  unfold vw_J
  generalize vw_sp s (p 0) = b0
  generalize vw_sp s (p 1) = b1
  generalize vw_sp s (p 2) = b2
  rw [Bool.eq_iff_iff]
  cases b0 <;> cases b1 <;> cases b2 <;> simp <;> omega
theorem vw_J_o {t : Nat} {s : Nat → Nat} {p : Nat → Nat → Bool} {x : Nat} (h0 : x ≠ 0) (h1 : x ≠ t) (h2 : x ≠ 8) (h3 : x ≠ 10) : vw_J t s p 3 x = false := by
  unfold vw_J
  simp [h0, h1, h2, h3]
theorem vw_J_z {t : Nat} {s : Nat → Nat} {p : Nat → Nat → Bool} : vw_J t s p 3 0 = true := by
  unfold vw_J
  simp
/-- nobody holds anything: nothing but 0 is justified -/
theorem vw_sp_zero {s : Nat → Nat} {q : Nat → Bool} (h : ∀ v, v < 8 → s v = 0) : vw_sp s q = false := by
  unfold vw_sp
  rw [vw_sm_zero 8 h]
  exact decide_eq_false (by omega)
theorem vw_J_zero {t : Nat} {s : Nat → Nat} {p : Nat → Nat → Bool} {x : Nat} (h : ∀ v, v < 8 → s v = 0) (hx : x ≠ 0) : vw_J t s p 3 x = false := by
  unfold vw_J
  rw [vw_sp_zero h, vw_sp_zero h, vw_sp_zero h]
  simp [hx]
theorem vw_622e {post : Int32 → St0 → Prop} {mc ms kc ks t n f : Nat} {s : Nat → Nat} {q : Nat → Bool} {p : Nat → Nat → Bool} {kd : Nat → Nat} {o h kn : Int32} {a1 a2 a3 a4 a5 a6 a7 a8 a9 : Nat → Int32} (ht : 4 ≤ t ∧ t ≤ 6) (hs : vw_S s a1) (hz : ∀ v, v < 8 → s v = 0) (hl : vw_L t p n kd a6 a7 a8) (hB : vw_B q o) (hk : kn = 0) (H : post 1 ()) :
    wL_lawOf_622 post mc ms (nI t) kc ks (f + 1) (nI 8) o h (nI n) kn a1 a2 a3 a4 a5 a6 a7 a8 a9 := by
  refine pk_le 8 8 (fun _ => ?_) (fun z => absurd z (by omega))
  refine vw_justified ht hs hl (Or.inl hk) rfl (c := t) (by omega) (by omega) (fun b9 hb => br_t ?_ ?_)
  · rw [vw_J_zero (x := t) hz (by omega)]
    rfl
  refine vw_highest ht hs hl (Or.inr ⟨rfl, hb⟩) (fun c9 hc x hx1 hx2 hx3 => ?_)
  have hx0 : x = 0 := by
    by_cases e : x = 0
    · exact e
    · rw [vw_J_zero hz e] at hx2
      exact absurd hx2 (by decide)
  subst hx0
  refine br_t rfl (vw_offended hs hB (br_t ?_ ?_))
  · rw [vw_sm_zero 8 hz]
    rfl
  refine vw_justified ht hs hl (Or.inr ⟨rfl, hc⟩) (c := 0) rfl (by omega) (by omega) (fun d9 hd => br_t ?_ ?_)
  · rw [vw_J_z]
    rfl
  refine vw_isFinal ht hs hl (Or.inr ⟨rfl, hd⟩) (c := 0) rfl (by omega) (by omega) false (fun _ => rfl) (fun _ d _ hM => ?_) (fun _ _ => rfl) (fun e9 he => br_t rfl H)
  have := hM.2.2
  rw [vw_sp_zero hz] at this
  exact this
theorem vw_622 {post : Int32 → St0 → Prop} {mc ms kc ks t n : Nat} {s : Nat → Nat} {q : Nat → Bool} {p : Nat → Nat → Bool} {kd : Nat → Nat} {o h kn : Int32} {a1 a2 a3 a4 a5 a6 a7 a8 a9 : Nat → Int32} (ht : 4 ≤ t ∧ t ≤ 6) (hs : vw_S s a1) (hl : vw_L t p n kd a6 a7 a8) (hB : vw_B q o) (H : post 1 ()) :
    ∃ m, wL_lawOf_622 post mc ms (nI t) kc ks m 0 o h (nI n) kn a1 a2 a3 a4 a5 a6 a7 a8 a9 := by
  refine pk_loop (σ := Int32 × (Nat → Int32)) (fun m i z => wL_lawOf_622 post mc ms (nI t) kc ks m (nI i) o h (nI n) z.1 z.2 a2 a3 a4 a5 a6 a7 a8 a9) (fun i z => (0 < i → z.1 = 0) ∧ ∃ s', vw_S s' z.2 ∧ ∀ v, v < i → s' v = 0) 8 0 (kn, a1) (by omega) ⟨fun h => absurd h (by omega), s, hs, fun v hv => absurd hv (by omega)⟩ ?_ ?_
  · intro m z h
    obtain ⟨h1, s', h2, h3⟩ := h
    exact vw_622e ht h2 h3 hl hB (h1 (by omega)) H
  · intro m i z hi h hw
    obtain ⟨h1, s', h2, h3⟩ := h
    refine pk_le 8 i (fun z => absurd z (by omega)) (fun _ => ?_)
    refine vw_stake hi (w := 0) (by omega) rfl rfl ?_
    refine nm_r (nI_1 i) (hw (0, upd z.2 i (nI 0)) ⟨fun _ => rfl, fun v => if v = i then 0 else s' v, ?_, fun v hv => ?_⟩)
    · exact vw_S_upd h2 (by omega) (if_pos rfl) (fun j _ hj => if_neg hj)
    · show (if v = i then 0 else s' v) = 0
      split
      · rfl
      · exact h3 v (by omega)
/-- what holds behind the first loop -/
def vw_E (post : Int32 → St0 → Prop) (t k n : Nat) (s : Nat → Nat) (p : Nat → Nat → Bool) (kd : Nat → Nat) (x1 x2 o : Int32) (a1 a6 a7 a8 : Nat → Int32) : Prop :=
  (4 ≤ t ∧ t ≤ 6) ∧ vw_S s a1 ∧ vw_L t p n kd a6 a7 a8 ∧ vw_B (fun i => p 1 i && p 2 i) o ∧ (∀ v, v < 8 → s v = k * (v + 1)) ∧ (∀ v, v < 8 → p 1 v = vw_bt x1 v) ∧ (∀ v, v < 8 → p 2 v = vw_bt x2 v) ∧ post 1 ()
theorem vw_T534 {post : Int32 → St0 → Prop} {mc ms kc ks t k n : Nat} {s : Nat → Nat} {p : Nat → Nat → Bool} {kd : Nat → Nat} {x1 x2 : Int32} {o h kn : Int32} {a1 a2 a3 a4 a5 a6 a7 a8 a9 : Nat → Int32} (E : vw_E post t k n s p kd x1 x2 o a1 a6 a7 a8) (hk : kn = 0 ∨ (kn = 1 ∧ vw_A t s p 3 a9)) : ∃ m, wL_lawOf_534 post mc ms (nI k) (nI t) ((x1 &&& x2) &&& 255) kc ks o h (nI n) kn a1 a2 a3 a4 a5 a6 a7 a8 a9 m 0 0 := by
  obtain ⟨ht, hs, hl, hB, hsv, h1, h2, H⟩ := E
  refine pk_loop (σ := Int32) (fun m i z => wL_lawOf_534 post mc ms (nI k) (nI t) ((x1 &&& x2) &&& 255) kc ks o h (nI n) kn a1 a2 a3 a4 a5 a6 a7 a8 a9 m z (nI i)) (fun i z => z = nI (vw_sm (fun i => p 1 i && p 2 i) s i)) 8 0 0 (by omega) rfl ?_ ?_
  · intro m z h
    subst h
    refine pk_le 8 8 (fun _ => ?_) (fun z => absurd z (by omega))
    refine vw_offended hs hB (br_t rfl ?_)
    refine vw_jIn ht hs hl hk (e := 0) rfl (by omega) (fun b9 hb => br_t ?_ ?_)
    · show nI (0 + (vw_J t s p 3 0).toNat + (vw_J t s p 3 1).toNat + (vw_J t s p 3 2).toNat) = 1
      rw [vw_J_z, vw_J_o (x := 1) (by omega) (by omega) (by omega) (by omega), vw_J_o (x := 2) (by omega) (by omega) (by omega) (by omega)]
      rfl
    unfold wpX_justifiedIn
    refine br_f (by decide) (br_f (by decide) (br_t rfl ?_))
    exact vw_622 ht hs hl hB H
  · intro m i z hi h hw
    subst h
    refine pk_le 8 i (fun z => absurd z (by omega)) (fun _ => ?_)
    have hb : (((x1 &&& x2) &&& 255) >>> (nI i &&& 31)) &&& 1 = nI (p 1 i && p 2 i).toNat := by
      rw [vw_sb _ hi, vw_b_and, vw_b_and, vw_b_255 i hi, Bool.and_true, h1 i hi, h2 i hi]
    refine vw_offender hi hB ?_
    rw [hb, nI_1, pk_mul, pk_mul, nI_add]
    refine br_t rfl (nm_e (nm_e (hw _ ?_)))
    show _ = nI (vw_sm (fun i => p 1 i && p 2 i) s i + (if (p 1 i && p 2 i) = true then s i else 0))
    rw [hsv i hi]
    cases (p 1 i && p 2 i) with
    | false =>
      show nI (_ + 0 * k * (i + 1)) = nI (_ + 0)
      rw [Nat.zero_mul, Nat.zero_mul]
    | true =>
      show nI (_ + 1 * k * (i + 1)) = nI (_ + k * (i + 1))
      rw [Nat.one_mul]
theorem vw_T513 {post : Int32 → St0 → Prop} {mc ms kc ks t k n : Nat} {s : Nat → Nat} {p : Nat → Nat → Bool} {kd : Nat → Nat} {x1 x2 : Int32} {o h kn : Int32} {a1 a2 a3 a4 a5 a6 a7 a8 a9 : Nat → Int32} {z0 z1 z2 : Int32} (E : vw_E post t k n s p kd x1 x2 o a1 a6 a7 a8) (hk : kn = 0 ∨ (kn = 1 ∧ vw_A t s p 3 a9)) (hz : z2 = z1 + z0) : wL_lawOf_513 post mc ms x1 x2 (nI k) (nI t) z0 z1 z2 kc ks o h (nI n) kn a1 a2 a3 a4 a5 a6 a7 a8 a9 := by
  unfold wL_lawOf_513
  exact br_t hz (nm_e (vw_T534 E hk))
theorem vw_T503 {post : Int32 → St0 → Prop} {mc ms kc ks t k n : Nat} {s : Nat → Nat} {p : Nat → Nat → Bool} {kd : Nat → Nat} {x1 x2 : Int32} {o h kn : Int32} {a1 a2 a3 a4 a5 a6 a7 a8 a9 : Nat → Int32} {z0 z1 : Int32} (E : vw_E post t k n s p kd x1 x2 o a1 a6 a7 a8) (hk : kn = 0 ∨ (kn = 1 ∧ vw_A t s p 3 a9)) (hz : z1 = z0 + (nI (vw_sp s (p 2)).toNat)) : wL_lawOf_503 post mc ms x1 x2 (nI k) (nI t) (nI (vw_sp s (p 2)).toNat) z0 z1 kc ks o h (nI n) kn a1 a2 a3 a4 a5 a6 a7 a8 a9 := by
  unfold wL_lawOf_503
  refine vw_sel (vw_sp s (p 2)) rfl (fun e => vw_T513 E hk ?_) (fun e => vw_T513 E hk ?_)
  · rw [hz, e]
    rfl
  · rw [hz, e]
    rfl
theorem vw_T484 {post : Int32 → St0 → Prop} {mc ms kc ks t k n : Nat} {s : Nat → Nat} {p : Nat → Nat → Bool} {kd : Nat → Nat} {x1 x2 : Int32} {o h kn : Int32} {a1 a2 a3 a4 a5 a6 a7 a8 a9 : Nat → Int32} {z0 z1 : Int32} (E : vw_E post t k n s p kd x1 x2 o a1 a6 a7 a8) (hk : kn = 0 ∨ (kn = 1 ∧ vw_A t s p 3 a9)) (hz : z1 = z0) : wL_lawOf_484 post mc ms x1 x2 (nI k) (nI t) (nI (vw_sp s (p 0) && vw_sp s (p 1)).toNat) (nI (vw_sp s (p 2)).toNat) z0 z1 kc ks o h (nI n) kn a1 a2 a3 a4 a5 a6 a7 a8 a9 := by
  unfold wL_lawOf_484
  have ht := E.1
  have hr : nI (vw_cn (fun j => (vw_J t s p 3 (4 * 2 + j)).toNat) 3) = (nI (vw_sp s (p 0) && vw_sp s (p 1)).toNat) + (nI (vw_sp s (p 2)).toNat) := by
    show nI (0 + (vw_J t s p 3 8).toNat + (vw_J t s p 3 9).toNat + (vw_J t s p 3 10).toNat) = _
    rw [vw_J_8 ht, vw_J_10 ht, vw_J_o (x := 9) (by omega) (by omega) (by omega) (by omega), nI_add, Nat.zero_add]
    rfl
  refine br_t hz (vw_jIn ht E.2.1 E.2.2.1 hk (e := 2) rfl (by omega) (fun b9 hb => ?_))
  rw [hr]
  refine vw_sel (vw_sp s (p 0) && vw_sp s (p 1)) rfl (fun e => vw_T503 E (Or.inr ⟨rfl, hb⟩) ?_) (fun e => vw_T503 E (Or.inr ⟨rfl, hb⟩) ?_)
  · rw [e]
    rfl
  · rw [e]
    rfl
theorem vw_T422 {post : Int32 → St0 → Prop} {mc ms kc ks t k n : Nat} {s : Nat → Nat} {p : Nat → Nat → Bool} {kd : Nat → Nat} {x1 x2 : Int32} {o h kn : Int32} {a1 a2 a3 a4 a5 a6 a7 a8 a9 : Nat → Int32} {z0 z1 : Int32} (E : vw_E post t k n s p kd x1 x2 o a1 a6 a7 a8) (hk : kn = 0 ∨ (kn = 1 ∧ vw_A t s p 3 a9)) (hz : z1 = z0) : wL_lawOf_422 post mc ms x1 x2 (nI k) (nI t) (nI (vw_sp s (p 0)).toNat) (nI (vw_sp s (p 0) && vw_sp s (p 1)).toNat) (nI (vw_sp s (p 2)).toNat) z0 z1 kc ks o h (nI n) kn a1 a2 a3 a4 a5 a6 a7 a8 a9 := by
  unfold wL_lawOf_422
  have ht := E.1
  refine br_t hz (vw_isFinal ht E.2.1 E.2.2.1 hk (c := 8) rfl (by omega) (by omega) false (fun _ => rfl) (fun _ d hd hM => ?_) (fun _ _ => rfl) (fun b9 hb => br_t rfl (vw_justified7 (br_t rfl ?_))))
  · have h1 := hM.1
    have h2 := vw_src_in ht hd
    exfalso
    omega
  refine vw_highest ht E.2.1 E.2.2.1 (Or.inr ⟨rfl, hb⟩) (fun c9 hc x hx1 hx2 hx3 => ?_)
  have h8 := vw_J_8 (s := s) (p := p) ht
  have h10 := vw_J_10 (s := s) (p := p) ht
  have htt := vw_J_t (s := s) (p := p) ht
  have hin : x = 0 ∨ x = t ∨ x = 8 ∨ x = 10 := by
    rcases Nat.eq_zero_or_pos x with e | e
    · exact Or.inl e
    · by_cases e1 : x = t
      · exact Or.inr (Or.inl e1)
      · by_cases e2 : x = 8
        · exact Or.inr (Or.inr (Or.inl e2))
        · by_cases e3 : x = 10
          · exact Or.inr (Or.inr (Or.inr e3))
          · rw [vw_J_o (by omega) e1 e2 e3] at hx2
            exact absurd hx2 (by decide)
  have up : ∀ y, y < 128 → vw_J t s p 3 y = true → y ≤ x := by
    intro y hy hJ
    rcases Nat.lt_or_ge x y with z | z
    · rw [hx3 y z hy] at hJ
      exact absurd hJ (by decide)
    · exact z
  refine vw_sel (vw_sp s (p 2)) rfl (fun e3 => vw_sel (vw_sp s (p 0) && vw_sp s (p 1)) rfl (fun e2 => vw_sel (vw_sp s (p 0)) rfl (fun e1 => vw_T484 E (Or.inr ⟨rfl, hc⟩) ?_) (fun e1 => vw_T484 E (Or.inr ⟨rfl, hc⟩) ?_)) (fun e2 => vw_T484 E (Or.inr ⟨rfl, hc⟩) ?_)) (fun e3 => vw_T484 E (Or.inr ⟨rfl, hc⟩) ?_)
  · have : x = 0 := by
      rcases hin with z | z | z | z
      · exact z
      · subst z; rw [htt, e1] at hx2; exact absurd hx2 (by decide)
      · subst z; rw [h8, e2] at hx2; exact absurd hx2 (by decide)
      · subst z; rw [h10, e3] at hx2; exact absurd hx2 (by decide)
    rw [this]
    rfl
  · have := up t (by omega) (by rw [htt, e1])
    have : x = t := by
      rcases hin with z | z | z | z
      · omega
      · exact z
      · subst z; rw [h8, e2] at hx2; exact absurd hx2 (by decide)
      · subst z; rw [h10, e3] at hx2; exact absurd hx2 (by decide)
    rw [this]
  · have := up 8 (by omega) (by rw [h8, e2])
    have : x = 8 := by
      rcases hin with z | z | z | z
      · omega
      · omega
      · exact z
      · subst z; rw [h10, e3] at hx2; exact absurd hx2 (by decide)
    rw [this]
    rfl
  · have := up 10 (by omega) (by rw [h10, e3])
    have : x = 10 := by
      rcases hin with z | z | z | z
      · omega
      · omega
      · omega
      · exact z
    rw [this]
    rfl
theorem vw_T402 {post : Int32 → St0 → Prop} {mc ms kc ks t k n : Nat} {s : Nat → Nat} {p : Nat → Nat → Bool} {kd : Nat → Nat} {x1 x2 : Int32} {o h kn : Int32} {a1 a2 a3 a4 a5 a6 a7 a8 a9 : Nat → Int32} {z0 z1 : Int32} (E : vw_E post t k n s p kd x1 x2 o a1 a6 a7 a8) (hk : kn = 0 ∨ (kn = 1 ∧ vw_A t s p 3 a9)) (hz : z1 = z0) : wL_lawOf_402 post mc ms x1 x2 (nI k) (nI t) (nI (vw_sp s (p 0)).toNat) (nI (vw_sp s (p 0) && vw_sp s (p 1)).toNat) (nI (vw_sp s (p 2)).toNat) z0 z1 kc ks o h (nI n) kn a1 a2 a3 a4 a5 a6 a7 a8 a9 := by
  unfold wL_lawOf_402
  have ht := E.1
  refine br_t hz (vw_isFinal ht E.2.1 E.2.2.1 hk (c := t) rfl (by omega) (by omega) (vw_sp s (p 0) && vw_sp s (p 1)) (fun e => ?_) (fun e d hd hM => ?_) (fun e hN => ?_) (fun b9 hb => ?_))
  · rw [vw_J_t ht] at e
    rw [e, Bool.false_and]
  · rw [vw_J_t ht] at e
    have hd1 : d = 1 := by
      have h1 := hM.1
      unfold vw_src at h1
      split at h1
      · assumption
      · omega
    subst hd1
    rw [e, hM.2.2]
    rfl
  · rw [vw_J_t ht] at e
    rw [e, Bool.true_and]
    cases e1 : vw_sp s (p 1) with
    | false => rfl
    | true => exact absurd ⟨rfl, (show 8 / 4 = t / 4 + 1 by omega), e1⟩ (hN 1 (by omega))
  · refine vw_sel (vw_sp s (p 0) && vw_sp s (p 1)) rfl (fun e => vw_T422 E (Or.inr ⟨rfl, hb⟩) ?_) (fun e => vw_T422 E (Or.inr ⟨rfl, hb⟩) ?_)
    · rw [e]
      rfl
    · rw [e]
      rfl
theorem vw_T381 {post : Int32 → St0 → Prop} {mc ms kc ks t k n : Nat} {s : Nat → Nat} {p : Nat → Nat → Bool} {kd : Nat → Nat} {x1 x2 : Int32} {o h kn : Int32} {a1 a2 a3 a4 a5 a6 a7 a8 a9 : Nat → Int32} {z0 z1 : Int32} (E : vw_E post t k n s p kd x1 x2 o a1 a6 a7 a8) (hk : kn = 0 ∨ (kn = 1 ∧ vw_A t s p 3 a9)) (hz : z1 = z0) : wL_lawOf_381 post mc ms x1 x2 (nI k) (nI t) (nI (vw_sp s (p 0)).toNat) (nI (vw_sp s (p 0) && vw_sp s (p 1)).toNat) (nI (vw_sp s (p 2)).toNat) z0 z1 kc ks o h (nI n) kn a1 a2 a3 a4 a5 a6 a7 a8 a9 := by
  unfold wL_lawOf_381
  have ht := E.1
  refine br_t hz (vw_isFinal ht E.2.1 E.2.2.1 hk (c := 0) rfl (by omega) (by omega) (vw_sp s (p 0)) (fun e => ?_) (fun e d hd hM => ?_) (fun e hN => ?_) (fun b9 hb => ?_))
  · rw [vw_J_z] at e
    exact absurd e (by decide)
  · have hd1 : d = 0 := by
      have h1 := hM.2.1
      unfold vw_tgt at h1
      split at h1
      · assumption
      · split at h1
        · omega
        · omega
    subst hd1
    exact hM.2.2
  · cases e1 : vw_sp s (p 0) with
    | false => rfl
    | true => exact absurd ⟨rfl, (show t / 4 = 0 / 4 + 1 by omega), e1⟩ (hN 0 (by omega))
  · refine vw_sel (vw_sp s (p 0)) rfl (fun e => vw_T402 E (Or.inr ⟨rfl, hb⟩) ?_) (fun e => vw_T402 E (Or.inr ⟨rfl, hb⟩) ?_)
    · rw [e]
      rfl
    · rw [e]
      rfl
theorem vw_T361 {post : Int32 → St0 → Prop} {mc ms kc ks t k n : Nat} {s : Nat → Nat} {p : Nat → Nat → Bool} {kd : Nat → Nat} {x1 x2 : Int32} {o h kn : Int32} {a1 a2 a3 a4 a5 a6 a7 a8 a9 : Nat → Int32} {z0 z1 : Int32} (E : vw_E post t k n s p kd x1 x2 o a1 a6 a7 a8) (hk : kn = 0 ∨ (kn = 1 ∧ vw_A t s p 3 a9)) (hz : z1 = z0) : wL_lawOf_361 post mc ms x1 x2 (nI k) (nI t) (nI (vw_sp s (p 0)).toNat) (nI (vw_sp s (p 0) && vw_sp s (p 1)).toNat) (nI (vw_sp s (p 2)).toNat) z0 z1 kc ks o h (nI n) kn a1 a2 a3 a4 a5 a6 a7 a8 a9 := by
  unfold wL_lawOf_361
  have ht := E.1
  refine br_t hz (vw_justified ht E.2.1 E.2.2.1 hk (c := 10) rfl (by omega) (by omega) (fun b9 hb => ?_))
  rw [vw_J_10 ht]
  refine vw_sel (vw_sp s (p 2)) rfl (fun e => vw_T381 E (Or.inr ⟨rfl, hb⟩) ?_) (fun e => vw_T381 E (Or.inr ⟨rfl, hb⟩) ?_)
  · rw [e]
    rfl
  · rw [e]
    rfl
theorem vw_T341 {post : Int32 → St0 → Prop} {mc ms kc ks t k n : Nat} {s : Nat → Nat} {p : Nat → Nat → Bool} {kd : Nat → Nat} {x1 x2 : Int32} {o h kn : Int32} {a1 a2 a3 a4 a5 a6 a7 a8 a9 : Nat → Int32} {z0 z1 : Int32} (E : vw_E post t k n s p kd x1 x2 o a1 a6 a7 a8) (hk : kn = 0 ∨ (kn = 1 ∧ vw_A t s p 3 a9)) (hz : z1 = z0) : wL_lawOf_341 post mc ms x1 x2 (nI k) (nI t) (nI (vw_sp s (p 0)).toNat) (nI (vw_sp s (p 0) && vw_sp s (p 1)).toNat) (nI (vw_sp s (p 2)).toNat) z0 z1 kc ks o h (nI n) kn a1 a2 a3 a4 a5 a6 a7 a8 a9 := by
  unfold wL_lawOf_341
  have ht := E.1
  refine br_t hz (vw_justified ht E.2.1 E.2.2.1 hk (c := 8) rfl (by omega) (by omega) (fun b9 hb => ?_))
  rw [vw_J_8 ht]
  refine vw_sel (vw_sp s (p 0) && vw_sp s (p 1)) rfl (fun e => vw_T361 E (Or.inr ⟨rfl, hb⟩) ?_) (fun e => vw_T361 E (Or.inr ⟨rfl, hb⟩) ?_)
  · rw [e]
    rfl
  · rw [e]
    rfl
theorem vw_T269 {post : Int32 → St0 → Prop} {mc ms kc ks t k n : Nat} {s : Nat → Nat} {p : Nat → Nat → Bool} {kd : Nat → Nat} {x1 x2 : Int32} {o h kn : Int32} {a1 a2 a3 a4 a5 a6 a7 a8 a9 : Nat → Int32} {z0 x13 x14 : Int32} (E : vw_E post t k n s p kd x1 x2 o a1 a6 a7 a8) (hk : kn = 0 ∨ (kn = 1 ∧ vw_A t s p 3 a9)) (h13 : x13 = (nI (vw_sp s (p 0)).toNat)) (h14 : x14 = (nI (vw_sp s (p 0) && vw_sp s (p 1)).toNat)) (h15 : z0 = (nI (vw_sp s (p 2)).toNat)) : wL_lawOf_269 post mc ms x1 x2 (nI k) (nI t) (nI (vw_sm (p 0) s 8)) (nI (vw_sm (p 1) s 8)) (nI (vw_sm (p 2) s 8)) x13 x14 z0 kc ks o h (nI n) kn a1 a2 a3 a4 a5 a6 a7 a8 a9 := by
  subst h13 h14 h15
  unfold wL_lawOf_269
  have ht := E.1
  refine vw_support ht E.2.1 E.2.2.1 (c := 0) (by omega) rfl rfl (br_t rfl ?_)
  refine vw_support ht E.2.1 E.2.2.1 (c := 1) (by omega) rfl rfl (br_t rfl ?_)
  refine vw_support ht E.2.1 E.2.2.1 (c := 2) (by omega) rfl rfl (br_t rfl ?_)
  refine vw_support9 ht E.2.2.1 (br_t rfl ?_)
  refine vw_justified ht E.2.1 E.2.2.1 hk (c := t) rfl (by omega) (by omega) (fun b9 hb => ?_)
  rw [vw_J_t ht]
  refine vw_sel (vw_sp s (p 0)) rfl (fun e => vw_T341 E (Or.inr ⟨rfl, hb⟩) ?_) (fun e => vw_T341 E (Or.inr ⟨rfl, hb⟩) ?_)
  · rw [e]
    rfl
  · rw [e]
    rfl
/-- the law's own test of two thirds -/
theorem vw_two {A B : Prop} {s : Nat → Nat} {q : Nat → Bool} {a1 : Nat → Int32} {k : Nat} (hs : vw_S s a1) (hk : vw_tot s = 36 * k) (f : vw_sp s q = false → A) (g : vw_sp s q = true → B) : (3 * nI (vw_sm q s 8) ≤ 2 * nI (36 * k) → A) ∧ (¬ 3 * nI (vw_sm q s 8) ≤ 2 * nI (36 * k) → B) := by
  have b1 := vw_S_le hs (fun _ => true)
  have b2 := vw_S_le hs q
  have b3 : vw_sm (fun _ => true) s 8 = 36 * k := hk
  refine pk_le (3 * vw_sm q s 8) (2 * (36 * k)) (fun z => f (decide_eq_false ?_)) (fun z => g (decide_eq_true ?_)) (pk_mul 3 _) (pk_mul 2 _)
  · show ¬ 2 * vw_tot s < 3 * vw_sm q s 8
    omega
  · show 2 * vw_tot s < 3 * vw_sm q s 8
    omega
theorem vw_tot_e {s : Nat → Nat} {k : Nat} (h : ∀ v, v < 8 → s v = k * (v + 1)) : vw_tot s = 36 * k := by
  show 0 + s 0 + s 1 + s 2 + s 3 + s 4 + s 5 + s 6 + s 7 = 36 * k
  rw [h 0 (by omega), h 1 (by omega), h 2 (by omega), h 3 (by omega), h 4 (by omega), h 5 (by omega), h 6 (by omega), h 7 (by omega)]
  omega
theorem vw_T251 {post : Int32 → St0 → Prop} {mc ms kc ks t k n : Nat} {s : Nat → Nat} {p : Nat → Nat → Bool} {kd : Nat → Nat} {x1 x2 : Int32} {o h kn : Int32} {a1 a2 a3 a4 a5 a6 a7 a8 a9 : Nat → Int32} {z0 x13 : Int32} (E : vw_E post t k n s p kd x1 x2 o a1 a6 a7 a8) (hk : kn = 0 ∨ (kn = 1 ∧ vw_A t s p 3 a9)) (h13 : x13 = (nI (vw_sp s (p 0)).toNat)) (h14 : z0 = (nI (vw_sp s (p 0) && vw_sp s (p 1)).toNat)) : wL_lawOf_251 post mc ms x1 x2 (nI k) (nI t) (nI (vw_sm (p 0) s 8)) (nI (vw_sm (p 1) s 8)) (nI (vw_sm (p 2) s 8)) (nI (36 * k)) x13 z0 kc ks o h (nI n) kn a1 a2 a3 a4 a5 a6 a7 a8 a9 := by
  unfold wL_lawOf_251
  refine vw_two E.2.1 (vw_tot_e E.2.2.2.2.1) (fun e => vw_T269 E hk h13 h14 ?_) (fun e => vw_T269 E hk h13 h14 ?_)
  · rw [e]
    rfl
  · rw [e]
    rfl
theorem vw_T228 {post : Int32 → St0 → Prop} {mc ms kc ks t k n : Nat} {s : Nat → Nat} {p : Nat → Nat → Bool} {kd : Nat → Nat} {x1 x2 : Int32} {o h kn : Int32} {a1 a2 a3 a4 a5 a6 a7 a8 a9 : Nat → Int32} {z0 : Int32} (E : vw_E post t k n s p kd x1 x2 o a1 a6 a7 a8) (hk : kn = 0 ∨ (kn = 1 ∧ vw_A t s p 3 a9)) (h13 : z0 = (nI (vw_sp s (p 0)).toNat)) : wL_lawOf_228 post mc ms x1 x2 (nI k) (nI t) (nI (vw_sm (p 0) s 8)) (nI (vw_sm (p 1) s 8)) (nI (vw_sm (p 2) s 8)) (nI (36 * k)) z0 kc ks o h (nI n) kn a1 a2 a3 a4 a5 a6 a7 a8 a9 := by
  unfold wL_lawOf_228 wL_lawOf_250
  refine vw_sel (vw_sp s (p 0)) h13 (fun e => vw_T251 E hk h13 ?_) (fun e => vw_two E.2.1 (vw_tot_e E.2.2.2.2.1) (fun e2 => vw_T251 E hk h13 ?_) (fun e2 => vw_T251 E hk h13 ?_))
  · rw [e]
    rfl
  · rw [e2, Bool.and_false]
    rfl
  · rw [e, e2]
    rfl
theorem vw_T45 {post : Int32 → St0 → Prop} {mc ms kc ks t k n : Nat} {s : Nat → Nat} {p : Nat → Nat → Bool} {kd : Nat → Nat} {x1 x2 : Int32} {o h kn : Int32} {a1 a2 a3 a4 a5 a6 a7 a8 a9 : Nat → Int32} (E : vw_E post t k n s p kd x1 x2 o a1 a6 a7 a8) (hk : kn = 0 ∨ (kn = 1 ∧ vw_A t s p 3 a9)) : (3 * nI (vw_sm (p 0) s 8) ≤ 2 * nI (36 * k) → wL_lawOf_228 post mc ms x1 x2 (nI k) (nI t) (nI (vw_sm (p 0) s 8)) (nI (vw_sm (p 1) s 8)) (nI (vw_sm (p 2) s 8)) (nI (36 * k)) 0 kc ks o h (nI n) kn a1 a2 a3 a4 a5 a6 a7 a8 a9) ∧ (¬ 3 * nI (vw_sm (p 0) s 8) ≤ 2 * nI (36 * k) → wL_lawOf_228 post mc ms x1 x2 (nI k) (nI t) (nI (vw_sm (p 0) s 8)) (nI (vw_sm (p 1) s 8)) (nI (vw_sm (p 2) s 8)) (nI (36 * k)) 1 kc ks o h (nI n) kn a1 a2 a3 a4 a5 a6 a7 a8 a9) := by
  refine vw_two E.2.1 (vw_tot_e E.2.2.2.2.1) (fun e => vw_T228 E hk ?_) (fun e => vw_T228 E hk ?_)
  · rw [e]
    rfl
  · rw [e]
    rfl
end
section
/-! the law's first loop -/
def vw_sk (k : Nat) : Nat → Nat := fun v => k * (v + 1)
/-- i validators have had their turn -/
def vw_I (t k : Nat) (x0 x1 x2 : Int32) (i : Nat) (u : St2) : Prop := ∃ (s : Nat → Nat) (p : Nat → Nat → Bool) (hN : Nat), hN ≤ 3 * i ∧ vw_K t s p hN u ∧ (∀ v, v < 8 → s v = if v < i then k * (v + 1) else 1) ∧ (∀ v, v < 8 → p 0 v = (vw_bt x0 v && decide (v < i))) ∧ (∀ v, v < 8 → p 1 v = (vw_bt x1 v && decide (v < i))) ∧ (∀ v, v < 8 → p 2 v = (vw_bt x2 v && decide (v < i)))
theorem vw_sm_f {q : Nat → Bool} {s : Nat → Nat} {i : Nat} (h : q i = false) : vw_sm q s (i + 1) = vw_sm q s i := by
  show vw_sm q s i + (if q i = true then s i else 0) = _
  rw [h]
  rfl
theorem vw_sm_t {q : Nat → Bool} {s : Nat → Nat} {i : Nat} (h : q i = true) : vw_sm q s (i + 1) = vw_sm q s i + s i := by
  show vw_sm q s i + (if q i = true then s i else 0) = _
  rw [h, if_pos rfl]
theorem vw_pn {f b : Nat → Bool} {i : Nat} (h : ∀ v, v < 8 → f v = (b v && decide (v < i))) (hb : b i = false) : ∀ v, v < 8 → f v = (b v && decide (v < i + 1)) := by
  intro v hv
  rw [h v hv]
  by_cases e : v = i
  · rw [e, hb, Bool.false_and, Bool.false_and]
  · rw [show decide (v < i) = decide (v < i + 1) from decide_eq_decide.mpr (by omega)]
theorem vw_pt {f b : Nat → Bool} {i : Nat} (h : ∀ v, v < 8 → f v = (b v && decide (v < i))) (hb : b i = true) : ∀ v, v < 8 → (f v || decide (v = i)) = (b v && decide (v < i + 1)) := by
  intro v hv
  rw [h v hv]
  by_cases e : v = i
  · rw [e, hb, decide_eq_true rfl, Bool.or_true, decide_eq_true (show i < i + 1 by omega)]
    rfl
  · rw [show decide (v < i) = decide (v < i + 1) from decide_eq_decide.mpr (by omega), decide_eq_false e, Bool.or_false]
theorem vw_p0 {f b : Nat → Bool} {i : Nat} (hi : i < 8) (h : ∀ v, v < 8 → f v = (b v && decide (v < i))) : f i = false := by
  rw [h i hi, decide_eq_false (by omega), Bool.and_false]
theorem vw_p1 {f b : Nat → Bool} {i : Nat} (hi : i < 8) (h : ∀ v, v < 8 → f v = (b v && decide (v < i + 1))) : f i = b i := by
  rw [h i hi, decide_eq_true (by omega), Bool.and_true]
theorem vw_S168 {post : Int32 → St0 → Prop} {mc ms kc ks t k i hN : Nat} {s : Nat → Nat} {p : Nat → Nat → Bool} {x0 x1 x2 x9 x10 x11 : Int32} {o h l kn : Int32} {a1 a2 a3 a4 a5 a6 a7 a8 a9 : Nat → Int32} {J45 : Int32 → Int32 → Int32 → Int32 → Int32 → Int32 → Int32 → Int32 → (Nat → Int32) → (Nat → Int32) → (Nat → Int32) → (Nat → Int32) → (Nat → Int32) → (Nat → Int32) → (Nat → Int32) → (Nat → Int32) → (Nat → Int32) → Prop} {z0 : Int32} (ht : 4 ≤ t ∧ t ≤ 6) (hi : i < 8) (hh : hN ≤ 3 * i + 2) (hK : vw_K t s p hN (o, h, l, kn, a1, a2, a3, a4, a5, a6, a7, a8, a9))
    (hs : ∀ v, v < 8 → s v = if v < i + 1 then k * (v + 1) else 1) (g0 : ∀ v, v < 8 → p 0 v = (vw_bt x0 v && decide (v < i + 1))) (g1 : ∀ v, v < 8 → p 1 v = (vw_bt x1 v && decide (v < i + 1))) (g2 : ∀ v, v < 8 → p 2 v = (vw_bt x2 v && decide (v < i)))
    (h9 : x9 = nI (vw_sm (vw_bt x0) (vw_sk k) (i + 1))) (h10 : x10 = nI (vw_sm (vw_bt x1) (vw_sk k) (i + 1))) (h11 : x11 = nI (vw_sm (vw_bt x2) (vw_sk k) i)) (hz : z0 = nI (p 1 i).toNat) (hb : vw_bt x2 i = true)
    (HJ : ∀ u : St2, vw_I t k x0 x1 x2 (i + 1) u → J45 (nI (vw_sm (vw_bt x0) (vw_sk k) (i + 1))) (nI (vw_sm (vw_bt x1) (vw_sk k) (i + 1))) (nI (vw_sm (vw_bt x2) (vw_sk k) (i + 1))) (nI (i + 1)) u.1 u.2.1 u.2.2.1 u.2.2.2.1 u.2.2.2.2.1 u.2.2.2.2.2.1 u.2.2.2.2.2.2.1 u.2.2.2.2.2.2.2.1 u.2.2.2.2.2.2.2.2.1 u.2.2.2.2.2.2.2.2.2.1 u.2.2.2.2.2.2.2.2.2.2.1 u.2.2.2.2.2.2.2.2.2.2.2.1 u.2.2.2.2.2.2.2.2.2.2.2.2) : wL_lawOf_168 post mc ms J45 x0 x1 x2 (nI k) (nI t) x9 x10 x11 (nI i) z0 kc ks o h l kn a1 a2 a3 a4 a5 a6 a7 a8 a9 := by
  subst h9 h10 h11
  unfold wL_lawOf_168
  refine vw_vote ht (c := 2) (by omega) hi (by omega) (vw_p0 hi g2) hK rfl rfl (fun u hu => ?_)
  obtain ⟨o', h', l', kn', b1, b2, b3, b4, b5, b6, b7, b8, b9⟩ := u
  refine br_t ?_ (nm_r ?_ (nm_r (nI_1 i) (HJ (o', h', l', kn', b1, b2, b3, b4, b5, b6, b7, b8, b9) ⟨s, vw_up p 2 i, hN + 1, by omega, hu, hs, ?_, ?_, ?_⟩)))
  · rw [hz]
    rfl
  · rw [nI_1, pk_mul, nI_add, vw_sm_t hb]
    rfl
  · rw [vw_up_o (by omega)]
    exact g0
  · rw [vw_up_o (by omega)]
    exact g1
  · intro v hv
    rw [vw_up_s]
    exact vw_pt g2 hb v hv
theorem vw_S145 {post : Int32 → St0 → Prop} {mc ms kc ks t k i hN : Nat} {s : Nat → Nat} {p : Nat → Nat → Bool} {x0 x1 x2 x9 x10 x11 : Int32} {o h l kn : Int32} {a1 a2 a3 a4 a5 a6 a7 a8 a9 : Nat → Int32} {J45 : Int32 → Int32 → Int32 → Int32 → Int32 → Int32 → Int32 → Int32 → (Nat → Int32) → (Nat → Int32) → (Nat → Int32) → (Nat → Int32) → (Nat → Int32) → (Nat → Int32) → (Nat → Int32) → (Nat → Int32) → (Nat → Int32) → Prop} (ht : 4 ≤ t ∧ t ≤ 6) (hi : i < 8) (hh : hN ≤ 3 * i + 2) (hK : vw_K t s p hN (o, h, l, kn, a1, a2, a3, a4, a5, a6, a7, a8, a9))
    (hs : ∀ v, v < 8 → s v = if v < i + 1 then k * (v + 1) else 1) (g0 : ∀ v, v < 8 → p 0 v = (vw_bt x0 v && decide (v < i + 1))) (g1 : ∀ v, v < 8 → p 1 v = (vw_bt x1 v && decide (v < i + 1))) (g2 : ∀ v, v < 8 → p 2 v = (vw_bt x2 v && decide (v < i)))
    (h9 : x9 = nI (vw_sm (vw_bt x0) (vw_sk k) (i + 1))) (h10 : x10 = nI (vw_sm (vw_bt x1) (vw_sk k) (i + 1))) (h11 : x11 = nI (vw_sm (vw_bt x2) (vw_sk k) i))
    (HJ : ∀ u : St2, vw_I t k x0 x1 x2 (i + 1) u → J45 (nI (vw_sm (vw_bt x0) (vw_sk k) (i + 1))) (nI (vw_sm (vw_bt x1) (vw_sk k) (i + 1))) (nI (vw_sm (vw_bt x2) (vw_sk k) (i + 1))) (nI (i + 1)) u.1 u.2.1 u.2.2.1 u.2.2.2.1 u.2.2.2.2.1 u.2.2.2.2.2.1 u.2.2.2.2.2.2.1 u.2.2.2.2.2.2.2.1 u.2.2.2.2.2.2.2.2.1 u.2.2.2.2.2.2.2.2.2.1 u.2.2.2.2.2.2.2.2.2.2.1 u.2.2.2.2.2.2.2.2.2.2.2.1 u.2.2.2.2.2.2.2.2.2.2.2.2) : wL_lawOf_145 post mc ms J45 x0 x1 x2 (nI k) (nI t) x9 x10 x11 (nI i) kc ks o h l kn a1 a2 a3 a4 a5 a6 a7 a8 a9 := by
  unfold wL_lawOf_145
  refine vw_sel (vw_bt x2 i) (vw_sb x2 hi) (fun e => ?_) (fun e => vw_sel (vw_bt x1 i) (vw_sb x1 hi) (fun e1 => ?_) (fun e1 => ?_))
  · subst h9 h10 h11
    have := HJ (o, h, l, kn, a1, a2, a3, a4, a5, a6, a7, a8, a9) ⟨s, p, hN, by omega, hK, hs, g0, g1, vw_pn g2 e⟩
    rw [vw_sm_f (q := vw_bt x2) e] at this
    exact nm_r (nI_1 i) this
  · exact vw_S168 ht hi hh hK hs g0 g1 g2 h9 h10 h11 (by rw [vw_p1 hi g1, e1]; rfl) e HJ
  · exact vw_S168 ht hi hh hK hs g0 g1 g2 h9 h10 h11 (by rw [vw_p1 hi g1, e1]; rfl) e HJ
theorem vw_S108 {post : Int32 → St0 → Prop} {mc ms kc ks t k i hN : Nat} {s : Nat → Nat} {p : Nat → Nat → Bool} {x0 x1 x2 x9 x10 x11 : Int32} {o h l kn : Int32} {a1 a2 a3 a4 a5 a6 a7 a8 a9 : Nat → Int32} {J45 : Int32 → Int32 → Int32 → Int32 → Int32 → Int32 → Int32 → Int32 → (Nat → Int32) → (Nat → Int32) → (Nat → Int32) → (Nat → Int32) → (Nat → Int32) → (Nat → Int32) → (Nat → Int32) → (Nat → Int32) → (Nat → Int32) → Prop} (ht : 4 ≤ t ∧ t ≤ 6) (hi : i < 8) (hh : hN ≤ 3 * i + 1) (hK : vw_K t s p hN (o, h, l, kn, a1, a2, a3, a4, a5, a6, a7, a8, a9))
    (hs : ∀ v, v < 8 → s v = if v < i + 1 then k * (v + 1) else 1) (g0 : ∀ v, v < 8 → p 0 v = (vw_bt x0 v && decide (v < i + 1))) (g1 : ∀ v, v < 8 → p 1 v = (vw_bt x1 v && decide (v < i))) (g2 : ∀ v, v < 8 → p 2 v = (vw_bt x2 v && decide (v < i)))
    (h9 : x9 = nI (vw_sm (vw_bt x0) (vw_sk k) (i + 1))) (h10 : x10 = nI (vw_sm (vw_bt x1) (vw_sk k) i)) (h11 : x11 = nI (vw_sm (vw_bt x2) (vw_sk k) i))
    (HJ : ∀ u : St2, vw_I t k x0 x1 x2 (i + 1) u → J45 (nI (vw_sm (vw_bt x0) (vw_sk k) (i + 1))) (nI (vw_sm (vw_bt x1) (vw_sk k) (i + 1))) (nI (vw_sm (vw_bt x2) (vw_sk k) (i + 1))) (nI (i + 1)) u.1 u.2.1 u.2.2.1 u.2.2.2.1 u.2.2.2.2.1 u.2.2.2.2.2.1 u.2.2.2.2.2.2.1 u.2.2.2.2.2.2.2.1 u.2.2.2.2.2.2.2.2.1 u.2.2.2.2.2.2.2.2.2.1 u.2.2.2.2.2.2.2.2.2.2.1 u.2.2.2.2.2.2.2.2.2.2.2.1 u.2.2.2.2.2.2.2.2.2.2.2.2) : wL_lawOf_108 post mc ms J45 x0 x1 x2 (nI k) (nI t) x9 x10 x11 (nI i) kc ks o h l kn a1 a2 a3 a4 a5 a6 a7 a8 a9 := by
  unfold wL_lawOf_108
  refine vw_sel (vw_bt x1 i) (vw_sb x1 hi) (fun e => ?_) (fun e => ?_)
  · exact vw_S145 ht hi (by omega) hK hs g0 (vw_pn g1 e) g2 h9 (by rw [h10, vw_sm_f e]) h11 HJ
  · refine vw_vote ht (c := 1) (by omega) hi (by omega) (vw_p0 hi g1) hK rfl rfl (fun u hu => ?_)
    obtain ⟨o', h', l', kn', b1, b2, b3, b4, b5, b6, b7, b8, b9⟩ := u
    refine br_t ?_ (nm_r ?_ (vw_S145 ht hi (by omega) hu hs ?_ ?_ ?_ h9 rfl h11 HJ))
    · show nI (p 2 i).toNat = 0
      rw [vw_p0 hi g2]
      rfl
    · rw [h10, nI_1, pk_mul, nI_add, vw_sm_t e]
      rfl
    · rw [vw_up_o (by omega)]
      exact g0
    · intro v hv
      rw [vw_up_s]
      exact vw_pt g1 e v hv
    · rw [vw_up_o (by omega)]
      exact g2
theorem vw_Sturn {post : Int32 → St0 → Prop} {mc ms kc ks t k i f : Nat} {x0 x1 x2 : Int32} {u : St2} (ht : 4 ≤ t ∧ t ≤ 6) (hk : k ≤ 8) (hi : i < 8) (hI : vw_I t k x0 x1 x2 i u)
    (HJ : ∀ u : St2, vw_I t k x0 x1 x2 (i + 1) u → wL_lawOf_45 post mc ms x0 x1 x2 (nI k) (nI t) kc ks f (nI (vw_sm (vw_bt x0) (vw_sk k) (i + 1))) (nI (vw_sm (vw_bt x1) (vw_sk k) (i + 1))) (nI (vw_sm (vw_bt x2) (vw_sk k) (i + 1))) (nI (i + 1)) u.1 u.2.1 u.2.2.1 u.2.2.2.1 u.2.2.2.2.1 u.2.2.2.2.2.1 u.2.2.2.2.2.2.1 u.2.2.2.2.2.2.2.1 u.2.2.2.2.2.2.2.2.1 u.2.2.2.2.2.2.2.2.2.1 u.2.2.2.2.2.2.2.2.2.2.1 u.2.2.2.2.2.2.2.2.2.2.2.1 u.2.2.2.2.2.2.2.2.2.2.2.2) :
    wL_lawOf_45 post mc ms x0 x1 x2 (nI k) (nI t) kc ks (f + 1) (nI (vw_sm (vw_bt x0) (vw_sk k) i)) (nI (vw_sm (vw_bt x1) (vw_sk k) i)) (nI (vw_sm (vw_bt x2) (vw_sk k) i)) (nI i) u.1 u.2.1 u.2.2.1 u.2.2.2.1 u.2.2.2.2.1 u.2.2.2.2.2.1 u.2.2.2.2.2.2.1 u.2.2.2.2.2.2.2.1 u.2.2.2.2.2.2.2.2.1 u.2.2.2.2.2.2.2.2.2.1 u.2.2.2.2.2.2.2.2.2.2.1 u.2.2.2.2.2.2.2.2.2.2.2.1 u.2.2.2.2.2.2.2.2.2.2.2.2 := by
  obtain ⟨s, p, hN, hh, hK, hs, g0, g1, g2⟩ := hI
  obtain ⟨o, h, l, kn, a1, a2, a3, a4, a5, a6, a7, a8, a9⟩ := u
  show wL_lawOf_45 post mc ms x0 x1 x2 (nI k) (nI t) kc ks (f + 1) (nI (vw_sm (vw_bt x0) (vw_sk k) i)) (nI (vw_sm (vw_bt x1) (vw_sk k) i)) (nI (vw_sm (vw_bt x2) (vw_sk k) i)) (nI i) o h l kn a1 a2 a3 a4 a5 a6 a7 a8 a9
  have hm : k * (i + 1) ≤ 8 * 8 := Nat.mul_le_mul hk (by omega)
  refine pk_le 8 i (fun z => absurd z (by omega)) (fun _ => ?_)
  refine vw_stake hi (w := k * (i + 1)) (by omega) rfl (by rw [nI_1, pk_mul]) ?_
  obtain ⟨hB, e1, e2, hS, hV, hL⟩ := hK
  have hs1 : a1 i = nI 1 := by
    rw [(hS i hi).2, hs i hi, if_neg (by omega)]
  have hs' : ∀ v, v < 8 → (fun v => if v = i then k * (i + 1) else s v) v = if v < i + 1 then k * (v + 1) else 1 := by
    intro v hv
    show (if v = i then k * (i + 1) else s v) = _
    by_cases e : v = i
    · rw [e, if_pos rfl, if_pos (by omega)]
    · rw [if_neg e, hs v hv]
      by_cases e3 : v < i
      · rw [if_pos e3, if_pos (by omega)]
      · rw [if_neg e3, if_neg (by omega)]
  have hK' : vw_K t (fun v => if v = i then k * (i + 1) else s v) p hN (o, h, l, 0, upd a1 i (nI (k * (i + 1))), a2, a3, a4, a5, a6, a7, a8, a9) := ⟨hB, e1, rfl, vw_S_upd hS (by omega) (if_pos rfl) (fun j _ hj => if_neg hj), hV, hL⟩
  refine br_t hs1 (vw_sel (vw_bt x0 i) (vw_sb x0 hi) (fun e => ?_) (fun e => ?_))
  · exact vw_S108 ht hi (by omega) hK' hs' (vw_pn g0 e) g1 g2 (by rw [vw_sm_f e]) rfl rfl HJ
  · refine vw_vote ht (c := 0) (by omega) hi (by omega) (vw_p0 hi g0) hK' rfl rfl (fun u hu => ?_)
    obtain ⟨o', h', l', kn', b1, b2, b3, b4, b5, b6, b7, b8, b9⟩ := u
    refine br_t rfl (nm_r ?_ (vw_S108 ht hi (by omega) hu hs' ?_ ?_ ?_ rfl rfl rfl HJ))
    · rw [nI_1, pk_mul, nI_add, vw_sm_t e]
      rfl
    · intro v hv
      rw [vw_up_s]
      exact vw_pt g0 e v hv
    · rw [vw_up_o (by omega)]
      exact g1
    · rw [vw_up_o (by omega)]
      exact g2
theorem vw_Send {post : Int32 → St0 → Prop} {mc ms kc ks t k f : Nat} {x0 x1 x2 : Int32} {u : St2} (ht : 4 ≤ t ∧ t ≤ 6) (hI : vw_I t k x0 x1 x2 8 u) (H : post 1 ()) :
    wL_lawOf_45 post mc ms x0 x1 x2 (nI k) (nI t) kc ks (f + 1) (nI (vw_sm (vw_bt x0) (vw_sk k) 8)) (nI (vw_sm (vw_bt x1) (vw_sk k) 8)) (nI (vw_sm (vw_bt x2) (vw_sk k) 8)) (nI 8) u.1 u.2.1 u.2.2.1 u.2.2.2.1 u.2.2.2.2.1 u.2.2.2.2.2.1 u.2.2.2.2.2.2.1 u.2.2.2.2.2.2.2.1 u.2.2.2.2.2.2.2.2.1 u.2.2.2.2.2.2.2.2.2.1 u.2.2.2.2.2.2.2.2.2.2.1 u.2.2.2.2.2.2.2.2.2.2.2.1 u.2.2.2.2.2.2.2.2.2.2.2.2 := by
  obtain ⟨s, p, hN, hh, hK, hs, g0, g1, g2⟩ := hI
  obtain ⟨o, h, l, kn, a1, a2, a3, a4, a5, a6, a7, a8, a9⟩ := u
  obtain ⟨hB, e1, e2, hS, hV, n, kd, e3, hL⟩ := hK
  subst e3
  show wL_lawOf_45 post mc ms x0 x1 x2 (nI k) (nI t) kc ks (f + 1) (nI (vw_sm (vw_bt x0) (vw_sk k) 8)) (nI (vw_sm (vw_bt x1) (vw_sk k) 8)) (nI (vw_sm (vw_bt x2) (vw_sk k) 8)) (nI 8) o h (nI n) kn a1 a2 a3 a4 a5 a6 a7 a8 a9
  have hsv : ∀ v, v < 8 → s v = k * (v + 1) := fun v hv => by rw [hs v hv, if_pos hv]
  have q0 : ∀ v, v < 8 → p 0 v = vw_bt x0 v := fun v hv => by rw [g0 v hv, decide_eq_true hv, Bool.and_true]
  have q1 : ∀ v, v < 8 → p 1 v = vw_bt x1 v := fun v hv => by rw [g1 v hv, decide_eq_true hv, Bool.and_true]
  have q2 : ∀ v, v < 8 → p 2 v = vw_bt x2 v := fun v hv => by rw [g2 v hv, decide_eq_true hv, Bool.and_true]
  rw [← vw_sm_congr (q := p 0) (s := s) (q' := vw_bt x0) (s' := vw_sk k) 8 q0 hsv, ← vw_sm_congr (q := p 1) (s := s) (q' := vw_bt x1) (s' := vw_sk k) 8 q1 hsv, ← vw_sm_congr (q := p 2) (s := s) (q' := vw_bt x2) (s' := vw_sk k) 8 q2 hsv]
  refine pk_le 8 8 (fun _ => ?_) (fun z => absurd z (by omega))
  exact nm_r (pk_mul 36 k) (vw_T45 ⟨ht, hS, hL, hB, hsv, q1, q2, H⟩ (Or.inl e2))
theorem vw_lawOf {post : Int32 → St0 → Prop} {y0 y1 y2 y3 y4 : Int32} (H : post 1 ()) : wpL_lawOf post 10 1117 () y0 y1 y2 y3 y4 := by
  obtain ⟨j, hj, ej⟩ := pk_andE y3 (m := 7) 3 (by decide)
  obtain ⟨b, hb, eb⟩ := pk_andE y4 (m := 255) 8 (by decide)
  unfold wpL_lawOf
  refine ⟨by omega, by omega, 9, 1104, by omega, by omega, vw_init (4 + b % 3) (fun u hu => ?_)⟩
  rw [ej, eb]
  have hI : vw_I (4 + b % 3) (1 + j) y0 y1 y2 0 u := ⟨fun _ => 1, fun _ _ => false, 0, by omega, hu, fun v _ => rfl, fun v _ => (Bool.and_false _).symm, fun v _ => (Bool.and_false _).symm, fun v _ => (Bool.and_false _).symm⟩
  have hl := pk_loop (σ := St2) (fun m i u => wL_lawOf_45 post 10 1117 y0 y1 y2 (nI (1 + j)) (nI (4 + b % 3)) (1 + 9) (13 + 1104) m (nI (vw_sm (vw_bt y0) (vw_sk (1 + j)) i)) (nI (vw_sm (vw_bt y1) (vw_sk (1 + j)) i)) (nI (vw_sm (vw_bt y2) (vw_sk (1 + j)) i)) (nI i) u.1 u.2.1 u.2.2.1 u.2.2.2.1 u.2.2.2.2.1 u.2.2.2.2.2.1 u.2.2.2.2.2.2.1 u.2.2.2.2.2.2.2.1 u.2.2.2.2.2.2.2.2.1 u.2.2.2.2.2.2.2.2.2.1 u.2.2.2.2.2.2.2.2.2.2.1 u.2.2.2.2.2.2.2.2.2.2.2.1 u.2.2.2.2.2.2.2.2.2.2.2.2) (fun i u => vw_I (4 + b % 3) (1 + j) y0 y1 y2 i u) 8 0 u (by omega) hI (fun m u h => vw_Send (by omega) h H) (fun m i u hi h hw => vw_Sturn (by omega) (by omega) hi h hw)
  obtain ⟨o', h', l', kn', b1, b2, b3, b4, b5, b6, b7, b8, b9⟩ := u
  exact nm_r (nI_add 1 j) ⟨by decide, nm_r (pk_rem (a := b) (d := 3) (by omega) (by omega) (by omega)) (nm_r (nI_add 4 (b % 3)) hl)⟩
theorem i_vc (xs : Nat → Int32) (L : Nat) (hL : L ≤ 5) : wpL_law (fun r => r = 1) L xs := by
  unfold wpL_law
  exact vw_cell hL 0 (by omega) (fun r1 => vw_cell hL 1 (by omega) (fun r2 => vw_cell hL 2 (by omega) (fun r3 => vw_cell hL 3 (by omega) (fun r4 => vw_cell hL 4 (by omega) (fun r5 => ⟨10, 1117, by omega, by omega, vw_lawOf rfl⟩)))))
end
