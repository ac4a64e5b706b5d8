section
/-! base rows: rows of kit/rows/PURE-ROWS (pk_) and small rows of my own (me_) -/
theorem pk_us {f : Nat → Int32} {k : Nat} {x : Int32} : upd f k x k = x := if_pos rfl
theorem pk_un {f : Nat → Int32} {k j : Nat} {x : Int32} (h : j ≠ k) : upd f k x j = f j := if_neg h
theorem pk_sub {a b : Nat} (h : b ≤ a) : nI a - nI b = nI (a - b) := by
  obtain ⟨c, rfl⟩ : ∃ c, a = c + b := ⟨a - b, by omega⟩
  rw [← nI_add, Int32.add_sub_cancel, Nat.add_sub_cancel]
theorem pk_m1 (n : Nat) : nI (n + 1) + (-1) = nI n := by
  rw [← nI_1, Int32.add_assoc, show (1 : Int32) + (-1) = 0 from rfl, Int32.add_zero]
theorem pk_mul (a b : Nat) : nI a * nI b = nI (a * b) := (Int32.ofNat_mul a b).symm
theorem pk_ix (x : Int32) {n : Nat} (hn : n < 2 ^ 31) : x < 0 ∨ nI n ≤ x ∨ ∃ j : Nat, j < n ∧ x = nI j := by
  by_cases h : x < 0
  · exact Or.inl h
  · obtain ⟨j, hj, rfl⟩ := nI_of h
    by_cases h2 : j < n
    · exact Or.inr (Or.inr ⟨j, h2, rfl⟩)
    · exact Or.inr (Or.inl (nI_le (by omega) hj))
theorem pk_le {x y : Int32} {A B : Prop} (a b : Nat) (f : a ≤ b → A) (g : b < a → B) (hx : x = nI a := by rfl) (hy : y = nI b := by rfl) (ha : a < 2 ^ 31 := by omega) (hb : b < 2 ^ 31 := by omega) : (x ≤ y → A) ∧ (¬ x ≤ y → B) := by
  subst hx hy
  rw [nI_leI ha hb]
  exact ⟨f, fun z => g (by omega)⟩
theorem pk_lt {x y : Int32} {A B : Prop} (a b : Nat) (f : a < b → A) (g : b ≤ a → B) (hx : x = nI a := by rfl) (hy : y = nI b := by rfl) (ha : a < 2 ^ 31 := by omega) (hb : b < 2 ^ 31 := by omega) : (x < y → A) ∧ (¬ x < y → B) := by
  subst hx hy
  rw [nI_ltI ha hb]
  exact ⟨f, fun z => g (by omega)⟩
theorem pk_eq {x y : Int32} {A B : Prop} (a b : Nat) (f : a = b → A) (g : a ≠ b → B) (hx : x = nI a := by rfl) (hy : y = nI b := by rfl) (ha : a < 2 ^ 31 := by omega) (hb : b < 2 ^ 31 := by omega) : (x = y → A) ∧ (¬ x = y → B) := by
  subst hx hy
  rw [nI_eq ha hb]
  exact ⟨f, g⟩
theorem pk_in {x : Int32} (n N : Nat) (h : n < N) (hx : x = nI n := by rfl) (hN : N < 2 ^ 31 := by omega) : vp_in x N := by
  subst hx
  exact vp_in_nI h hN
theorem pk_cl {x : Int32} (n : Nat) (hx : x = nI n := by rfl) (h : n < 2 ^ 31 := by omega) : x.toNatClampNeg = n := by
  subst hx
  exact nI_clamp h
/-- -1 where there is none -/
def me_o : Option Nat → Int32
  | none => -1
  | some n => nI n
theorem me_ix32 (a b : Nat) : nI a * 32 + nI b = nI (a * 32 + b) := by
  rw [show (32 : Int32) = nI 32 from rfl, pk_mul, nI_add]
theorem me_ix40 (a b : Nat) : nI a * 40 + nI b = nI (a * 40 + b) := by
  rw [show (40 : Int32) = nI 40 from rfl, pk_mul, nI_add]
theorem me_ix3 (a b : Nat) : nI a * 3 + nI b = nI (a * 3 + b) := by
  rw [show (3 : Int32) = nI 3 from rfl, pk_mul, nI_add]
theorem me_ix7 (a : Nat) : nI a * 7 = nI (a * 7) := by
  rw [show (7 : Int32) = nI 7 from rfl, pk_mul]
theorem me_ix71 (a : Nat) : nI a * 7 + 1 = nI (a * 7 + 1) := by
  rw [me_ix7, show (1 : Int32) = nI 1 from rfl, nI_add]
theorem me_ix72 (a : Nat) : nI a * 7 + 2 = nI (a * 7 + 2) := by
  rw [me_ix7, show (2 : Int32) = nI 2 from rfl, nI_add]
theorem me_ix73 (a : Nat) : nI a * 7 + 3 = nI (a * 7 + 3) := by
  rw [me_ix7, show (3 : Int32) = nI 3 from rfl, nI_add]
theorem me_ix74 (a b : Nat) : nI a * 7 + 4 + nI b = nI (a * 7 + 4 + b) := by
  rw [me_ix7, show (4 : Int32) = nI 4 from rfl, nI_add, nI_add]
theorem me_sub1 {p : Nat} (h : 0 < p) : nI p - 1 = nI (p - 1) := by
  obtain ⟨q, rfl⟩ : ∃ q, p = q + 1 := ⟨p - 1, by omega⟩
  exact nI_pred q
theorem me_m1 {p : Nat} (h : 0 < p) : nI p + (-1) = nI (p - 1) := by
  obtain ⟨q, rfl⟩ : ∃ q, p = q + 1 := ⟨p - 1, by omega⟩
  exact pk_m1 q
theorem me_o_neg : me_o none < 0 := by decide
theorem me_o_nneg : ¬ (0 : Int32) ≤ me_o none := by decide
theorem me_o_some (n : Nat) : me_o (some n) = nI n := rfl
/-- a branch on 0 ≤ an optional number, and on its being negative -/
theorem me_oge {A B : Prop} (o : Option Nat) (hb : ∀ n, o = some n → n < 2 ^ 31) (f : ∀ n, o = some n → A) (g : o = none → B) : ((0 : Int32) ≤ me_o o → A) ∧ (¬ (0 : Int32) ≤ me_o o → B) := by
  cases o with
  | none => exact br_f (by decide) (g rfl)
  | some n => exact br_t (nI_pos' (hb n rfl)) (f n rfl)
theorem me_olt {A B : Prop} (o : Option Nat) (hb : ∀ n, o = some n → n < 2 ^ 31) (f : o = none → A) (g : ∀ n, o = some n → B) : (me_o o < 0 → A) ∧ (¬ me_o o < 0 → B) := by
  cases o with
  | none => exact br_t (by decide) (f rfl)
  | some n => exact br_f (nI_pos (hb n rfl)) (g n rfl)
theorem me_o_inj {a b : Option Nat} (ha : ∀ n, a = some n → n < 2 ^ 31) (hb : ∀ n, b = some n → n < 2 ^ 31) : me_o a = me_o b ↔ a = b := by
  have hn : ∀ n, n < 2 ^ 31 → ¬ nI n = (-1 : Int32) := fun n h e => by
    have := nI_pos' h
    rw [e] at this
    exact absurd this (by decide)
  cases a with
  | none =>
    cases b with
    | none => simp
    | some m => simp only [me_o]; constructor
                · intro e; exact absurd e.symm (hn m (hb m rfl))
                · intro e; cases e
  | some n =>
    cases b with
    | none => simp only [me_o]; constructor
              · intro e; exact absurd e (hn n (ha n rfl))
              · intro e; cases e
    | some m => simp only [me_o, nI_eq (ha n rfl) (hb m rfl), Option.some.injEq]
end
section
/-! pure readings of a text -/
def me_ls (t : Nat → Int32) : Nat → Nat
  | 0 => 0
  | p + 1 => if t p = 10 then p + 1 else me_ls t p
theorem me_ls_le (t : Nat → Int32) : ∀ p, me_ls t p ≤ p
  | 0 => Nat.le_refl _
  | p + 1 => by
    rw [me_ls]
    split
    · exact Nat.le_refl _
    · exact Nat.le_succ_of_le (me_ls_le t p)
def me_leA (t : Nat → Int32) : Nat → Nat → Nat
  | 0, p => p
  | d + 1, p => if t p = 10 then p else me_leA t d (p + 1)
def me_le (t : Nat → Int32) (len p : Nat) : Nat := me_leA t (len - p) p
theorem me_leA_b (t : Nat → Int32) : ∀ d p, p ≤ me_leA t d p ∧ me_leA t d p ≤ p + d
  | 0, p => ⟨Nat.le_refl _, Nat.le_refl _⟩
  | d + 1, p => by
    rw [me_leA]
    split
    · exact ⟨Nat.le_refl _, by omega⟩
    · have := me_leA_b t d (p + 1); omega
theorem me_le_b {t : Nat → Int32} {len p : Nat} (h : p ≤ len) : p ≤ me_le t len p ∧ me_le t len p ≤ len := by
  have := me_leA_b t (len - p) p
  unfold me_le; omega
/-- the class of a code -/
def me_cls (c : Int32) : Int32 :=
  if 32 < c then (if (¬ c < 48 ∧ c ≤ 57) ∨ (¬ c < 65 ∧ c ≤ 90) ∨ (¬ c < 97 ∧ c ≤ 122) ∨ c = 95 then 2 else 1) else 0
def me_srA (t : Nat → Int32) (k : Int32) : Nat → Nat → Nat
  | 0, p => p
  | d + 1, p => if me_cls (t p) = k then me_srA t k d (p + 1) else p
def me_sr (t : Nat → Int32) (len : Nat) (k : Int32) (p : Nat) : Nat := me_srA t k (len - p) p
theorem me_srA_b (t : Nat → Int32) (k : Int32) : ∀ d p, p ≤ me_srA t k d p ∧ me_srA t k d p ≤ p + d
  | 0, p => ⟨Nat.le_refl _, Nat.le_refl _⟩
  | d + 1, p => by
    rw [me_srA]
    split
    · have := me_srA_b t k d (p + 1); omega
    · exact ⟨Nat.le_refl _, by omega⟩
theorem me_sr_b {t : Nat → Int32} {len p : Nat} {k : Int32} (h : p ≤ len) : p ≤ me_sr t len k p ∧ me_sr t len k p ≤ len := by
  have := me_srA_b t k (len - p) p
  unfold me_sr; omega
def me_sl (t : Nat → Int32) (k : Int32) : Nat → Nat
  | 0 => 0
  | p + 1 => if me_cls (t p) = k then me_sl t k p else p + 1
theorem me_sl_le (t : Nat → Int32) (k : Int32) : ∀ p, me_sl t k p ≤ p
  | 0 => Nat.le_refl _
  | p + 1 => by
    rw [me_sl]
    split
    · exact Nat.le_succ_of_le (me_sl_le t k p)
    · exact Nat.le_refl _
def me_kr (t : Nat → Int32) (len p : Nat) : Int32 := if p < len then me_cls (t p) else 0
def me_kl (t : Nat → Int32) : Nat → Int32
  | 0 => 0
  | p + 1 => me_cls (t p)
def me_wr (t : Nat → Int32) (len p : Nat) : Nat := me_sr t len 0 (if me_kr t len p = 0 then p else me_sr t len (me_kr t len p) p)
theorem me_wr_b {t : Nat → Int32} {len p : Nat} (h : p ≤ len) : me_wr t len p ≤ len := by
  unfold me_wr
  split
  · exact (me_sr_b h).2
  · exact (me_sr_b (me_sr_b h).2).2
def me_wl (t : Nat → Int32) (p : Nat) : Nat := me_sl t (me_kl t (me_sl t 0 p)) (me_sl t 0 p)
theorem me_wl_b (t : Nat → Int32) (p : Nat) : me_wl t p ≤ p := Nat.le_trans (me_sl_le _ _ _) (me_sl_le _ _ _)
def me_it (f : Nat → Nat) : Nat → Nat → Nat
  | 0, p => p
  | n + 1, p => me_it f n (f p)
theorem me_it_b {f : Nat → Nat} {len : Nat} (h : ∀ p, p ≤ len → f p ≤ len) : ∀ n p, p ≤ len → me_it f n p ≤ len
  | 0, _, hp => hp
  | n + 1, p, hp => me_it_b h n (f p) (h p hp)
def me_fnA (t : Nat → Int32) (key : Int32) : Nat → Nat → Nat → Option Nat
  | 0, _, _ => none
  | d + 1, i, l => if t i = key then (if l = 1 then some i else me_fnA t key d (i + 1) (l - 1)) else me_fnA t key d (i + 1) l
theorem me_fnA_b {t : Nat → Int32} {key : Int32} : ∀ d i l p, me_fnA t key d i l = some p → i ≤ p ∧ p < i + d
  | 0, _, _, _, h => by cases h
  | d + 1, i, l, p, h => by
    rw [me_fnA] at h
    split at h
    · split at h
      · cases h; omega
      · have := me_fnA_b d _ _ _ h; omega
    · have := me_fnA_b d _ _ _ h; omega
def me_lb (t : Nat → Int32) (len s : Nat) : Nat := if me_le t len s < len then me_le t len s + 1 else s
theorem me_lb_b {t : Nat → Int32} {len s : Nat} (h : s ≤ len) : me_lb t len s ≤ len := by
  unfold me_lb
  split
  · omega
  · exact h
def me_la (t : Nat → Int32) (s : Nat) : Nat := me_ls t (s - 1)
theorem me_la_b {t : Nat → Int32} {len s : Nat} (h : s ≤ len) : me_la t s ≤ len := by
  have := me_ls_le t (s - 1)
  unfold me_la; omega
def me_il (t : Nat → Int32) (len s col : Nat) : Nat := if me_le t len s ≤ s + col then me_le t len s else s + col
theorem me_il_b {t : Nat → Int32} {len s col : Nat} (h : s ≤ len) : me_il t len s col ≤ len := by
  have := me_le_b (t := t) h
  unfold me_il
  split <;> omega
def me_opn (t : Nat → Int32) : Nat → Nat → Option Nat
  | 0, _ => none
  | i + 1, d => if t i = 40 then (if d = 0 then some i else me_opn t i (d - 1)) else if t i = 41 then me_opn t i (d + 1) else me_opn t i d
theorem me_opn_b {t : Nat → Int32} : ∀ i d p, me_opn t i d = some p → p < i
  | 0, _, _, h => by cases h
  | i + 1, d, p, h => by
    rw [me_opn] at h
    split at h
    · split at h
      · cases h; omega
      · have := me_opn_b i _ _ h; omega
    · split at h
      · have := me_opn_b i _ _ h; omega
      · have := me_opn_b i _ _ h; omega
def me_cls2 (t : Nat → Int32) : Nat → Nat → Nat → Option Nat
  | 0, _, _ => none
  | d + 1, i, k => if t i = 41 then (if k = 0 then some i else me_cls2 t d (i + 1) (k - 1)) else if t i = 40 then me_cls2 t d (i + 1) (k + 1) else me_cls2 t d (i + 1) k
theorem me_cls2_b {t : Nat → Int32} : ∀ d i k p, me_cls2 t d i k = some p → i ≤ p ∧ p < i + d
  | 0, _, _, _, h => by cases h
  | d + 1, i, k, p, h => by
    rw [me_cls2] at h
    split at h
    · split at h
      · cases h; omega
      · have := me_cls2_b d _ _ _ h; omega
    · split at h
      · have := me_cls2_b d _ _ _ h; omega
      · have := me_cls2_b d _ _ _ h; omega
/-- how often: the product of the counts, from 1 to 32 -/
def me_nt (a b : Nat) : Nat := if (if a ≤ 1 then 1 else a) * (if b ≤ 1 then 1 else b) ≤ 32 then (if a ≤ 1 then 1 else a) * (if b ≤ 1 then 1 else b) else 32
theorem me_nt_b (a b : Nat) : 1 ≤ me_nt a b ∧ me_nt a b ≤ 32 := by
  have ha : 1 ≤ (if a ≤ 1 then 1 else a) := by split <;> omega
  have hb : 1 ≤ (if b ≤ 1 then 1 else b) := by split <;> omega
  have := Nat.mul_le_mul ha hb
  unfold me_nt
  generalize (if a ≤ 1 then 1 else a) * (if b ≤ 1 then 1 else b) = x at this ⊢
  split <;> omega
end
section
/-! the component's readings -/
section
variable {f_textCap f_nodeCap f_levels f_len f_cur f_nodeCount f_node f_reg f_c1 f_op f_c2 f_waiting f_sessionStart f_copies f_recReg f_recLen f_chKeyLen f_chTextLen f_chReg f_chCount f_depth f_keyLevel f_spanFrom f_spanTo f_spanTextEnd f_spanKind : Int32} {a_text a_marks a_regKinds a_regLens a_regCodes a_nodeParent a_nodeRedo a_nodeLen a_nodeCur a_nodeMarks a_nodeText a_recCodes a_chKeys a_chText a_frameCodes a_frameLen a_framePos a_frameTimes a_frameLevel : Nat → Int32}
variable {post : Int32 → Prop} {t : Nat → Int32} {len : Nat}
theorem xe_lineStart_2 : ∀ p : Nat, p ≤ 32 → (∀ i, i < p → a_text i = t i) → post (nI (me_ls t p)) → wX_lineStart_2 post f_textCap f_nodeCap f_levels f_len f_cur f_nodeCount f_node f_reg f_c1 f_op f_c2 f_waiting f_sessionStart f_copies f_recReg f_recLen f_chKeyLen f_chTextLen f_chReg f_chCount f_depth f_keyLevel f_spanFrom f_spanTo f_spanTextEnd f_spanKind a_text a_marks a_regKinds a_regLens a_regCodes a_nodeParent a_nodeRedo a_nodeLen a_nodeCur a_nodeMarks a_nodeText a_recCodes a_chKeys a_chText a_frameCodes a_frameLen a_framePos a_frameTimes a_frameLevel (p + 1) (nI p)
  | 0, _, _, H => br_t (by decide) H
  | p + 1, hp, ht, H => by
    refine br_f (nI_nle (by omega) (by omega)) ⟨pk_in p 32 (by omega) (nI_pred p), ?_⟩
    rw [pk_cl p (nI_pred p), ht p (by omega)]
    refine br_c (fun h => ?_) (fun h => nm_r (pk_m1 p) ?_)
    · rw [me_ls, if_pos h] at H; exact H
    · rw [me_ls, if_neg h] at H
      exact xe_lineStart_2 p (by omega) (fun i hi => ht i (by omega)) H
theorem xe_lineStart {p : Nat} (hp : p ≤ 32) (ht : ∀ i, i < p → a_text i = t i) (H : post (nI (me_ls t p))) : wpX_lineStart post (f_textCap, f_nodeCap, f_levels, f_len, f_cur, f_nodeCount, f_node, f_reg, f_c1, f_op, f_c2, f_waiting, f_sessionStart, f_copies, f_recReg, f_recLen, f_chKeyLen, f_chTextLen, f_chReg, f_chCount, f_depth, f_keyLevel, f_spanFrom, f_spanTo, f_spanTextEnd, f_spanKind, a_text, a_marks, a_regKinds, a_regLens, a_regCodes, a_nodeParent, a_nodeRedo, a_nodeLen, a_nodeCur, a_nodeMarks, a_nodeText, a_recCodes, a_chKeys, a_chText, a_frameCodes, a_frameLen, a_framePos, a_frameTimes, a_frameLevel) (nI p) :=
  ⟨_, xe_lineStart_2 p hp ht H⟩
theorem xe_lineEnd_2 : ∀ d p : Nat, p + d = len → len ≤ 32 → (∀ i, i < len → a_text i = t i) → post (nI (me_leA t d p)) → wX_lineEnd_2 post f_textCap f_nodeCap f_levels (nI len) f_cur f_nodeCount f_node f_reg f_c1 f_op f_c2 f_waiting f_sessionStart f_copies f_recReg f_recLen f_chKeyLen f_chTextLen f_chReg f_chCount f_depth f_keyLevel f_spanFrom f_spanTo f_spanTextEnd f_spanKind a_text a_marks a_regKinds a_regLens a_regCodes a_nodeParent a_nodeRedo a_nodeLen a_nodeCur a_nodeMarks a_nodeText a_recCodes a_chKeys a_chText a_frameCodes a_frameLen a_framePos a_frameTimes a_frameLevel (d + 1) (nI p)
  | 0, p, hd, hl, _, H => br_t (nI_le (by omega) (by omega)) H
  | d + 1, p, hd, hl, ht, H => by
    refine br_f (nI_ge (by omega) (by omega)) ⟨vp_in_nI (by omega) (by omega), ?_⟩
    rw [nI_clamp (by omega), ht p (by omega)]
    refine br_c (fun h => ?_) (fun h => nm_r (nI_1 p) ?_)
    · rw [me_leA, if_pos h] at H; exact H
    · rw [me_leA, if_neg h] at H
      exact xe_lineEnd_2 d (p + 1) (by omega) hl ht H
theorem xe_lineEnd {p : Nat} (hp : p ≤ len) (hl : len ≤ 32) (ht : ∀ i, i < len → a_text i = t i) (H : post (nI (me_le t len p))) : wpX_lineEnd post (f_textCap, f_nodeCap, f_levels, nI len, f_cur, f_nodeCount, f_node, f_reg, f_c1, f_op, f_c2, f_waiting, f_sessionStart, f_copies, f_recReg, f_recLen, f_chKeyLen, f_chTextLen, f_chReg, f_chCount, f_depth, f_keyLevel, f_spanFrom, f_spanTo, f_spanTextEnd, f_spanKind, a_text, a_marks, a_regKinds, a_regLens, a_regCodes, a_nodeParent, a_nodeRedo, a_nodeLen, a_nodeCur, a_nodeMarks, a_nodeText, a_recCodes, a_chKeys, a_chText, a_frameCodes, a_frameLen, a_framePos, a_frameTimes, a_frameLevel) (nI p) :=
  ⟨_, xe_lineEnd_2 (len - p) p (by omega) hl ht H⟩
theorem xe_classAt {p : Nat} (hp : p < 32) (H : post (me_cls (a_text p))) : wpX_classAt post (f_textCap, f_nodeCap, f_levels, f_len, f_cur, f_nodeCount, f_node, f_reg, f_c1, f_op, f_c2, f_waiting, f_sessionStart, f_copies, f_recReg, f_recLen, f_chKeyLen, f_chTextLen, f_chReg, f_chCount, f_depth, f_keyLevel, f_spanFrom, f_spanTo, f_spanTextEnd, f_spanKind, a_text, a_marks, a_regKinds, a_regLens, a_regCodes, a_nodeParent, a_nodeRedo, a_nodeLen, a_nodeCur, a_nodeMarks, a_nodeText, a_recCodes, a_chKeys, a_chText, a_frameCodes, a_frameLen, a_framePos, a_frameTimes, a_frameLevel) (nI p) := by
  refine ⟨vp_in_nI hp (by omega), nm_r (congrArg a_text (nI_clamp (by omega))) ?_⟩
  generalize a_text p = c at H
  refine br_c (fun h => ?_) (fun h => ?_)
  · rw [me_cls, if_pos h] at H
    have k44 : ∀ z : Int32, (z = 0 → ¬ ((¬ c < 65 ∧ c ≤ 90) ∨ (¬ c < 97 ∧ c ≤ 122))) → (¬ z = 0 → ((¬ c < 65 ∧ c ≤ 90) ∨ (¬ c < 97 ∧ c ≤ 122))) → wX_classAt_44 post c z f_textCap f_nodeCap f_levels f_len f_cur f_nodeCount f_node f_reg f_c1 f_op f_c2 f_waiting f_sessionStart f_copies f_recReg f_recLen f_chKeyLen f_chTextLen f_chReg f_chCount f_depth f_keyLevel f_spanFrom f_spanTo f_spanTextEnd f_spanKind a_text a_marks a_regKinds a_regLens a_regCodes a_nodeParent a_nodeRedo a_nodeLen a_nodeCur a_nodeMarks a_nodeText a_recCodes a_chKeys a_chText a_frameCodes a_frameLen a_framePos a_frameTimes a_frameLevel := by
      intro z h0 h1
      have k61 : ¬ (¬ c < 48 ∧ c ≤ 57) → z = 0 → wX_classAt_61 post c f_textCap f_nodeCap f_levels f_len f_cur f_nodeCount f_node f_reg f_c1 f_op f_c2 f_waiting f_sessionStart f_copies f_recReg f_recLen f_chKeyLen f_chTextLen f_chReg f_chCount f_depth f_keyLevel f_spanFrom f_spanTo f_spanTextEnd f_spanKind a_text a_marks a_regKinds a_regLens a_regCodes a_nodeParent a_nodeRedo a_nodeLen a_nodeCur a_nodeMarks a_nodeText a_recCodes a_chKeys a_chText a_frameCodes a_frameLen a_framePos a_frameTimes a_frameLevel := by
        intro hd hz
        refine br_c (fun h => ?_) (fun h => ?_)
        · rw [if_pos (Or.inr (Or.inr (Or.inr h)))] at H; exact H
        · rw [if_neg] at H
          · exact H
          · intro q
            rcases q with q | q | q | q
            · exact hd q
            · exact h0 hz (Or.inl q)
            · exact h0 hz (Or.inr q)
            · exact h q
      refine br_c (fun hz => ?_) (fun hz => ?_)
      · refine br_c (fun h => k61 (fun q => q.1 h) hz) (fun h => br_c (fun h2 => ?_) (fun h2 => k61 (fun q => h2 q.2) hz))
        rw [if_pos (Or.inl ⟨h, h2⟩)] at H; exact H
      · rw [if_pos] at H
        · exact H
        · rcases h1 hz with q | q
          · exact Or.inr (Or.inl q)
          · exact Or.inr (Or.inr (Or.inl q))
    have k27 : ¬ (¬ c < 65 ∧ c ≤ 90) → wX_classAt_27 post c f_textCap f_nodeCap f_levels f_len f_cur f_nodeCount f_node f_reg f_c1 f_op f_c2 f_waiting f_sessionStart f_copies f_recReg f_recLen f_chKeyLen f_chTextLen f_chReg f_chCount f_depth f_keyLevel f_spanFrom f_spanTo f_spanTextEnd f_spanKind a_text a_marks a_regKinds a_regLens a_regCodes a_nodeParent a_nodeRedo a_nodeLen a_nodeCur a_nodeMarks a_nodeText a_recCodes a_chKeys a_chText a_frameCodes a_frameLen a_framePos a_frameTimes a_frameLevel := by
      intro hA
      refine br_c (fun h => ?_) (fun h => br_c (fun h2 => ?_) (fun h2 => ?_))
      · exact k44 0 (fun _ q => q.elim hA (fun q => q.1 h)) (fun q => absurd rfl q)
      · exact k44 0 (fun _ q => q.elim hA (fun q => absurd q.2 (Int32.not_le.mpr h2))) (fun q => absurd rfl q)
      · exact k44 1 (fun q => absurd q (by decide)) (fun _ => Or.inr ⟨h, Int32.not_lt.mp h2⟩)
    refine br_c (fun h => k27 (fun q => q.1 h)) (fun h => br_c (fun h2 => ?_) (fun h2 => k27 (fun q => h2 q.2)))
    exact k44 1 (fun q => absurd q (by decide)) (fun _ => Or.inl ⟨h, h2⟩)
  · rw [me_cls, if_neg h] at H; exact H
theorem xe_skipRight_2 {k : Int32} : ∀ d p : Nat, p + d = len → len ≤ 32 → (∀ i, i < len → a_text i = t i) → post (nI (me_srA t k d p)) → wX_skipRight_2 post k f_textCap f_nodeCap f_levels (nI len) f_cur f_nodeCount f_node f_reg f_c1 f_op f_c2 f_waiting f_sessionStart f_copies f_recReg f_recLen f_chKeyLen f_chTextLen f_chReg f_chCount f_depth f_keyLevel f_spanFrom f_spanTo f_spanTextEnd f_spanKind a_text a_marks a_regKinds a_regLens a_regCodes a_nodeParent a_nodeRedo a_nodeLen a_nodeCur a_nodeMarks a_nodeText a_recCodes a_chKeys a_chText a_frameCodes a_frameLen a_framePos a_frameTimes a_frameLevel (d + 1) (nI p)
  | 0, p, hd, hl, _, H => br_t (nI_le (by omega) (by omega)) H
  | d + 1, p, hd, hl, ht, H => by
    refine br_f (nI_ge (by omega) (by omega)) (xe_classAt (by omega) ?_)
    rw [ht p (by omega)]
    refine br_c (fun h => nm_r (nI_1 p) ?_) (fun h => ?_)
    · rw [me_srA, if_pos h] at H
      exact xe_skipRight_2 d (p + 1) (by omega) hl ht H
    · rw [me_srA, if_neg h] at H; exact H
theorem xe_skipRight {p : Nat} {k : Int32} (hp : p ≤ len) (hl : len ≤ 32) (ht : ∀ i, i < len → a_text i = t i) (H : post (nI (me_sr t len k p))) : wpX_skipRight post (f_textCap, f_nodeCap, f_levels, nI len, f_cur, f_nodeCount, f_node, f_reg, f_c1, f_op, f_c2, f_waiting, f_sessionStart, f_copies, f_recReg, f_recLen, f_chKeyLen, f_chTextLen, f_chReg, f_chCount, f_depth, f_keyLevel, f_spanFrom, f_spanTo, f_spanTextEnd, f_spanKind, a_text, a_marks, a_regKinds, a_regLens, a_regCodes, a_nodeParent, a_nodeRedo, a_nodeLen, a_nodeCur, a_nodeMarks, a_nodeText, a_recCodes, a_chKeys, a_chText, a_frameCodes, a_frameLen, a_framePos, a_frameTimes, a_frameLevel) (nI p) k :=
  ⟨_, xe_skipRight_2 (len - p) p (by omega) hl ht H⟩
theorem xe_skipLeft_2 {k : Int32} : ∀ p : Nat, p ≤ 32 → (∀ i, i < p → a_text i = t i) → post (nI (me_sl t k p)) → wX_skipLeft_2 post k f_textCap f_nodeCap f_levels f_len f_cur f_nodeCount f_node f_reg f_c1 f_op f_c2 f_waiting f_sessionStart f_copies f_recReg f_recLen f_chKeyLen f_chTextLen f_chReg f_chCount f_depth f_keyLevel f_spanFrom f_spanTo f_spanTextEnd f_spanKind a_text a_marks a_regKinds a_regLens a_regCodes a_nodeParent a_nodeRedo a_nodeLen a_nodeCur a_nodeMarks a_nodeText a_recCodes a_chKeys a_chText a_frameCodes a_frameLen a_framePos a_frameTimes a_frameLevel (p + 1) (nI p)
  | 0, _, _, H => br_t (by decide) H
  | p + 1, hp, ht, H => by
    refine br_f (nI_nle (by omega) (by omega)) ?_
    rw [nI_pred]
    refine xe_classAt (by omega) ?_
    rw [ht p (by omega)]
    refine br_c (fun h => nm_r (pk_m1 p) ?_) (fun h => ?_)
    · rw [me_sl, if_pos h] at H
      exact xe_skipLeft_2 p (by omega) (fun i hi => ht i (by omega)) H
    · rw [me_sl, if_neg h] at H; exact H
theorem xe_skipLeft {p : Nat} {k : Int32} (hp : p ≤ 32) (ht : ∀ i, i < p → a_text i = t i) (H : post (nI (me_sl t k p))) : wpX_skipLeft post (f_textCap, f_nodeCap, f_levels, f_len, f_cur, f_nodeCount, f_node, f_reg, f_c1, f_op, f_c2, f_waiting, f_sessionStart, f_copies, f_recReg, f_recLen, f_chKeyLen, f_chTextLen, f_chReg, f_chCount, f_depth, f_keyLevel, f_spanFrom, f_spanTo, f_spanTextEnd, f_spanKind, a_text, a_marks, a_regKinds, a_regLens, a_regCodes, a_nodeParent, a_nodeRedo, a_nodeLen, a_nodeCur, a_nodeMarks, a_nodeText, a_recCodes, a_chKeys, a_chText, a_frameCodes, a_frameLen, a_framePos, a_frameTimes, a_frameLevel) (nI p) k :=
  ⟨_, xe_skipLeft_2 p hp ht H⟩
theorem xe_wordRight_7 {n : Nat} (hn : n ≤ 32) (hl : len ≤ 32) (ht : ∀ i, i < len → a_text i = t i) : ∀ d i p : Nat, i + d = n → p ≤ len → post (nI (me_it (me_wr t len) d p)) → wX_wordRight_7 post (nI n) f_textCap f_nodeCap f_levels (nI len) f_cur f_nodeCount f_node f_reg f_c1 f_op f_c2 f_waiting f_sessionStart f_copies f_recReg f_recLen f_chKeyLen f_chTextLen f_chReg f_chCount f_depth f_keyLevel f_spanFrom f_spanTo f_spanTextEnd f_spanKind a_text a_marks a_regKinds a_regLens a_regCodes a_nodeParent a_nodeRedo a_nodeLen a_nodeCur a_nodeMarks a_nodeText a_recCodes a_chKeys a_chText a_frameCodes a_frameLen a_framePos a_frameTimes a_frameLevel (d + 1) (nI p) (nI i)
  | 0, i, p, hd, hp, H => br_t (nI_le (by omega) (by omega)) H
  | d + 1, i, p, hd, hp, H => by
    refine br_f (nI_ge (by omega) (by omega)) ?_
    have k44 : ∀ q, q ≤ len → me_sr t len 0 q = me_wr t len p → wX_wordRight_44 post (wX_wordRight_7 post (nI n) f_textCap f_nodeCap f_levels (nI len) f_cur f_nodeCount f_node f_reg f_c1 f_op f_c2 f_waiting f_sessionStart f_copies f_recReg f_recLen f_chKeyLen f_chTextLen f_chReg f_chCount f_depth f_keyLevel f_spanFrom f_spanTo f_spanTextEnd f_spanKind a_text a_marks a_regKinds a_regLens a_regCodes a_nodeParent a_nodeRedo a_nodeLen a_nodeCur a_nodeMarks a_nodeText a_recCodes a_chKeys a_chText a_frameCodes a_frameLen a_framePos a_frameTimes a_frameLevel (d + 1)) (nI n) (nI q) (nI i) f_textCap f_nodeCap f_levels (nI len) f_cur f_nodeCount f_node f_reg f_c1 f_op f_c2 f_waiting f_sessionStart f_copies f_recReg f_recLen f_chKeyLen f_chTextLen f_chReg f_chCount f_depth f_keyLevel f_spanFrom f_spanTo f_spanTextEnd f_spanKind a_text a_marks a_regKinds a_regLens a_regCodes a_nodeParent a_nodeRedo a_nodeLen a_nodeCur a_nodeMarks a_nodeText a_recCodes a_chKeys a_chText a_frameCodes a_frameLen a_framePos a_frameTimes a_frameLevel := by
      intro q hq e
      refine xe_skipRight hq hl ht (nm_r (nI_1 i) ?_)
      refine xe_wordRight_7 hn hl ht d (i + 1) _ (by omega) (me_sr_b hq).2 ?_
      rw [e]; exact H
    have k29 : ∀ z, z = me_kr t len p → wX_wordRight_29 post (wX_wordRight_7 post (nI n) f_textCap f_nodeCap f_levels (nI len) f_cur f_nodeCount f_node f_reg f_c1 f_op f_c2 f_waiting f_sessionStart f_copies f_recReg f_recLen f_chKeyLen f_chTextLen f_chReg f_chCount f_depth f_keyLevel f_spanFrom f_spanTo f_spanTextEnd f_spanKind a_text a_marks a_regKinds a_regLens a_regCodes a_nodeParent a_nodeRedo a_nodeLen a_nodeCur a_nodeMarks a_nodeText a_recCodes a_chKeys a_chText a_frameCodes a_frameLen a_framePos a_frameTimes a_frameLevel (d + 1)) (nI n) (nI p) (nI i) z f_textCap f_nodeCap f_levels (nI len) f_cur f_nodeCount f_node f_reg f_c1 f_op f_c2 f_waiting f_sessionStart f_copies f_recReg f_recLen f_chKeyLen f_chTextLen f_chReg f_chCount f_depth f_keyLevel f_spanFrom f_spanTo f_spanTextEnd f_spanKind a_text a_marks a_regKinds a_regLens a_regCodes a_nodeParent a_nodeRedo a_nodeLen a_nodeCur a_nodeMarks a_nodeText a_recCodes a_chKeys a_chText a_frameCodes a_frameLen a_framePos a_frameTimes a_frameLevel := by
      intro z hz
      refine br_c (fun h => k44 p hp ?_) (fun h => xe_skipRight hp hl ht (k44 _ (me_sr_b hp).2 ?_))
      · rw [me_wr, if_pos (hz ▸ h)]
      · rw [me_wr, if_neg (hz ▸ h), ← hz]
    refine pk_le len p (fun h => k29 0 ?_) (fun h => xe_classAt (by omega) (k29 _ ?_))
    · rw [me_kr, if_neg (by omega)]
    · rw [me_kr, if_pos h, ht p h]
theorem xe_wordRight {n cur : Nat} (hn : n ≤ 32) (hl : len ≤ 32) (ht : ∀ i, i < len → a_text i = t i) (hc : cur ≤ len) (H : post (nI (me_it (me_wr t len) n cur))) : wpX_wordRight post (f_textCap, f_nodeCap, f_levels, nI len, nI cur, f_nodeCount, f_node, f_reg, f_c1, f_op, f_c2, f_waiting, f_sessionStart, f_copies, f_recReg, f_recLen, f_chKeyLen, f_chTextLen, f_chReg, f_chCount, f_depth, f_keyLevel, f_spanFrom, f_spanTo, f_spanTextEnd, f_spanKind, a_text, a_marks, a_regKinds, a_regLens, a_regCodes, a_nodeParent, a_nodeRedo, a_nodeLen, a_nodeCur, a_nodeMarks, a_nodeText, a_recCodes, a_chKeys, a_chText, a_frameCodes, a_frameLen, a_framePos, a_frameTimes, a_frameLevel) (nI n) :=
  ⟨_, xe_wordRight_7 hn hl ht n 0 cur (by omega) hc H⟩
theorem xe_wordLeft_7 {n : Nat} (hn : n ≤ 32) (hl : len ≤ 32) (ht : ∀ i, i < len → a_text i = t i) : ∀ d i p : Nat, i + d = n → p ≤ len → post (nI (me_it (me_wl t) d p)) → wX_wordLeft_7 post (nI n) f_textCap f_nodeCap f_levels f_len f_cur f_nodeCount f_node f_reg f_c1 f_op f_c2 f_waiting f_sessionStart f_copies f_recReg f_recLen f_chKeyLen f_chTextLen f_chReg f_chCount f_depth f_keyLevel f_spanFrom f_spanTo f_spanTextEnd f_spanKind a_text a_marks a_regKinds a_regLens a_regCodes a_nodeParent a_nodeRedo a_nodeLen a_nodeCur a_nodeMarks a_nodeText a_recCodes a_chKeys a_chText a_frameCodes a_frameLen a_framePos a_frameTimes a_frameLevel (d + 1) (nI p) (nI i)
  | 0, i, p, hd, hp, H => br_t (nI_le (by omega) (by omega)) H
  | d + 1, i, p, hd, hp, H => by
    have hs := me_sl_le t 0 p
    refine br_f (nI_ge (by omega) (by omega)) (xe_skipLeft (by omega) (fun i hi => ht i (by omega)) ?_)
    have k34 : ∀ z, z = me_kl t (me_sl t 0 p) → wX_wordLeft_34 post (wX_wordLeft_7 post (nI n) f_textCap f_nodeCap f_levels f_len f_cur f_nodeCount f_node f_reg f_c1 f_op f_c2 f_waiting f_sessionStart f_copies f_recReg f_recLen f_chKeyLen f_chTextLen f_chReg f_chCount f_depth f_keyLevel f_spanFrom f_spanTo f_spanTextEnd f_spanKind a_text a_marks a_regKinds a_regLens a_regCodes a_nodeParent a_nodeRedo a_nodeLen a_nodeCur a_nodeMarks a_nodeText a_recCodes a_chKeys a_chText a_frameCodes a_frameLen a_framePos a_frameTimes a_frameLevel (d + 1)) (nI n) (nI (me_sl t 0 p)) (nI i) z f_textCap f_nodeCap f_levels f_len f_cur f_nodeCount f_node f_reg f_c1 f_op f_c2 f_waiting f_sessionStart f_copies f_recReg f_recLen f_chKeyLen f_chTextLen f_chReg f_chCount f_depth f_keyLevel f_spanFrom f_spanTo f_spanTextEnd f_spanKind a_text a_marks a_regKinds a_regLens a_regCodes a_nodeParent a_nodeRedo a_nodeLen a_nodeCur a_nodeMarks a_nodeText a_recCodes a_chKeys a_chText a_frameCodes a_frameLen a_framePos a_frameTimes a_frameLevel := by
      intro z hz
      refine xe_skipLeft (by omega) (fun i hi => ht i (by omega)) (nm_r (nI_1 i) ?_)
      have := me_wl_b t p
      refine xe_wordLeft_7 hn hl ht d (i + 1) _ (by omega) (by rw [hz]; unfold me_wl at this; omega) ?_
      rw [hz]; exact H
    generalize me_sl t 0 p = p1 at hs k34
    cases p1 with
    | zero => exact br_t (by decide) (k34 0 rfl)
    | succ q =>
      refine br_f (nI_nle (by omega) (by omega)) ?_
      rw [nI_pred]
      refine xe_classAt (by omega) (k34 _ ?_)
      rw [ht q (by omega)]; rfl
theorem xe_wordLeft {n cur : Nat} (hn : n ≤ 32) (hl : len ≤ 32) (ht : ∀ i, i < len → a_text i = t i) (hc : cur ≤ len) (H : post (nI (me_it (me_wl t) n cur))) : wpX_wordLeft post (f_textCap, f_nodeCap, f_levels, f_len, nI cur, f_nodeCount, f_node, f_reg, f_c1, f_op, f_c2, f_waiting, f_sessionStart, f_copies, f_recReg, f_recLen, f_chKeyLen, f_chTextLen, f_chReg, f_chCount, f_depth, f_keyLevel, f_spanFrom, f_spanTo, f_spanTextEnd, f_spanKind, a_text, a_marks, a_regKinds, a_regLens, a_regCodes, a_nodeParent, a_nodeRedo, a_nodeLen, a_nodeCur, a_nodeMarks, a_nodeText, a_recCodes, a_chKeys, a_chText, a_frameCodes, a_frameLen, a_framePos, a_frameTimes, a_frameLevel) (nI n) :=
  ⟨_, xe_wordLeft_7 hn hl ht n 0 cur (by omega) hc H⟩
theorem xe_findOnLine_20 {key : Int32} {e : Nat} (he : e ≤ len) (hl : len ≤ 32) (ht : ∀ i, i < len → a_text i = t i) : ∀ d i l : Nat, (i + d = e ∨ (d = 0 ∧ e ≤ i ∧ i ≤ 33)) → 1 ≤ l → l ≤ 32 → post (me_o (me_fnA t key d i l)) → wX_findOnLine_20 post key (nI e) f_textCap f_nodeCap f_levels f_len f_cur f_nodeCount f_node f_reg f_c1 f_op f_c2 f_waiting f_sessionStart f_copies f_recReg f_recLen f_chKeyLen f_chTextLen f_chReg f_chCount f_depth f_keyLevel f_spanFrom f_spanTo f_spanTextEnd f_spanKind a_text a_marks a_regKinds a_regLens a_regCodes a_nodeParent a_nodeRedo a_nodeLen a_nodeCur a_nodeMarks a_nodeText a_recCodes a_chKeys a_chText a_frameCodes a_frameLen a_framePos a_frameTimes a_frameLevel (d + 1) (nI l) (nI i)
  | 0, i, l, hd, h1, h2, H => br_t (nI_le (by omega) (by omega)) H
  | d + 1, i, l, hd, h1, h2, H => by
    refine br_f (nI_ge (by omega) (by omega)) ⟨vp_in_nI (by omega) (by omega), ?_⟩
    rw [nI_clamp (by omega), ht i (by omega)]
    refine br_c (fun h => nm_r (me_m1 h1) ?_) (fun h => ?_)
    · rw [me_fnA, if_pos h] at H
      refine pk_eq (l - 1) 0 (fun h3 => ?_) (fun h3 => nm_r (nI_1 i) ?_)
      · rw [if_pos (by omega)] at H; exact H
      · rw [if_neg (by omega)] at H
        exact xe_findOnLine_20 he hl ht d (i + 1) (l - 1) (by omega) (by omega) (by omega) H
    · rw [me_fnA, if_neg h] at H
      refine pk_eq l 0 (fun h3 => by omega) (fun h3 => nm_r (nI_1 i) ?_)
      exact xe_findOnLine_20 he hl ht d (i + 1) l (by omega) h1 h2 H
theorem xe_findOnLine {key : Int32} {n cur : Nat} (h1 : 1 ≤ n) (hn : n ≤ 32) (hl : len ≤ 32) (ht : ∀ i, i < len → a_text i = t i) (hc : cur ≤ len) (H : post (me_o (me_fnA t key (me_le t len cur - (cur + 1)) (cur + 1) n))) : wpX_findOnLine post (f_textCap, f_nodeCap, f_levels, nI len, nI cur, f_nodeCount, f_node, f_reg, f_c1, f_op, f_c2, f_waiting, f_sessionStart, f_copies, f_recReg, f_recLen, f_chKeyLen, f_chTextLen, f_chReg, f_chCount, f_depth, f_keyLevel, f_spanFrom, f_spanTo, f_spanTextEnd, f_spanKind, a_text, a_marks, a_regKinds, a_regLens, a_regCodes, a_nodeParent, a_nodeRedo, a_nodeLen, a_nodeCur, a_nodeMarks, a_nodeText, a_recCodes, a_chKeys, a_chText, a_frameCodes, a_frameLen, a_framePos, a_frameTimes, a_frameLevel) key (nI n) := by
  have := me_le_b (t := t) hc
  refine xe_lineEnd hc hl ht (nm_r (nI_1 cur) ⟨_, xe_findOnLine_20 this.2 hl ht (me_le t len cur - (cur + 1)) (cur + 1) n (by omega) h1 hn H⟩)
theorem xe_inLine {s col : Nat} (hs : s ≤ len) (hc : col ≤ 32) (hl : len ≤ 32) (ht : ∀ i, i < len → a_text i = t i) (H : post (nI (me_il t len s col))) : wpX_inLine post (f_textCap, f_nodeCap, f_levels, nI len, f_cur, f_nodeCount, f_node, f_reg, f_c1, f_op, f_c2, f_waiting, f_sessionStart, f_copies, f_recReg, f_recLen, f_chKeyLen, f_chTextLen, f_chReg, f_chCount, f_depth, f_keyLevel, f_spanFrom, f_spanTo, f_spanTextEnd, f_spanKind, a_text, a_marks, a_regKinds, a_regLens, a_regCodes, a_nodeParent, a_nodeRedo, a_nodeLen, a_nodeCur, a_nodeMarks, a_nodeText, a_recCodes, a_chKeys, a_chText, a_frameCodes, a_frameLen, a_framePos, a_frameTimes, a_frameLevel) (nI s) (nI col) := by
  have := me_le_b (t := t) hs
  refine xe_lineEnd hs hl ht ?_
  rw [nI_add]
  refine pk_le (me_le t len s) (s + col) (fun h => ?_) (fun h => ?_)
  · rw [me_il, if_pos h] at H; exact H
  · rw [me_il, if_neg (by omega)] at H; exact H
theorem xe_linesBelow_19 {n col : Nat} (hn : n ≤ 32) (hc : col ≤ 32) (hl : len ≤ 32) (ht : ∀ i, i < len → a_text i = t i) : ∀ d i s : Nat, i + d = n → s ≤ len → post (nI (me_il t len (me_it (me_lb t len) d s) col)) → wX_linesBelow_19 post (nI n) (nI col) f_textCap f_nodeCap f_levels (nI len) f_cur f_nodeCount f_node f_reg f_c1 f_op f_c2 f_waiting f_sessionStart f_copies f_recReg f_recLen f_chKeyLen f_chTextLen f_chReg f_chCount f_depth f_keyLevel f_spanFrom f_spanTo f_spanTextEnd f_spanKind a_text a_marks a_regKinds a_regLens a_regCodes a_nodeParent a_nodeRedo a_nodeLen a_nodeCur a_nodeMarks a_nodeText a_recCodes a_chKeys a_chText a_frameCodes a_frameLen a_framePos a_frameTimes a_frameLevel (d + 1) (nI s) (nI i)
  | 0, i, s, hd, hs, H => br_t (nI_le (by omega) (by omega)) (xe_inLine hs hc hl ht H)
  | d + 1, i, s, hd, hs, H => by
    have hb := me_le_b (t := t) hs
    refine br_f (nI_ge (by omega) (by omega)) (xe_lineEnd hs hl ht ?_)
    refine pk_le len (me_le t len s) (fun h => nm_r (nI_1 i) ?_) (fun h => nm_r (nI_1 _) (nm_r (nI_1 i) ?_))
    · refine xe_linesBelow_19 hn hc hl ht d (i + 1) s (by omega) hs ?_
      rw [me_it, me_lb, if_neg (by omega)] at H; exact H
    · refine xe_linesBelow_19 hn hc hl ht d (i + 1) _ (by omega) (by omega) ?_
      rw [me_it, me_lb, if_pos h] at H; exact H
theorem xe_linesBelow {n cur : Nat} (hn : n ≤ 32) (hl : len ≤ 32) (ht : ∀ i, i < len → a_text i = t i) (hc : cur ≤ len) (H : post (nI (me_il t len (me_it (me_lb t len) n (me_ls t cur)) (cur - me_ls t cur)))) : wpX_linesBelow post (f_textCap, f_nodeCap, f_levels, nI len, nI cur, f_nodeCount, f_node, f_reg, f_c1, f_op, f_c2, f_waiting, f_sessionStart, f_copies, f_recReg, f_recLen, f_chKeyLen, f_chTextLen, f_chReg, f_chCount, f_depth, f_keyLevel, f_spanFrom, f_spanTo, f_spanTextEnd, f_spanKind, a_text, a_marks, a_regKinds, a_regLens, a_regCodes, a_nodeParent, a_nodeRedo, a_nodeLen, a_nodeCur, a_nodeMarks, a_nodeText, a_recCodes, a_chKeys, a_chText, a_frameCodes, a_frameLen, a_framePos, a_frameTimes, a_frameLevel) (nI n) := by
  have := me_ls_le t cur
  refine xe_lineStart (by omega) (fun i hi => ht i (by omega)) (nm_r (pk_sub this) ⟨_, xe_linesBelow_19 hn (by omega) hl ht n 0 _ (by omega) (by omega) H⟩)
theorem xe_linesAbove_19 {n col : Nat} (hn : n ≤ 32) (hc : col ≤ 32) (hl : len ≤ 32) (ht : ∀ i, i < len → a_text i = t i) : ∀ d i s : Nat, i + d = n → s ≤ len → post (nI (me_il t len (me_it (me_la t) d s) col)) → wX_linesAbove_19 post (nI n) (nI col) f_textCap f_nodeCap f_levels (nI len) f_cur f_nodeCount f_node f_reg f_c1 f_op f_c2 f_waiting f_sessionStart f_copies f_recReg f_recLen f_chKeyLen f_chTextLen f_chReg f_chCount f_depth f_keyLevel f_spanFrom f_spanTo f_spanTextEnd f_spanKind a_text a_marks a_regKinds a_regLens a_regCodes a_nodeParent a_nodeRedo a_nodeLen a_nodeCur a_nodeMarks a_nodeText a_recCodes a_chKeys a_chText a_frameCodes a_frameLen a_framePos a_frameTimes a_frameLevel (d + 1) (nI s) (nI i)
  | 0, i, s, hd, hs, H => br_t (nI_le (by omega) (by omega)) (xe_inLine hs hc hl ht H)
  | d + 1, i, 0, hd, hs, H => by
    refine br_f (nI_ge (by omega) (by omega)) (br_t (by decide) (nm_r (nI_1 i) ?_))
    exact xe_linesAbove_19 hn hc hl ht d (i + 1) 0 (by omega) (by omega) H
  | d + 1, i, s + 1, hd, hs, H => by
    have hb := me_ls_le t s
    refine br_f (nI_ge (by omega) (by omega)) (br_f (nI_nle (by omega) (by omega)) ?_)
    rw [nI_pred]
    refine xe_lineStart (by omega) (fun i hi => ht i (by omega)) (nm_r (nI_1 i) ?_)
    exact xe_linesAbove_19 hn hc hl ht d (i + 1) _ (by omega) (by omega) H
theorem xe_linesAbove {n cur : Nat} (hn : n ≤ 32) (hl : len ≤ 32) (ht : ∀ i, i < len → a_text i = t i) (hc : cur ≤ len) (H : post (nI (me_il t len (me_it (me_la t) n (me_ls t cur)) (cur - me_ls t cur)))) : wpX_linesAbove post (f_textCap, f_nodeCap, f_levels, nI len, nI cur, f_nodeCount, f_node, f_reg, f_c1, f_op, f_c2, f_waiting, f_sessionStart, f_copies, f_recReg, f_recLen, f_chKeyLen, f_chTextLen, f_chReg, f_chCount, f_depth, f_keyLevel, f_spanFrom, f_spanTo, f_spanTextEnd, f_spanKind, a_text, a_marks, a_regKinds, a_regLens, a_regCodes, a_nodeParent, a_nodeRedo, a_nodeLen, a_nodeCur, a_nodeMarks, a_nodeText, a_recCodes, a_chKeys, a_chText, a_frameCodes, a_frameLen, a_framePos, a_frameTimes, a_frameLevel) (nI n) := by
  have := me_ls_le t cur
  refine xe_lineStart (by omega) (fun i hi => ht i (by omega)) (nm_r (pk_sub this) ⟨_, xe_linesAbove_19 hn (by omega) hl ht n 0 _ (by omega) (by omega) H⟩)
theorem xe_openingFrom_4 : ∀ (j d : Nat) (x : Int32), x = nI j + (-1) → j ≤ 32 → d ≤ 32 → d + j ≤ 32 → (∀ i, i < j → a_text i = t i) → post (me_o (me_opn t j d)) → wX_openingFrom_4 post f_textCap f_nodeCap f_levels f_len f_cur f_nodeCount f_node f_reg f_c1 f_op f_c2 f_waiting f_sessionStart f_copies f_recReg f_recLen f_chKeyLen f_chTextLen f_chReg f_chCount f_depth f_keyLevel f_spanFrom f_spanTo f_spanTextEnd f_spanKind a_text a_marks a_regKinds a_regLens a_regCodes a_nodeParent a_nodeRedo a_nodeLen a_nodeCur a_nodeMarks a_nodeText a_recCodes a_chKeys a_chText a_frameCodes a_frameLen a_framePos a_frameTimes a_frameLevel (j + 1) (nI d) x
  | 0, d, x, hx, _, _, _, _, H => br_t (by rw [hx]; decide) H
  | j + 1, d, x, hx, hj, hd, hdj, ht, H => by
    rw [pk_m1] at hx
    subst hx
    have k25 : (t j = 41 → wX_openingFrom_4 post f_textCap f_nodeCap f_levels f_len f_cur f_nodeCount f_node f_reg f_c1 f_op f_c2 f_waiting f_sessionStart f_copies f_recReg f_recLen f_chKeyLen f_chTextLen f_chReg f_chCount f_depth f_keyLevel f_spanFrom f_spanTo f_spanTextEnd f_spanKind a_text a_marks a_regKinds a_regLens a_regCodes a_nodeParent a_nodeRedo a_nodeLen a_nodeCur a_nodeMarks a_nodeText a_recCodes a_chKeys a_chText a_frameCodes a_frameLen a_framePos a_frameTimes a_frameLevel (j + 1) (nI (d + 1)) (nI j + (-1))) → (¬ t j = 41 → t j = 40 → wX_openingFrom_4 post f_textCap f_nodeCap f_levels f_len f_cur f_nodeCount f_node f_reg f_c1 f_op f_c2 f_waiting f_sessionStart f_copies f_recReg f_recLen f_chKeyLen f_chTextLen f_chReg f_chCount f_depth f_keyLevel f_spanFrom f_spanTo f_spanTextEnd f_spanKind a_text a_marks a_regKinds a_regLens a_regCodes a_nodeParent a_nodeRedo a_nodeLen a_nodeCur a_nodeMarks a_nodeText a_recCodes a_chKeys a_chText a_frameCodes a_frameLen a_framePos a_frameTimes a_frameLevel (j + 1) (nI d + (-1)) (nI j + (-1))) → (¬ t j = 41 → ¬ t j = 40 → wX_openingFrom_4 post f_textCap f_nodeCap f_levels f_len f_cur f_nodeCount f_node f_reg f_c1 f_op f_c2 f_waiting f_sessionStart f_copies f_recReg f_recLen f_chKeyLen f_chTextLen f_chReg f_chCount f_depth f_keyLevel f_spanFrom f_spanTo f_spanTextEnd f_spanKind a_text a_marks a_regKinds a_regLens a_regCodes a_nodeParent a_nodeRedo a_nodeLen a_nodeCur a_nodeMarks a_nodeText a_recCodes a_chKeys a_chText a_frameCodes a_frameLen a_framePos a_frameTimes a_frameLevel (j + 1) (nI d) (nI j + (-1))) → wX_openingFrom_25 post (wX_openingFrom_4 post f_textCap f_nodeCap f_levels f_len f_cur f_nodeCount f_node f_reg f_c1 f_op f_c2 f_waiting f_sessionStart f_copies f_recReg f_recLen f_chKeyLen f_chTextLen f_chReg f_chCount f_depth f_keyLevel f_spanFrom f_spanTo f_spanTextEnd f_spanKind a_text a_marks a_regKinds a_regLens a_regCodes a_nodeParent a_nodeRedo a_nodeLen a_nodeCur a_nodeMarks a_nodeText a_recCodes a_chKeys a_chText a_frameCodes a_frameLen a_framePos a_frameTimes a_frameLevel (j + 1)) (nI d) (nI j) f_textCap f_nodeCap f_levels f_len f_cur f_nodeCount f_node f_reg f_c1 f_op f_c2 f_waiting f_sessionStart f_copies f_recReg f_recLen f_chKeyLen f_chTextLen f_chReg f_chCount f_depth f_keyLevel f_spanFrom f_spanTo f_spanTextEnd f_spanKind a_text a_marks a_regKinds a_regLens a_regCodes a_nodeParent a_nodeRedo a_nodeLen a_nodeCur a_nodeMarks a_nodeText a_recCodes a_chKeys a_chText a_frameCodes a_frameLen a_framePos a_frameTimes a_frameLevel := by
      intro k1 k2 k3
      refine ⟨vp_in_nI (by omega) (by omega), ?_⟩
      rw [nI_clamp (by omega), ht j (by omega)]
      exact br_c (fun h => nm_r (nI_1 d) (nm_e (k1 h))) (fun h => ⟨vp_in_nI (by omega) (by omega), br_c (fun h2 => nm_e (nm_e (k2 h h2))) (fun h2 => nm_e (k3 h h2))⟩)
    refine br_f (nI_pos (by omega)) ⟨vp_in_nI (by omega) (by omega), ?_⟩
    rw [nI_clamp (by omega), ht j (by omega)]
    rw [me_opn] at H
    refine br_c (fun h => ?_) (fun h => ?_)
    · rw [if_pos h] at H
      refine pk_eq d 0 (fun h3 => ?_) (fun h3 => ?_)
      · rw [if_pos h3] at H; exact H
      · rw [if_neg h3] at H
        refine k25 (fun h4 => ?_) (fun _ _ => ?_) (fun _ h5 => absurd h h5)
        · rw [h] at h4; exact absurd h4 (by decide)
        · rw [me_m1 (by omega)]
          exact xe_openingFrom_4 j (d - 1) _ rfl (by omega) (by omega) (by omega) (fun i hi => ht i (by omega)) H
    · rw [if_neg h] at H
      refine k25 (fun h4 => ?_) (fun _ h5 => absurd h5 h) (fun h4 _ => ?_)
      · rw [if_pos h4] at H
        exact xe_openingFrom_4 j (d + 1) _ rfl (by omega) (by omega) (by omega) (fun i hi => ht i (by omega)) H
      · rw [if_neg h4] at H
        exact xe_openingFrom_4 j d _ rfl (by omega) (by omega) (by omega) (fun i hi => ht i (by omega)) H
theorem xe_openingFrom {j : Nat} {x : Int32} (hx : x = nI j + (-1)) (hj : j ≤ 32) (ht : ∀ i, i < j → a_text i = t i) (H : post (me_o (me_opn t j 0))) : wpX_openingFrom post (f_textCap, f_nodeCap, f_levels, f_len, f_cur, f_nodeCount, f_node, f_reg, f_c1, f_op, f_c2, f_waiting, f_sessionStart, f_copies, f_recReg, f_recLen, f_chKeyLen, f_chTextLen, f_chReg, f_chCount, f_depth, f_keyLevel, f_spanFrom, f_spanTo, f_spanTextEnd, f_spanKind, a_text, a_marks, a_regKinds, a_regLens, a_regCodes, a_nodeParent, a_nodeRedo, a_nodeLen, a_nodeCur, a_nodeMarks, a_nodeText, a_recCodes, a_chKeys, a_chText, a_frameCodes, a_frameLen, a_framePos, a_frameTimes, a_frameLevel) x :=
  ⟨_, xe_openingFrom_4 j 0 x hx hj (by omega) (by omega) ht H⟩
theorem xe_closingFrom_4 (hl : len ≤ 32) (ht : ∀ i, i < len → a_text i = t i) : ∀ d i k : Nat, i + d = len → k ≤ i → post (me_o (me_cls2 t d i k)) → wX_closingFrom_4 post f_textCap f_nodeCap f_levels (nI len) f_cur f_nodeCount f_node f_reg f_c1 f_op f_c2 f_waiting f_sessionStart f_copies f_recReg f_recLen f_chKeyLen f_chTextLen f_chReg f_chCount f_depth f_keyLevel f_spanFrom f_spanTo f_spanTextEnd f_spanKind a_text a_marks a_regKinds a_regLens a_regCodes a_nodeParent a_nodeRedo a_nodeLen a_nodeCur a_nodeMarks a_nodeText a_recCodes a_chKeys a_chText a_frameCodes a_frameLen a_framePos a_frameTimes a_frameLevel (d + 1) (nI k) (nI i)
  | 0, i, k, hd, hk, H => br_t (nI_le (by omega) (by omega)) H
  | d + 1, i, k, hd, hk, H => by
    have k29 : (t i = 40 → wX_closingFrom_4 post f_textCap f_nodeCap f_levels (nI len) f_cur f_nodeCount f_node f_reg f_c1 f_op f_c2 f_waiting f_sessionStart f_copies f_recReg f_recLen f_chKeyLen f_chTextLen f_chReg f_chCount f_depth f_keyLevel f_spanFrom f_spanTo f_spanTextEnd f_spanKind a_text a_marks a_regKinds a_regLens a_regCodes a_nodeParent a_nodeRedo a_nodeLen a_nodeCur a_nodeMarks a_nodeText a_recCodes a_chKeys a_chText a_frameCodes a_frameLen a_framePos a_frameTimes a_frameLevel (d + 1) (nI (k + 1)) (nI (i + 1))) → (¬ t i = 40 → t i = 41 → wX_closingFrom_4 post f_textCap f_nodeCap f_levels (nI len) f_cur f_nodeCount f_node f_reg f_c1 f_op f_c2 f_waiting f_sessionStart f_copies f_recReg f_recLen f_chKeyLen f_chTextLen f_chReg f_chCount f_depth f_keyLevel f_spanFrom f_spanTo f_spanTextEnd f_spanKind a_text a_marks a_regKinds a_regLens a_regCodes a_nodeParent a_nodeRedo a_nodeLen a_nodeCur a_nodeMarks a_nodeText a_recCodes a_chKeys a_chText a_frameCodes a_frameLen a_framePos a_frameTimes a_frameLevel (d + 1) (nI k + (-1)) (nI (i + 1))) → (¬ t i = 40 → ¬ t i = 41 → wX_closingFrom_4 post f_textCap f_nodeCap f_levels (nI len) f_cur f_nodeCount f_node f_reg f_c1 f_op f_c2 f_waiting f_sessionStart f_copies f_recReg f_recLen f_chKeyLen f_chTextLen f_chReg f_chCount f_depth f_keyLevel f_spanFrom f_spanTo f_spanTextEnd f_spanKind a_text a_marks a_regKinds a_regLens a_regCodes a_nodeParent a_nodeRedo a_nodeLen a_nodeCur a_nodeMarks a_nodeText a_recCodes a_chKeys a_chText a_frameCodes a_frameLen a_framePos a_frameTimes a_frameLevel (d + 1) (nI k) (nI (i + 1))) → wX_closingFrom_29 post (wX_closingFrom_4 post f_textCap f_nodeCap f_levels (nI len) f_cur f_nodeCount f_node f_reg f_c1 f_op f_c2 f_waiting f_sessionStart f_copies f_recReg f_recLen f_chKeyLen f_chTextLen f_chReg f_chCount f_depth f_keyLevel f_spanFrom f_spanTo f_spanTextEnd f_spanKind a_text a_marks a_regKinds a_regLens a_regCodes a_nodeParent a_nodeRedo a_nodeLen a_nodeCur a_nodeMarks a_nodeText a_recCodes a_chKeys a_chText a_frameCodes a_frameLen a_framePos a_frameTimes a_frameLevel (d + 1)) (nI k) (nI i) f_textCap f_nodeCap f_levels (nI len) f_cur f_nodeCount f_node f_reg f_c1 f_op f_c2 f_waiting f_sessionStart f_copies f_recReg f_recLen f_chKeyLen f_chTextLen f_chReg f_chCount f_depth f_keyLevel f_spanFrom f_spanTo f_spanTextEnd f_spanKind a_text a_marks a_regKinds a_regLens a_regCodes a_nodeParent a_nodeRedo a_nodeLen a_nodeCur a_nodeMarks a_nodeText a_recCodes a_chKeys a_chText a_frameCodes a_frameLen a_framePos a_frameTimes a_frameLevel := by
      intro k1 k2 k3
      refine ⟨vp_in_nI (by omega) (by omega), ?_⟩
      rw [nI_clamp (by omega), ht i (by omega)]
      exact br_c (fun h => nm_r (nI_1 k) (nm_r (nI_1 i) (k1 h))) (fun h => ⟨vp_in_nI (by omega) (by omega), br_c (fun h2 => nm_e (nm_r (nI_1 i) (k2 h h2))) (fun h2 => nm_r (nI_1 i) (k3 h h2))⟩)
    refine br_f (nI_ge (by omega) (by omega)) ⟨vp_in_nI (by omega) (by omega), ?_⟩
    rw [nI_clamp (by omega), ht i (by omega)]
    rw [me_cls2] at H
    refine br_c (fun h => ?_) (fun h => ?_)
    · rw [if_pos h] at H
      refine pk_eq k 0 (fun h3 => ?_) (fun h3 => ?_)
      · rw [if_pos h3] at H; exact H
      · rw [if_neg h3] at H
        refine k29 (fun h4 => ?_) (fun _ _ => ?_) (fun _ h5 => absurd h h5)
        · rw [h] at h4; exact absurd h4 (by decide)
        · rw [me_m1 (by omega)]
          exact xe_closingFrom_4 hl ht d (i + 1) (k - 1) (by omega) (by omega) H
    · rw [if_neg h] at H
      refine k29 (fun h4 => ?_) (fun _ h5 => absurd h5 h) (fun h4 _ => ?_)
      · rw [if_pos h4] at H
        exact xe_closingFrom_4 hl ht d (i + 1) (k + 1) (by omega) (by omega) H
      · rw [if_neg h4] at H
        exact xe_closingFrom_4 hl ht d (i + 1) k (by omega) (by omega) H
theorem xe_closingFrom {i : Nat} (hi : i ≤ len) (hl : len ≤ 32) (ht : ∀ i, i < len → a_text i = t i) (H : post (me_o (me_cls2 t (len - i) i 0))) : wpX_closingFrom post (f_textCap, f_nodeCap, f_levels, nI len, f_cur, f_nodeCount, f_node, f_reg, f_c1, f_op, f_c2, f_waiting, f_sessionStart, f_copies, f_recReg, f_recLen, f_chKeyLen, f_chTextLen, f_chReg, f_chCount, f_depth, f_keyLevel, f_spanFrom, f_spanTo, f_spanTextEnd, f_spanKind, a_text, a_marks, a_regKinds, a_regLens, a_regCodes, a_nodeParent, a_nodeRedo, a_nodeLen, a_nodeCur, a_nodeMarks, a_nodeText, a_recCodes, a_chKeys, a_chText, a_frameCodes, a_frameLen, a_framePos, a_frameTimes, a_frameLevel) (nI i) :=
  ⟨_, xe_closingFrom_4 hl ht (len - i) i 0 (by omega) (by omega) H⟩
theorem xe_clamp32 {n : Nat} (h1 : 1 ≤ n) (hn : n < 2 ^ 31) (H : post (nI (if n ≤ 32 then n else 32))) : wpX_clamp post (f_textCap, f_nodeCap, f_levels, f_len, f_cur, f_nodeCount, f_node, f_reg, f_c1, f_op, f_c2, f_waiting, f_sessionStart, f_copies, f_recReg, f_recLen, f_chKeyLen, f_chTextLen, f_chReg, f_chCount, f_depth, f_keyLevel, f_spanFrom, f_spanTo, f_spanTextEnd, f_spanKind, a_text, a_marks, a_regKinds, a_regLens, a_regCodes, a_nodeParent, a_nodeRedo, a_nodeLen, a_nodeCur, a_nodeMarks, a_nodeText, a_recCodes, a_chKeys, a_chText, a_frameCodes, a_frameLen, a_framePos, a_frameTimes, a_frameLevel) (nI n) 1 32 := by
  refine br_t (nI_le (a := 1) h1 hn) (pk_le n 32 (fun h => ?_) (fun h => ?_))
  · rw [if_pos h] at H; exact H
  · rw [if_neg (by omega)] at H; exact H
theorem xe_times {a b : Nat} (ha : a ≤ 32) (hb : b ≤ 32) (H : post (nI (me_nt a b))) : wpX_times post (f_textCap, f_nodeCap, f_levels, f_len, f_cur, f_nodeCount, f_node, f_reg, nI a, f_op, nI b, f_waiting, f_sessionStart, f_copies, f_recReg, f_recLen, f_chKeyLen, f_chTextLen, f_chReg, f_chCount, f_depth, f_keyLevel, f_spanFrom, f_spanTo, f_spanTextEnd, f_spanKind, a_text, a_marks, a_regKinds, a_regLens, a_regCodes, a_nodeParent, a_nodeRedo, a_nodeLen, a_nodeCur, a_nodeMarks, a_nodeText, a_recCodes, a_chKeys, a_chText, a_frameCodes, a_frameLen, a_framePos, a_frameTimes, a_frameLevel) := by
  have hz : ∀ a, a ≤ 32 → 1 ≤ (if a ≤ 1 then 1 else a) ∧ (if a ≤ 1 then 1 else a) ≤ 32 := fun a h => by split <;> omega
  have k33 : wX_times_33 post (nI (if a ≤ 1 then 1 else a)) (nI (if b ≤ 1 then 1 else b)) f_textCap f_nodeCap f_levels f_len f_cur f_nodeCount f_node f_reg (nI a) f_op (nI b) f_waiting f_sessionStart f_copies f_recReg f_recLen f_chKeyLen f_chTextLen f_chReg f_chCount f_depth f_keyLevel f_spanFrom f_spanTo f_spanTextEnd f_spanKind a_text a_marks a_regKinds a_regLens a_regCodes a_nodeParent a_nodeRedo a_nodeLen a_nodeCur a_nodeMarks a_nodeText a_recCodes a_chKeys a_chText a_frameCodes a_frameLen a_framePos a_frameTimes a_frameLevel := by
    have h1 := Nat.mul_le_mul (hz a ha).1 (hz b hb).1
    have h2 := Nat.mul_le_mul (hz a ha).2 (hz b hb).2
    show wpX_clamp _ _ (nI _ * nI _) 1 32
    rw [pk_mul]
    exact xe_clamp32 (by omega) (by omega) H
  have k16 : wX_times_16 post (nI (if a ≤ 1 then 1 else a)) f_textCap f_nodeCap f_levels f_len f_cur f_nodeCount f_node f_reg (nI a) f_op (nI b) f_waiting f_sessionStart f_copies f_recReg f_recLen f_chKeyLen f_chTextLen f_chReg f_chCount f_depth f_keyLevel f_spanFrom f_spanTo f_spanTextEnd f_spanKind a_text a_marks a_regKinds a_regLens a_regCodes a_nodeParent a_nodeRedo a_nodeLen a_nodeCur a_nodeMarks a_nodeText a_recCodes a_chKeys a_chText a_frameCodes a_frameLen a_framePos a_frameTimes a_frameLevel := by
    refine pk_le b 1 (fun h => ?_) (fun h => ?_)
    · rw [if_pos h] at k33; exact k33
    · rw [if_neg (show ¬ b ≤ 1 by omega)] at k33; exact k33
  refine pk_le a 1 (fun h => ?_) (fun h => ?_)
  · rw [if_pos h] at k16; exact k16
  · rw [if_neg (show ¬ a ≤ 1 by omega)] at k16; exact k16
end
end
section
/-! the reference's readings -/
section
variable {f_cap f_nodeCap f_levels f_len f_cur f_now f_nodeCount f_queued f_c1 f_op f_c2 f_waits f_copies f_recCount f_reg f_begin f_recording f_recReg : Int32} {a_text a_marks a_info a_held a_strips a_size a_kind a_dueKey a_dueLevel : Nat → Int32}
variable {post : Int32 → Prop} {t : Nat → Int32} {len : Nat}
theorem ye_startOf_2 : ∀ p : Nat, p ≤ 32 → (∀ i, i < p → a_text i = t i) → post (nI (me_ls t p)) → wY_startOf_2 post f_cap f_nodeCap f_levels f_len f_cur f_now f_nodeCount f_queued f_c1 f_op f_c2 f_waits f_copies f_recCount f_reg f_begin f_recording f_recReg a_text a_marks a_info a_held a_strips a_size a_kind a_dueKey a_dueLevel (p + 1) (nI p)
  | 0, _, _, H => br_t (by decide) H
  | p + 1, hp, ht, H => by
    refine br_f (nI_nle (by omega) (by omega)) ⟨pk_in p 32 (by omega) (nI_pred p), ?_⟩
    rw [pk_cl p (nI_pred p), ht p (by omega)]
    refine br_c (fun h => ?_) (fun h => nm_r (pk_m1 p) ?_)
    · rw [me_ls, if_pos h] at H; exact H
    · rw [me_ls, if_neg h] at H
      exact ye_startOf_2 p (by omega) (fun i hi => ht i (by omega)) H
theorem ye_startOf {p : Nat} (hp : p ≤ 32) (ht : ∀ i, i < p → a_text i = t i) (H : post (nI (me_ls t p))) : wpY_startOf post (f_cap, f_nodeCap, f_levels, f_len, f_cur, f_now, f_nodeCount, f_queued, f_c1, f_op, f_c2, f_waits, f_copies, f_recCount, f_reg, f_begin, f_recording, f_recReg, a_text, a_marks, a_info, a_held, a_strips, a_size, a_kind, a_dueKey, a_dueLevel) (nI p) :=
  ⟨_, ye_startOf_2 p hp ht H⟩
theorem ye_endOf_2 : ∀ d p : Nat, p + d = len → len ≤ 32 → (∀ i, i < len → a_text i = t i) → post (nI (me_leA t d p)) → wY_endOf_2 post f_cap f_nodeCap f_levels (nI len) f_cur f_now f_nodeCount f_queued f_c1 f_op f_c2 f_waits f_copies f_recCount f_reg f_begin f_recording f_recReg a_text a_marks a_info a_held a_strips a_size a_kind a_dueKey a_dueLevel (d + 1) (nI p)
  | 0, p, hd, hl, _, H => br_t (nI_le (by omega) (by omega)) H
  | d + 1, p, hd, hl, ht, H => by
    refine br_f (nI_ge (by omega) (by omega)) ⟨vp_in_nI (by omega) (by omega), ?_⟩
    rw [nI_clamp (by omega), ht p (by omega)]
    refine br_c (fun h => ?_) (fun h => nm_r (nI_1 p) ?_)
    · rw [me_leA, if_pos h] at H; exact H
    · rw [me_leA, if_neg h] at H
      exact ye_endOf_2 d (p + 1) (by omega) hl ht H
theorem ye_endOf {p : Nat} (hp : p ≤ len) (hl : len ≤ 32) (ht : ∀ i, i < len → a_text i = t i) (H : post (nI (me_le t len p))) : wpY_endOf post (f_cap, f_nodeCap, f_levels, nI len, f_cur, f_now, f_nodeCount, f_queued, f_c1, f_op, f_c2, f_waits, f_copies, f_recCount, f_reg, f_begin, f_recording, f_recReg, a_text, a_marks, a_info, a_held, a_strips, a_size, a_kind, a_dueKey, a_dueLevel) (nI p) :=
  ⟨_, ye_endOf_2 (len - p) p (by omega) hl ht H⟩
theorem ye_clsC {c : Int32} (H : post (me_cls c)) : ((c < 48 → (wY_classOf_18 post c f_cap f_nodeCap f_levels f_len f_cur f_now f_nodeCount f_queued f_c1 f_op f_c2 f_waits f_copies f_recCount f_reg f_begin f_recording f_recReg a_text a_marks a_info a_held a_strips a_size a_kind a_dueKey a_dueLevel)) ∧ (¬ c < 48 → (((c ≤ 57 → (wY_classOf_48 post c f_cap f_nodeCap f_levels f_len f_cur f_now f_nodeCount f_queued f_c1 f_op f_c2 f_waits f_copies f_recCount f_reg f_begin f_recording f_recReg a_text a_marks a_info a_held a_strips a_size a_kind a_dueKey a_dueLevel)) ∧ (¬ c ≤ 57 → (wY_classOf_18 post c f_cap f_nodeCap f_levels f_len f_cur f_now f_nodeCount f_queued f_c1 f_op f_c2 f_waits f_copies f_recCount f_reg f_begin f_recording f_recReg a_text a_marks a_info a_held a_strips a_size a_kind a_dueKey a_dueLevel)))))) := by
  have k53 : ∀ z : Int32, (z = 0 → ¬ ((¬ c < 48 ∧ c ≤ 57) ∨ (¬ c < 65 ∧ c ≤ 90) ∨ (¬ c < 97 ∧ c ≤ 122) ∨ c = 95)) → (¬ z = 0 → ((¬ c < 48 ∧ c ≤ 57) ∨ (¬ c < 65 ∧ c ≤ 90) ∨ (¬ c < 97 ∧ c ≤ 122) ∨ c = 95)) → wY_classOf_53 post c z f_cap f_nodeCap f_levels f_len f_cur f_now f_nodeCount f_queued f_c1 f_op f_c2 f_waits f_copies f_recCount f_reg f_begin f_recording f_recReg a_text a_marks a_info a_held a_strips a_size a_kind a_dueKey a_dueLevel := by
    intro z h0 h1
    refine br_c (fun h => br_c (fun h2 => ?_) (fun h2 => ?_)) (fun h => ?_)
    · rw [me_cls, if_pos h, if_neg (h0 h2)] at H; exact H
    · rw [me_cls, if_pos h, if_pos (h1 h2)] at H; exact H
    · rw [me_cls, if_neg h] at H; exact H
  have k48 : ((¬ c < 48 ∧ c ≤ 57) ∨ (¬ c < 65 ∧ c ≤ 90) ∨ (¬ c < 97 ∧ c ≤ 122) ∨ c = 95) → wY_classOf_48 post c f_cap f_nodeCap f_levels f_len f_cur f_now f_nodeCount f_queued f_c1 f_op f_c2 f_waits f_copies f_recCount f_reg f_begin f_recording f_recReg a_text a_marks a_info a_held a_strips a_size a_kind a_dueKey a_dueLevel := fun q => k53 1 (fun e => absurd e (by decide)) (fun _ => q)
  have k42 : ¬ (¬ c < 48 ∧ c ≤ 57) → ¬ (¬ c < 65 ∧ c ≤ 90) → ¬ (¬ c < 97 ∧ c ≤ 122) → wY_classOf_42 post c f_cap f_nodeCap f_levels f_len f_cur f_now f_nodeCount f_queued f_c1 f_op f_c2 f_waits f_copies f_recCount f_reg f_begin f_recording f_recReg a_text a_marks a_info a_held a_strips a_size a_kind a_dueKey a_dueLevel := by
    intro a b d
    refine br_c (fun h => k48 (Or.inr (Or.inr (Or.inr h)))) (fun h => k53 0 (fun _ q => ?_) (fun e => absurd rfl e))
    rcases q with q | q | q | q
    · exact a q
    · exact b q
    · exact d q
    · exact h q
  have k30 : ¬ (¬ c < 48 ∧ c ≤ 57) → ¬ (¬ c < 65 ∧ c ≤ 90) → wY_classOf_30 post c f_cap f_nodeCap f_levels f_len f_cur f_now f_nodeCount f_queued f_c1 f_op f_c2 f_waits f_copies f_recCount f_reg f_begin f_recording f_recReg a_text a_marks a_info a_held a_strips a_size a_kind a_dueKey a_dueLevel := by
    intro a b
    exact br_c (fun h => k42 a b (fun q => q.1 h)) (fun h => br_c (fun h2 => k48 (Or.inr (Or.inr (Or.inl ⟨h, h2⟩)))) (fun h2 => k42 a b (fun q => h2 q.2)))
  have k18 : ¬ (¬ c < 48 ∧ c ≤ 57) → wY_classOf_18 post c f_cap f_nodeCap f_levels f_len f_cur f_now f_nodeCount f_queued f_c1 f_op f_c2 f_waits f_copies f_recCount f_reg f_begin f_recording f_recReg a_text a_marks a_info a_held a_strips a_size a_kind a_dueKey a_dueLevel := by
    intro a
    exact br_c (fun h => k30 a (fun q => q.1 h)) (fun h => br_c (fun h2 => k48 (Or.inr (Or.inl ⟨h, h2⟩))) (fun h2 => k30 a (fun q => h2 q.2)))
  exact br_c (fun h => k18 (fun q => q.1 h)) (fun h => br_c (fun h2 => k48 (Or.inl ⟨h, h2⟩)) (fun h2 => k18 (fun q => h2 q.2)))
theorem ye_classOf {p : Nat} (hp : p < len) (hl : len ≤ 32) (H : post (me_cls (a_text p))) : wpY_classOf post (f_cap, f_nodeCap, f_levels, nI len, f_cur, f_now, f_nodeCount, f_queued, f_c1, f_op, f_c2, f_waits, f_copies, f_recCount, f_reg, f_begin, f_recording, f_recReg, a_text, a_marks, a_info, a_held, a_strips, a_size, a_kind, a_dueKey, a_dueLevel) (nI p) := by
  refine br_f (nI_pos (by omega)) (br_t (nI_lt hp (by omega)) ⟨vp_in_nI (by omega) (by omega), ?_⟩)
  rw [nI_clamp (by omega)]
  exact ye_clsC H
theorem ye_classOf_hi {p : Nat} (hp : len ≤ p) (hp2 : p < 2 ^ 31) (H : post 0) : wpY_classOf post (f_cap, f_nodeCap, f_levels, nI len, f_cur, f_now, f_nodeCount, f_queued, f_c1, f_op, f_c2, f_waits, f_copies, f_recCount, f_reg, f_begin, f_recording, f_recReg, a_text, a_marks, a_info, a_held, a_strips, a_size, a_kind, a_dueKey, a_dueLevel) (nI p) :=
  br_f (nI_pos hp2) (br_f (nI_nlt hp hp2) (ye_clsC H))
theorem ye_classOf_lo {x : Int32} (hx : x < 0) (H : post 0) : wpY_classOf post (f_cap, f_nodeCap, f_levels, f_len, f_cur, f_now, f_nodeCount, f_queued, f_c1, f_op, f_c2, f_waits, f_copies, f_recCount, f_reg, f_begin, f_recording, f_recReg, a_text, a_marks, a_info, a_held, a_strips, a_size, a_kind, a_dueKey, a_dueLevel) x :=
  br_t hx (ye_clsC H)
theorem ye_kr {p : Nat} (hp : p ≤ len) (hl : len ≤ 32) (ht : ∀ i, i < len → a_text i = t i) (H : post (me_kr t len p)) : wpY_classOf post (f_cap, f_nodeCap, f_levels, nI len, f_cur, f_now, f_nodeCount, f_queued, f_c1, f_op, f_c2, f_waits, f_copies, f_recCount, f_reg, f_begin, f_recording, f_recReg, a_text, a_marks, a_info, a_held, a_strips, a_size, a_kind, a_dueKey, a_dueLevel) (nI p) := by
  by_cases h : p < len
  · refine ye_classOf h hl ?_
    rw [me_kr, if_pos h, ← ht p h] at H; exact H
  · refine ye_classOf_hi (by omega) (by omega) ?_
    rw [me_kr, if_neg h] at H; exact H
theorem ye_kl {p : Nat} (hp : p ≤ len) (hl : len ≤ 32) (ht : ∀ i, i < len → a_text i = t i) (H : post (me_kl t p)) : wpY_classOf post (f_cap, f_nodeCap, f_levels, nI len, f_cur, f_now, f_nodeCount, f_queued, f_c1, f_op, f_c2, f_waits, f_copies, f_recCount, f_reg, f_begin, f_recording, f_recReg, a_text, a_marks, a_info, a_held, a_strips, a_size, a_kind, a_dueKey, a_dueLevel) (nI p - 1) := by
  cases p with
  | zero => exact ye_classOf_lo (by decide) H
  | succ q =>
    rw [nI_pred]
    refine ye_classOf (by omega) hl ?_
    rw [ht q (by omega)]; exact H
theorem ye_right_35 (hl : len ≤ 32) (ht : ∀ i, i < len → a_text i = t i) : ∀ d p : Nat, p + d = len → post (nI (me_srA t 0 d p)) → wY_right_35 post f_cap f_nodeCap f_levels (nI len) f_cur f_now f_nodeCount f_queued f_c1 f_op f_c2 f_waits f_copies f_recCount f_reg f_begin f_recording f_recReg a_text a_marks a_info a_held a_strips a_size a_kind a_dueKey a_dueLevel (d + 1) (nI p)
  | 0, p, hd, H => br_t (nI_le (by omega) (by omega)) H
  | d + 1, p, hd, H => by
    refine br_f (nI_ge (by omega) (by omega)) (ye_classOf (by omega) hl ?_)
    rw [ht p (by omega)]
    refine br_c (fun h => nm_r (nI_1 p) ?_) (fun h => ?_)
    · rw [me_srA, if_pos h] at H
      exact ye_right_35 hl ht d (p + 1) (by omega) H
    · rw [me_srA, if_neg h] at H; exact H
theorem ye_right_35' (hl : len ≤ 32) (ht : ∀ i, i < len → a_text i = t i) {p : Nat} (hp : p ≤ len) (H : post (nI (me_sr t len 0 p))) : ∃ n, wY_right_35 post f_cap f_nodeCap f_levels (nI len) f_cur f_now f_nodeCount f_queued f_c1 f_op f_c2 f_waits f_copies f_recCount f_reg f_begin f_recording f_recReg a_text a_marks a_info a_held a_strips a_size a_kind a_dueKey a_dueLevel n (nI p) :=
  ⟨_, ye_right_35 hl ht (len - p) p (by omega) H⟩
theorem ye_right_8 (hl : len ≤ 32) (ht : ∀ i, i < len → a_text i = t i) {k : Int32} (hk : ¬ k = 0) : ∀ d p : Nat, p + d = len → post (nI (me_sr t len 0 (me_srA t k d p))) → wY_right_8 post k f_cap f_nodeCap f_levels (nI len) f_cur f_now f_nodeCount f_queued f_c1 f_op f_c2 f_waits f_copies f_recCount f_reg f_begin f_recording f_recReg a_text a_marks a_info a_held a_strips a_size a_kind a_dueKey a_dueLevel (d + 1) (nI p)
  | 0, p, hd, H => br_f hk (br_t (nI_le (by omega) (by omega)) (ye_right_35' hl ht (by omega) H))
  | d + 1, p, hd, H => by
    refine br_f hk (br_f (nI_ge (by omega) (by omega)) (ye_classOf (by omega) hl ?_))
    rw [ht p (by omega)]
    refine br_c (fun h => nm_r (nI_1 p) ?_) (fun h => ?_)
    · rw [me_srA, if_pos h] at H
      exact ye_right_8 hl ht hk d (p + 1) (by omega) H
    · rw [me_srA, if_neg h] at H
      exact ye_right_35' hl ht (by omega) H
theorem ye_right {p : Nat} (hp : p ≤ len) (hl : len ≤ 32) (ht : ∀ i, i < len → a_text i = t i) (H : post (nI (me_wr t len p))) : wpY_right post (f_cap, f_nodeCap, f_levels, nI len, f_cur, f_now, f_nodeCount, f_queued, f_c1, f_op, f_c2, f_waits, f_copies, f_recCount, f_reg, f_begin, f_recording, f_recReg, a_text, a_marks, a_info, a_held, a_strips, a_size, a_kind, a_dueKey, a_dueLevel) (nI p) := by
  refine ye_kr hp hl ht ?_
  rw [me_wr] at H
  by_cases h : me_kr t len p = 0
  · rw [if_pos h] at H
    exact ⟨1, br_t h (ye_right_35' hl ht hp H)⟩
  · rw [if_neg h] at H
    exact ⟨_, ye_right_8 hl ht h (len - p) p (by omega) H⟩
theorem ye_left_30 (hl : len ≤ 32) (ht : ∀ i, i < len → a_text i = t i) {k : Int32} : ∀ p : Nat, p ≤ len → post (nI (me_sl t k p)) → wY_left_30 post k f_cap f_nodeCap f_levels (nI len) f_cur f_now f_nodeCount f_queued f_c1 f_op f_c2 f_waits f_copies f_recCount f_reg f_begin f_recording f_recReg a_text a_marks a_info a_held a_strips a_size a_kind a_dueKey a_dueLevel (p + 1) (nI p)
  | 0, _, H => br_t (by decide) H
  | p + 1, hp, H => by
    refine br_f (nI_nle (by omega) (by omega)) ?_
    rw [nI_pred]
    refine ye_classOf (by omega) hl ?_
    rw [ht p (by omega)]
    refine br_c (fun h => nm_r (pk_m1 p) ?_) (fun h => ?_)
    · rw [me_sl, if_pos h] at H
      exact ye_left_30 hl ht p (by omega) H
    · rw [me_sl, if_neg h] at H; exact H
theorem ye_left_22 (hl : len ≤ 32) (ht : ∀ i, i < len → a_text i = t i) {p : Nat} (hp : p ≤ len) (H : post (nI (me_sl t (me_kl t p) p))) : wY_left_22 post (nI p) f_cap f_nodeCap f_levels (nI len) f_cur f_now f_nodeCount f_queued f_c1 f_op f_c2 f_waits f_copies f_recCount f_reg f_begin f_recording f_recReg a_text a_marks a_info a_held a_strips a_size a_kind a_dueKey a_dueLevel :=
  ye_kl hp hl ht ⟨_, ye_left_30 hl ht p hp H⟩
theorem ye_left_2 (hl : len ≤ 32) (ht : ∀ i, i < len → a_text i = t i) : ∀ p : Nat, p ≤ len → post (nI (me_wl t p)) → wY_left_2 post f_cap f_nodeCap f_levels (nI len) f_cur f_now f_nodeCount f_queued f_c1 f_op f_c2 f_waits f_copies f_recCount f_reg f_begin f_recording f_recReg a_text a_marks a_info a_held a_strips a_size a_kind a_dueKey a_dueLevel (p + 1) (nI p)
  | 0, hp, H => br_t (by decide) (ye_left_22 hl ht hp H)
  | p + 1, hp, H => by
    refine br_f (nI_nle (by omega) (by omega)) ?_
    rw [nI_pred]
    refine ye_classOf (by omega) hl ?_
    rw [ht p (by omega)]
    rw [me_wl] at H
    refine br_c (fun h => nm_r (pk_m1 p) ?_) (fun h => ?_)
    · rw [me_sl, if_pos h] at H
      exact ye_left_2 hl ht p (by omega) H
    · rw [show me_sl t 0 (p + 1) = p + 1 by rw [me_sl, if_neg h]] at H
      exact ye_left_22 hl ht hp H
theorem ye_left {p : Nat} (hp : p ≤ len) (hl : len ≤ 32) (ht : ∀ i, i < len → a_text i = t i) (H : post (nI (me_wl t p))) : wpY_left post (f_cap, f_nodeCap, f_levels, nI len, f_cur, f_now, f_nodeCount, f_queued, f_c1, f_op, f_c2, f_waits, f_copies, f_recCount, f_reg, f_begin, f_recording, f_recReg, a_text, a_marks, a_info, a_held, a_strips, a_size, a_kind, a_dueKey, a_dueLevel) (nI p) :=
  ⟨_, ye_left_2 hl ht p hp H⟩
theorem ye_target_218r (hl : len ≤ 32) (ht : ∀ i, i < len → a_text i = t i) {n : Nat} (hn : n ≤ 32) : ∀ d i p : Nat, i + d = n → p ≤ len → post (nI (me_it (me_wr t len) d p)) → wY_target_218 post 119 (nI n) f_cap f_nodeCap f_levels (nI len) f_cur f_now f_nodeCount f_queued f_c1 f_op f_c2 f_waits f_copies f_recCount f_reg f_begin f_recording f_recReg a_text a_marks a_info a_held a_strips a_size a_kind a_dueKey a_dueLevel (d + 1) (nI p) (nI i)
  | 0, i, p, hd, hp, H => br_t (nI_le (by omega) (by omega)) H
  | d + 1, i, p, hd, hp, H =>
    br_f (nI_ge (by omega) (by omega)) (br_t rfl (ye_right hp hl ht (nm_r (nI_1 i) (ye_target_218r hl ht hn d (i + 1) _ (by omega) (me_wr_b hp) H))))
theorem ye_target_218l (hl : len ≤ 32) (ht : ∀ i, i < len → a_text i = t i) {n : Nat} (hn : n ≤ 32) : ∀ d i p : Nat, i + d = n → p ≤ len → post (nI (me_it (me_wl t) d p)) → wY_target_218 post 98 (nI n) f_cap f_nodeCap f_levels (nI len) f_cur f_now f_nodeCount f_queued f_c1 f_op f_c2 f_waits f_copies f_recCount f_reg f_begin f_recording f_recReg a_text a_marks a_info a_held a_strips a_size a_kind a_dueKey a_dueLevel (d + 1) (nI p) (nI i)
  | 0, i, p, hd, hp, H => br_t (nI_le (by omega) (by omega)) H
  | d + 1, i, p, hd, hp, H =>
    br_f (nI_ge (by omega) (by omega)) (br_f (by decide) (ye_left hp hl ht (nm_r (nI_1 i) (ye_target_218l hl ht hn d (i + 1) _ (by omega) (Nat.le_trans (me_wl_b t p) hp) H))))
theorem ye_target_276e (hl : len ≤ 32) (ht : ∀ i, i < len → a_text i = t i) {s col : Nat} (hs : s ≤ len) (hc : col ≤ 32) (H : post (nI (me_il t len s col))) : wpY_endOf (fun r_157 => (((r_157 ≤ (nI s + nI col) → (post r_157)) ∧ (¬ r_157 ≤ (nI s + nI col) → (post (nI s + nI col)))))) (f_cap, f_nodeCap, f_levels, nI len, f_cur, f_now, f_nodeCount, f_queued, f_c1, f_op, f_c2, f_waits, f_copies, f_recCount, f_reg, f_begin, f_recording, f_recReg, a_text, a_marks, a_info, a_held, a_strips, a_size, a_kind, a_dueKey, a_dueLevel) (nI s) := by
  have := me_le_b (t := t) hs
  refine ye_endOf hs hl ht ?_
  rw [nI_add]
  refine pk_le (me_le t len s) (s + col) (fun h => ?_) (fun h => ?_)
  · rw [me_il, if_pos h] at H; exact H
  · rw [me_il, if_neg (by omega)] at H; exact H
theorem ye_target_276b (hl : len ≤ 32) (ht : ∀ i, i < len → a_text i = t i) {n col : Nat} {key : Int32} (hk : ¬ key = 107) (hn : n ≤ 32) (hc : col ≤ 32) : ∀ d i s : Nat, i + d = n → s ≤ len → post (nI (me_il t len (me_it (me_lb t len) d s) col)) → wY_target_276 post key (nI col) (nI n) f_cap f_nodeCap f_levels (nI len) f_cur f_now f_nodeCount f_queued f_c1 f_op f_c2 f_waits f_copies f_recCount f_reg f_begin f_recording f_recReg a_text a_marks a_info a_held a_strips a_size a_kind a_dueKey a_dueLevel (d + 1) (nI s) (nI i)
  | 0, i, s, hd, hs, H => br_t (nI_le (by omega) (by omega)) (ye_target_276e hl ht hs hc H)
  | d + 1, i, s, hd, hs, H => by
    have hb := me_le_b (t := t) hs
    refine br_f (nI_ge (by omega) (by omega)) (br_f hk (ye_endOf hs hl ht ?_))
    refine pk_le len (me_le t len s) (fun h => nm_r (nI_1 i) ?_) (fun h => ye_endOf hs hl ht (nm_r (nI_1 _) (nm_r (nI_1 i) ?_)))
    · refine ye_target_276b hl ht hk hn hc d (i + 1) s (by omega) hs ?_
      rw [me_it, me_lb, if_neg (by omega)] at H; exact H
    · refine ye_target_276b hl ht hk hn hc d (i + 1) _ (by omega) (by omega) ?_
      rw [me_it, me_lb, if_pos h] at H; exact H
theorem ye_target_276a (hl : len ≤ 32) (ht : ∀ i, i < len → a_text i = t i) {n col : Nat} (hn : n ≤ 32) (hc : col ≤ 32) : ∀ d i s : Nat, i + d = n → s ≤ len → post (nI (me_il t len (me_it (me_la t) d s) col)) → wY_target_276 post 107 (nI col) (nI n) f_cap f_nodeCap f_levels (nI len) f_cur f_now f_nodeCount f_queued f_c1 f_op f_c2 f_waits f_copies f_recCount f_reg f_begin f_recording f_recReg a_text a_marks a_info a_held a_strips a_size a_kind a_dueKey a_dueLevel (d + 1) (nI s) (nI i)
  | 0, i, s, hd, hs, H => br_t (nI_le (by omega) (by omega)) (ye_target_276e hl ht hs hc H)
  | d + 1, i, 0, hd, hs, H => by
    refine br_f (nI_ge (by omega) (by omega)) (br_t rfl (br_t (by decide) (nm_r (nI_1 i) ?_)))
    exact ye_target_276a hl ht hn hc d (i + 1) 0 (by omega) (by omega) H
  | d + 1, i, s + 1, hd, hs, H => by
    have hb := me_ls_le t s
    refine br_f (nI_ge (by omega) (by omega)) (br_t rfl (br_f (nI_nle (by omega) (by omega)) ?_))
    rw [nI_pred]
    refine ye_startOf (by omega) (fun i hi => ht i (by omega)) (nm_r (nI_1 i) ?_)
    exact ye_target_276a hl ht hn hc d (i + 1) _ (by omega) (by omega) H
theorem ye_target_165 {key : Int32} {e n : Nat} (he : e ≤ len) (hl : len ≤ 32) (hn : n ≤ 32) (ht : ∀ i, i < len → a_text i = t i) : ∀ d i l : Nat, (i + d = e ∨ (d = 0 ∧ e ≤ i ∧ i ≤ 33)) → 1 ≤ l → l ≤ n → post (me_o (me_fnA t key d i l)) → wY_target_165 post key (nI n) (nI e) f_cap f_nodeCap f_levels f_len f_cur f_now f_nodeCount f_queued f_c1 f_op f_c2 f_waits f_copies f_recCount f_reg f_begin f_recording f_recReg a_text a_marks a_info a_held a_strips a_size a_kind a_dueKey a_dueLevel (d + 1) (nI (n - l)) (nI i)
  | 0, i, l, hd, h1, h2, H => br_t (nI_le (by omega) (by omega)) H
  | d + 1, i, l, hd, h1, h2, H => by
    refine br_f (nI_ge (by omega) (by omega)) ⟨vp_in_nI (by omega) (by omega), ?_⟩
    rw [nI_clamp (by omega), ht i (by omega)]
    refine br_c (fun h => nm_r (nI_1 _) ?_) (fun h => ?_)
    · rw [me_fnA, if_pos h] at H
      refine pk_eq (n - l + 1) n (fun h3 => ?_) (fun h3 => nm_r (nI_1 i) ?_)
      · rw [if_pos (by omega)] at H; exact H
      · rw [if_neg (by omega)] at H
        rw [show n - l + 1 = n - (l - 1) by omega]
        exact ye_target_165 he hl hn ht d (i + 1) (l - 1) (by omega) (by omega) (by omega) H
    · rw [me_fnA, if_neg h] at H
      refine pk_eq (n - l) n (fun h3 => by omega) (fun h3 => nm_r (nI_1 i) ?_)
      exact ye_target_165 he hl hn ht d (i + 1) l (by omega) h1 h2 H
theorem ye_times {a b : Nat} (ha : a ≤ 32) (hb : b ≤ 32) (H : post (nI (me_nt a b))) : wpY_times post (f_cap, f_nodeCap, f_levels, f_len, f_cur, f_now, f_nodeCount, f_queued, nI a, f_op, nI b, f_waits, f_copies, f_recCount, f_reg, f_begin, f_recording, f_recReg, a_text, a_marks, a_info, a_held, a_strips, a_size, a_kind, a_dueKey, a_dueLevel) := by
  have hz : ∀ a, a ≤ 32 → 1 ≤ (if a ≤ 1 then 1 else a) ∧ (if a ≤ 1 then 1 else a) ≤ 32 := fun a h => by split <;> omega
  have k32 : wY_times_32 post (nI (if b ≤ 1 then 1 else b)) (nI (if a ≤ 1 then 1 else a)) f_cap f_nodeCap f_levels f_len f_cur f_now f_nodeCount f_queued (nI a) f_op (nI b) f_waits f_copies f_recCount f_reg f_begin f_recording f_recReg a_text a_marks a_info a_held a_strips a_size a_kind a_dueKey a_dueLevel := by
    have h2 := Nat.mul_le_mul (hz a ha).2 (hz b hb).2
    refine nm_r (pk_mul _ _) (pk_le _ 32 (fun h => ?_) (fun h => ?_))
    · rw [me_nt, if_pos h] at H; exact H
    · rw [me_nt, if_neg (by omega)] at H; exact H
  have k16 : wY_times_16 post (nI (if a ≤ 1 then 1 else a)) f_cap f_nodeCap f_levels f_len f_cur f_now f_nodeCount f_queued (nI a) f_op (nI b) f_waits f_copies f_recCount f_reg f_begin f_recording f_recReg a_text a_marks a_info a_held a_strips a_size a_kind a_dueKey a_dueLevel := by
    refine pk_le b 1 (fun h => ?_) (fun h => ?_)
    · rw [if_pos h] at k32; exact k32
    · rw [if_neg (show ¬ b ≤ 1 by omega)] at k32; exact k32
  refine pk_le a 1 (fun h => ?_) (fun h => ?_)
  · rw [if_pos h] at k16; exact k16
  · rw [if_neg (show ¬ a ≤ 1 by omega)] at k16; exact k16
theorem ye_objectStart_97 : ∀ (j d : Nat) (x : Int32), x = nI j + (-1) → j ≤ 32 → d ≤ 32 → d + j ≤ 32 → (∀ i, i < j → a_text i = t i) → post (me_o ((me_opn t j d).map (· + 1))) → wY_objectStart_97 post f_cap f_nodeCap f_levels f_len f_cur f_now f_nodeCount f_queued f_c1 f_op f_c2 f_waits f_copies f_recCount f_reg f_begin f_recording f_recReg a_text a_marks a_info a_held a_strips a_size a_kind a_dueKey a_dueLevel (j + 1) (nI d) x
  | 0, d, x, hx, _, _, _, _, H => br_t (by rw [hx]; decide) H
  | j + 1, d, x, hx, hj, hd, hdj, ht, H => by
    rw [pk_m1] at hx
    subst hx
    have k25 : (t j = 41 → wY_objectStart_97 post f_cap f_nodeCap f_levels f_len f_cur f_now f_nodeCount f_queued f_c1 f_op f_c2 f_waits f_copies f_recCount f_reg f_begin f_recording f_recReg a_text a_marks a_info a_held a_strips a_size a_kind a_dueKey a_dueLevel (j + 1) (nI (d + 1)) (nI j + (-1))) → (¬ t j = 41 → t j = 40 → wY_objectStart_97 post f_cap f_nodeCap f_levels f_len f_cur f_now f_nodeCount f_queued f_c1 f_op f_c2 f_waits f_copies f_recCount f_reg f_begin f_recording f_recReg a_text a_marks a_info a_held a_strips a_size a_kind a_dueKey a_dueLevel (j + 1) (nI d + (-1)) (nI j + (-1))) → (¬ t j = 41 → ¬ t j = 40 → wY_objectStart_97 post f_cap f_nodeCap f_levels f_len f_cur f_now f_nodeCount f_queued f_c1 f_op f_c2 f_waits f_copies f_recCount f_reg f_begin f_recording f_recReg a_text a_marks a_info a_held a_strips a_size a_kind a_dueKey a_dueLevel (j + 1) (nI d) (nI j + (-1))) → wY_objectStart_123 post (wY_objectStart_97 post f_cap f_nodeCap f_levels f_len f_cur f_now f_nodeCount f_queued f_c1 f_op f_c2 f_waits f_copies f_recCount f_reg f_begin f_recording f_recReg a_text a_marks a_info a_held a_strips a_size a_kind a_dueKey a_dueLevel (j + 1)) (nI d) (nI j) f_cap f_nodeCap f_levels f_len f_cur f_now f_nodeCount f_queued f_c1 f_op f_c2 f_waits f_copies f_recCount f_reg f_begin f_recording f_recReg a_text a_marks a_info a_held a_strips a_size a_kind a_dueKey a_dueLevel := by
      intro k1 k2 k3
      refine ⟨vp_in_nI (by omega) (by omega), ?_⟩
      rw [nI_clamp (by omega), ht j (by omega)]
      exact br_c (fun h => nm_r (nI_1 d) (nm_e (k1 h))) (fun h => ⟨vp_in_nI (by omega) (by omega), br_c (fun h2 => nm_e (nm_e (k2 h h2))) (fun h2 => nm_r (Int32.add_zero _) (nm_e (k3 h h2)))⟩)
    refine br_f (nI_pos (by omega)) ⟨vp_in_nI (by omega) (by omega), ?_⟩
    rw [nI_clamp (by omega), ht j (by omega)]
    rw [me_opn] at H
    refine br_c (fun h => ?_) (fun h => ?_)
    · rw [if_pos h] at H
      refine pk_eq d 0 (fun h3 => ?_) (fun h3 => ?_)
      · rw [if_pos h3] at H; rw [nI_1]; exact H
      · rw [if_neg h3] at H
        refine k25 (fun h4 => ?_) (fun _ _ => ?_) (fun _ h5 => absurd h h5)
        · rw [h] at h4; exact absurd h4 (by decide)
        · rw [me_m1 (by omega)]
          exact ye_objectStart_97 j (d - 1) _ rfl (by omega) (by omega) (by omega) (fun i hi => ht i (by omega)) H
    · rw [if_neg h] at H
      refine k25 (fun h4 => ?_) (fun _ h5 => absurd h5 h) (fun h4 _ => ?_)
      · rw [if_pos h4] at H
        exact ye_objectStart_97 j (d + 1) _ rfl (by omega) (by omega) (by omega) (fun i hi => ht i (by omega)) H
      · rw [if_neg h4] at H
        exact ye_objectStart_97 j d _ rfl (by omega) (by omega) (by omega) (fun i hi => ht i (by omega)) H
theorem ye_objectEnd_43 (hl : len ≤ 32) (ht : ∀ i, i < len → a_text i = t i) : ∀ d i k : Nat, i + d = len → k ≤ i → post (me_o (me_cls2 t d i k)) → wY_objectEnd_43 post f_cap f_nodeCap f_levels (nI len) f_cur f_now f_nodeCount f_queued f_c1 f_op f_c2 f_waits f_copies f_recCount f_reg f_begin f_recording f_recReg a_text a_marks a_info a_held a_strips a_size a_kind a_dueKey a_dueLevel (d + 1) (nI k) (nI i)
  | 0, i, k, hd, hk, H => br_t (nI_le (by omega) (by omega)) H
  | d + 1, i, k, hd, hk, H => by
    have k29 : (t i = 40 → wY_objectEnd_43 post f_cap f_nodeCap f_levels (nI len) f_cur f_now f_nodeCount f_queued f_c1 f_op f_c2 f_waits f_copies f_recCount f_reg f_begin f_recording f_recReg a_text a_marks a_info a_held a_strips a_size a_kind a_dueKey a_dueLevel (d + 1) (nI (k + 1)) (nI (i + 1))) → (¬ t i = 40 → t i = 41 → wY_objectEnd_43 post f_cap f_nodeCap f_levels (nI len) f_cur f_now f_nodeCount f_queued f_c1 f_op f_c2 f_waits f_copies f_recCount f_reg f_begin f_recording f_recReg a_text a_marks a_info a_held a_strips a_size a_kind a_dueKey a_dueLevel (d + 1) (nI k + (-1)) (nI (i + 1))) → (¬ t i = 40 → ¬ t i = 41 → wY_objectEnd_43 post f_cap f_nodeCap f_levels (nI len) f_cur f_now f_nodeCount f_queued f_c1 f_op f_c2 f_waits f_copies f_recCount f_reg f_begin f_recording f_recReg a_text a_marks a_info a_held a_strips a_size a_kind a_dueKey a_dueLevel (d + 1) (nI k) (nI (i + 1))) → wY_objectEnd_72 post (wY_objectEnd_43 post f_cap f_nodeCap f_levels (nI len) f_cur f_now f_nodeCount f_queued f_c1 f_op f_c2 f_waits f_copies f_recCount f_reg f_begin f_recording f_recReg a_text a_marks a_info a_held a_strips a_size a_kind a_dueKey a_dueLevel (d + 1)) (nI k) (nI i) f_cap f_nodeCap f_levels (nI len) f_cur f_now f_nodeCount f_queued f_c1 f_op f_c2 f_waits f_copies f_recCount f_reg f_begin f_recording f_recReg a_text a_marks a_info a_held a_strips a_size a_kind a_dueKey a_dueLevel := by
      intro k1 k2 k3
      refine ⟨vp_in_nI (by omega) (by omega), ?_⟩
      rw [nI_clamp (by omega), ht i (by omega)]
      exact br_c (fun h => nm_r (nI_1 k) (nm_r (nI_1 i) (k1 h))) (fun h => ⟨vp_in_nI (by omega) (by omega), br_c (fun h2 => nm_e (nm_r (nI_1 i) (k2 h h2))) (fun h2 => nm_r (Int32.add_zero _) (nm_r (nI_1 i) (k3 h h2)))⟩)
    refine br_f (nI_ge (by omega) (by omega)) ⟨vp_in_nI (by omega) (by omega), ?_⟩
    rw [nI_clamp (by omega), ht i (by omega)]
    rw [me_cls2] at H
    refine br_c (fun h => ?_) (fun h => ?_)
    · rw [if_pos h] at H
      refine pk_eq k 0 (fun h3 => ?_) (fun h3 => ?_)
      · rw [if_pos h3] at H; exact H
      · rw [if_neg h3] at H
        refine k29 (fun h4 => ?_) (fun _ _ => ?_) (fun _ h5 => absurd h h5)
        · rw [h] at h4; exact absurd h4 (by decide)
        · rw [me_m1 (by omega)]
          exact ye_objectEnd_43 hl ht d (i + 1) (k - 1) (by omega) (by omega) H
    · rw [if_neg h] at H
      refine k29 (fun h4 => ?_) (fun _ h5 => absurd h5 h) (fun h4 _ => ?_)
      · rw [if_pos h4] at H
        exact ye_objectEnd_43 hl ht d (i + 1) (k + 1) (by omega) (by omega) H
      · rw [if_neg h4] at H
        exact ye_objectEnd_43 hl ht d (i + 1) k (by omega) (by omega) H
theorem ye_objectStart_24 (hl : len ≤ 32) (ht : ∀ i, i < len → a_text i = t i) {cur : Nat} (hc : cur < len) : ∀ p : Nat, p ≤ cur → post (nI (me_sl t (me_cls (t cur)) p)) → wY_objectStart_24 post f_cap f_nodeCap f_levels (nI len) (nI cur) f_now f_nodeCount f_queued f_c1 f_op f_c2 f_waits f_copies f_recCount f_reg f_begin f_recording f_recReg a_text a_marks a_info a_held a_strips a_size a_kind a_dueKey a_dueLevel (p + 1) (nI p)
  | 0, _, H => br_t (by decide) H
  | p + 1, hp, H => by
    refine br_f (nI_nle (by omega) (by omega)) ?_
    rw [nI_pred]
    refine ye_classOf (by omega) hl (ye_classOf hc hl ?_)
    rw [ht p (by omega), ht cur hc]
    refine br_c (fun h => nm_r (pk_m1 p) ?_) (fun h => ?_)
    · rw [me_sl, if_pos h] at H
      exact ye_objectStart_24 hl ht hc p (by omega) H
    · rw [me_sl, if_neg h] at H; exact H
theorem ye_objectEnd_11 (hl : len ≤ 32) (ht : ∀ i, i < len → a_text i = t i) {s : Nat} (hs : s < len) : ∀ d p : Nat, p + d = len → post (nI (me_srA t (me_cls (t s)) d p)) → wY_objectEnd_11 post (nI s) f_cap f_nodeCap f_levels (nI len) f_cur f_now f_nodeCount f_queued f_c1 f_op f_c2 f_waits f_copies f_recCount f_reg f_begin f_recording f_recReg a_text a_marks a_info a_held a_strips a_size a_kind a_dueKey a_dueLevel (d + 1) (nI p)
  | 0, p, hd, H => br_t (nI_le (by omega) (by omega)) H
  | d + 1, p, hd, H => by
    refine br_f (nI_ge (by omega) (by omega)) (ye_classOf (by omega) hl (ye_classOf hs hl ?_))
    rw [ht p (by omega), ht s hs]
    refine br_c (fun h => nm_r (nI_1 p) ?_) (fun h => ?_)
    · rw [me_srA, if_pos h] at H
      exact ye_objectEnd_11 hl ht hs d (p + 1) (by omega) H
    · rw [me_srA, if_neg h] at H; exact H
end
end
section
/-! pure changes of a text and of its marks -/
def me_set {α : Type} (f : Nat → α) (k : Nat) (v : α) : Nat → α := fun j => if j = k then v else f j
theorem me_set_s {α : Type} (f : Nat → α) (k : Nat) (v : α) : me_set f k v k = v := if_pos rfl
theorem me_set_n {α : Type} {f : Nat → α} {k j : Nat} {v : α} (h : j ≠ k) : me_set f k v j = f j := if_neg h
def me_gap (t : Nat → Int32) (p k : Nat) (g : Nat → Int32) : Nat → Int32 := fun i => if i < p then t i else if i < p + k then g (i - p) else t (i - k)
def me_shm (mks : Nat → Option Nat) (p k : Nat) : Nat → Option Nat := fun m => (mks m).map (fun j => if j < p then j else j + k)
def me_cut (t : Nat → Int32) (s e : Nat) : Nat → Int32 := fun i => if i < s then t i else t (i + (e - s))
def me_cutm (mks : Nat → Option Nat) (s e : Nat) : Nat → Option Nat := fun m => (mks m).bind fun j => if e ≤ j then some (j - (e - s)) else if s ≤ j then none else some j
theorem me_gap_lo {t : Nat → Int32} {p k : Nat} {g : Nat → Int32} {i : Nat} (h : i < p) : me_gap t p k g i = t i := if_pos h
theorem me_gap_mid {t : Nat → Int32} {p k : Nat} {g : Nat → Int32} {i : Nat} (h : i < k) : me_gap t p k g (p + i) = g i := by
  unfold me_gap
  rw [if_neg (by omega), if_pos (by omega), Nat.add_sub_cancel_left]
theorem me_gap_hi {t : Nat → Int32} {p k : Nat} {g : Nat → Int32} {i : Nat} (h : p ≤ i) : me_gap t p k g (i + k) = t i := by
  unfold me_gap
  rw [if_neg (by omega), if_neg (by omega), Nat.add_sub_cancel]
theorem me_gap_0 (t : Nat → Int32) (p : Nat) (g : Nat → Int32) : me_gap t p 0 g = t := by
  funext i
  unfold me_gap
  split
  · rfl
  · rw [if_neg (by omega)]; rfl
theorem me_gap_s (t : Nat → Int32) (p c : Nat) (g : Nat → Int32) : me_gap (me_gap t p c g) (p + c) 1 (fun _ => g c) = me_gap t p (c + 1) g := by
  funext i
  unfold me_gap
  by_cases h1 : i < p
  · rw [if_pos (show i < p + c by omega), if_pos h1, if_pos h1]
  · by_cases h2 : i < p + c
    · rw [if_pos h2, if_neg h1, if_pos h2, if_neg h1, if_pos (by omega)]
    · by_cases h3 : i = p + c
      · subst h3
        rw [if_neg h2, if_pos (by omega), if_neg h1, if_pos (by omega), Nat.add_sub_cancel_left]
      · rw [if_neg h2, if_neg (by omega), if_neg (by omega), if_neg (by omega), if_neg h1, if_neg (by omega)]
        exact congrArg t (by omega)
theorem me_shm_0 (mks : Nat → Option Nat) (p : Nat) : me_shm mks p 0 = mks := by
  funext m
  unfold me_shm
  cases mks m with
  | none => rfl
  | some j => simp
theorem me_shm_s (mks : Nat → Option Nat) (p c : Nat) : me_shm (me_shm mks p c) (p + c) 1 = me_shm mks p (c + 1) := by
  funext m
  unfold me_shm
  cases mks m with
  | none => rfl
  | some j =>
    simp only [Option.map_some, Option.some.injEq]
    by_cases h : j < p
    · rw [if_pos h, if_pos h, if_pos (by omega)]
    · rw [if_neg h, if_neg h, if_neg (by omega)]; rfl
theorem me_cut_0 (t : Nat → Int32) (s : Nat) : me_cut t s s = t := by
  funext i
  unfold me_cut
  rw [Nat.sub_self]
  split <;> rfl
theorem me_cut_s (t : Nat → Int32) (s c : Nat) : me_cut (me_cut t s (s + c)) s (s + 1) = me_cut t s (s + c + 1) := by
  funext i
  unfold me_cut
  by_cases h : i < s
  · rw [if_pos h, if_pos h, if_pos h]
  · rw [if_neg h, if_neg h, if_neg (by omega)]
    exact congrArg t (by omega)
theorem me_cutm_0 (mks : Nat → Option Nat) (s : Nat) : me_cutm mks s s = mks := by
  funext m
  unfold me_cutm
  cases mks m with
  | none => rfl
  | some j =>
    simp only [Option.bind_some, Nat.sub_self]
    by_cases h : s ≤ j
    · rw [if_pos h]; rfl
    · rw [if_neg h, if_neg h]
theorem me_cutm_s (mks : Nat → Option Nat) (s c : Nat) : me_cutm (me_cutm mks s (s + c)) s (s + 1) = me_cutm mks s (s + c + 1) := by
  funext m
  unfold me_cutm
  cases mks m with
  | none => rfl
  | some j =>
    simp only [Option.bind_some]
    by_cases h1 : s + c + 1 ≤ j
    · rw [if_pos (show s + c ≤ j by omega), if_pos h1, Option.bind_some, if_pos (by omega)]
      exact congrArg some (by omega)
    · by_cases h2 : s ≤ j
      · rw [if_neg h1, if_pos h2]
        by_cases h3 : s + c ≤ j
        · rw [if_pos h3, Option.bind_some, if_neg (by omega), if_pos (by omega)]
        · rw [if_neg h3]; rfl
      · rw [if_neg h1, if_neg h2, if_neg (by omega), Option.bind_some, if_neg (by omega), if_neg h2]
theorem me_shm_b {mks : Nat → Option Nat} {p k m j len : Nat} (h : ∀ j, mks m = some j → j ≤ len) (hj : me_shm mks p k m = some j) : j ≤ len + k := by
  unfold me_shm at hj
  cases e : mks m with
  | none => rw [e] at hj; cases hj
  | some q =>
    have := h q e
    rw [e, Option.map_some, Option.some.injEq] at hj
    subst hj
    split <;> omega
theorem me_cutm_b {mks : Nat → Option Nat} {s e m j len : Nat} (hs : s ≤ e) (he : e ≤ len) (h : ∀ j, mks m = some j → j ≤ len) (hj : me_cutm mks s e m = some j) : j ≤ len - (e - s) := by
  unfold me_cutm at hj
  cases eq : mks m with
  | none => rw [eq] at hj; cases hj
  | some q =>
    have := h q eq
    rw [eq, Option.bind_some] at hj
    by_cases h1 : e ≤ q
    · rw [if_pos h1, Option.some.injEq] at hj; omega
    · rw [if_neg h1] at hj
      by_cases h2 : s ≤ q
      · rw [if_pos h2] at hj; cases hj
      · rw [if_neg h2, Option.some.injEq] at hj; omega
theorem me_subm1 (x : Int32) : x - 1 = x + (-1) := Int32.sub_eq_add_neg x 1
/-- a mark against a place -/
theorem me_o_ltp {o : Option Nat} {p : Nat} (ho : ∀ j, o = some j → j ≤ 32) (hp : p ≤ 33) : me_o o < nI p ↔ ∀ j, o = some j → j < p := by
  cases o with
  | none =>
    constructor
    · intro _ j h; cases h
    · intro _
      rw [Int32.lt_iff_toInt_lt, nI_toInt (by omega), show (me_o none).toInt = -1 by decide]
      omega
  | some j =>
    have := ho j rfl
    rw [me_o_some, nI_ltI (by omega) (by omega)]
    constructor
    · intro h q e; cases e; exact h
    · intro h; exact h j rfl
theorem me_lt3 {i : Nat} {m : Nat → Int32} {v : Int32} {f : Nat → Int32} (_ : i < 3) (h1 : ∀ j, j < i → m j = f j) (hv : v = f i) : ∀ j, j < i + 1 → upd m i v j = f j := by
  intro j hj
  by_cases e : j = i
  · subst e; rw [pk_us]; exact hv
  · rw [pk_un e]; exact h1 j (by omega)
end
section
/-! the component's changes of text and marks -/
section
variable {f_textCap f_nodeCap f_levels f_len f_cur f_nodeCount f_node f_reg f_c1 f_op f_c2 f_waiting f_sessionStart f_copies f_recReg f_recLen f_chKeyLen f_chTextLen f_chReg f_chCount f_depth f_keyLevel f_spanFrom f_spanTo f_spanTextEnd f_spanKind : Int32} {a_text a_marks a_regKinds a_regLens a_regCodes a_nodeParent a_nodeRedo a_nodeLen a_nodeCur a_nodeMarks a_nodeText a_recCodes a_chKeys a_chText a_frameCodes a_frameLen a_framePos a_frameTimes a_frameLevel : Nat → Int32}
variable {post : SX → Prop} {t : Nat → Int32} {len : Nat} {mks : Nat → Option Nat}
theorem xe_openGap_44 {p k : Nat} (hp : p ≤ 32) (hk : k ≤ 32) (hb : ∀ m, m < 3 → ∀ j, mks m = some j → j ≤ 32)
    (H : ∀ m', (∀ m, m < 3 → m' m = me_o (me_shm mks p k m)) → post (f_textCap, f_nodeCap, f_levels, f_len, f_cur, f_nodeCount, f_node, f_reg, f_c1, f_op, f_c2, f_waiting, f_sessionStart, f_copies, f_recReg, f_recLen, f_chKeyLen, f_chTextLen, f_chReg, f_chCount, f_depth, f_keyLevel, f_spanFrom, f_spanTo, f_spanTextEnd, f_spanKind, a_text, m', a_regKinds, a_regLens, a_regCodes, a_nodeParent, a_nodeRedo, a_nodeLen, a_nodeCur, a_nodeMarks, a_nodeText, a_recCodes, a_chKeys, a_chText, a_frameCodes, a_frameLen, a_framePos, a_frameTimes, a_frameLevel)) : ∀ (d i : Nat) (ms : Nat → Int32), i + d = 3 → (∀ m, m < i → ms m = me_o (me_shm mks p k m)) → (∀ m, i ≤ m → m < 3 → ms m = me_o (mks m)) → wX_openGap_44 post (nI p) (nI k) f_textCap f_nodeCap f_levels f_len f_cur f_nodeCount f_node f_reg f_c1 f_op f_c2 f_waiting f_sessionStart f_copies f_recReg f_recLen f_chKeyLen f_chTextLen f_chReg f_chCount f_depth f_keyLevel f_spanFrom f_spanTo f_spanTextEnd f_spanKind (d + 1) (nI i) a_text ms a_regKinds a_regLens a_regCodes a_nodeParent a_nodeRedo a_nodeLen a_nodeCur a_nodeMarks a_nodeText a_recCodes a_chKeys a_chText a_frameCodes a_frameLen a_framePos a_frameTimes a_frameLevel
  | 0, i, ms, hd, h1, h2 => br_t (nI_le (a := 3) (by omega) (by omega)) (H ms (fun m hm => h1 m (by omega)))
  | d + 1, i, ms, hd, h1, h2 => by
    refine br_f (nI_ge (b := 3) (by omega) (by omega)) ⟨vp_in_nI (by omega) (by omega), ?_⟩
    have hi := h2 i (Nat.le_refl _) (by omega)
    have hbi := hb i (by omega)
    have cl := nI_clamp (n := i) (by omega)
    refine br_c (fun h => nm_r (nI_1 i) ?_) (fun h => ⟨vp_in_nI (by omega) (by omega), vp_in_nI (by omega) (by omega), nm_e (nm_r (nI_1 i) ?_)⟩)
    · rw [cl, hi, me_o_ltp hbi (by omega)] at h
      refine xe_openGap_44 hp hk hb H d (i + 1) ms (by omega) (fun m hm => ?_) (fun m hm hm3 => h2 m (by omega) hm3)
      by_cases e : m = i
      · subst e
        rw [hi]
        unfold me_shm
        cases eq : mks m with
        | none => rfl
        | some j => rw [Option.map_some, if_pos (h j eq)]
      · exact h1 m (by omega)
    · rw [cl, hi, me_o_ltp hbi (by omega)] at h
      refine xe_openGap_44 hp hk hb H d (i + 1) _ (by omega) ?_ (fun m hm hm3 => ?_)
      · rw [cl]
        refine me_lt3 (by omega) h1 ?_
        rw [hi]
        unfold me_shm
        cases eq : mks i with
        | none => exact absurd (fun j e => by rw [eq] at e; cases e) h
        | some j =>
          have : ¬ j < p := fun hj => h (fun q e => by rw [eq] at e; cases e; exact hj)
          rw [Option.map_some, if_neg this, me_o_some, me_o_some, nI_add]
      · rw [cl, pk_un (by omega)]; exact h2 m (by omega) hm3
theorem xe_openGap_7 {p k : Nat} (hp : p ≤ len) (hk : len + k ≤ 32) (hb : ∀ m, m < 3 → ∀ j, mks m = some j → j ≤ 32) (hm : ∀ m, m < 3 → a_marks m = me_o (mks m))
    (H : ∀ a' m', (∀ i, i < p → a' i = t i) → (∀ i, p ≤ i → i < len → a' (i + k) = t i) → (∀ m, m < 3 → m' m = me_o (me_shm mks p k m)) → post (f_textCap, f_nodeCap, f_levels, nI (len + k), f_cur, f_nodeCount, f_node, f_reg, f_c1, f_op, f_c2, f_waiting, f_sessionStart, f_copies, f_recReg, f_recLen, f_chKeyLen, f_chTextLen, f_chReg, f_chCount, f_depth, f_keyLevel, f_spanFrom, f_spanTo, f_spanTextEnd, f_spanKind, a', m', a_regKinds, a_regLens, a_regCodes, a_nodeParent, a_nodeRedo, a_nodeLen, a_nodeCur, a_nodeMarks, a_nodeText, a_recCodes, a_chKeys, a_chText, a_frameCodes, a_frameLen, a_framePos, a_frameTimes, a_frameLevel)) :
    ∀ (d : Nat) (x : Int32) (a : Nat → Int32), x = nI (p + d) + (-1) → p + d ≤ len → (∀ i, i < p + d → a i = t i) → (∀ i, p + d ≤ i → i < len → a (i + k) = t i) → wX_openGap_7 post (nI p) (nI k) f_textCap f_nodeCap f_levels (nI len) f_cur f_nodeCount f_node f_reg f_c1 f_op f_c2 f_waiting f_sessionStart f_copies f_recReg f_recLen f_chKeyLen f_chTextLen f_chReg f_chCount f_depth f_keyLevel f_spanFrom f_spanTo f_spanTextEnd f_spanKind (d + 1) x a a_marks a_regKinds a_regLens a_regCodes a_nodeParent a_nodeRedo a_nodeLen a_nodeCur a_nodeMarks a_nodeText a_recCodes a_chKeys a_chText a_frameCodes a_frameLen a_framePos a_frameTimes a_frameLevel
  | 0, x, a, hx, hd, h1, h2 => by
    have hlt : x < nI p := by
      rw [hx, Nat.add_zero]
      cases p with
      | zero => decide
      | succ p => rw [pk_m1]; exact nI_lt (by omega) (by omega)
    refine br_t hlt (nm_r (nI_add len k) ⟨4, ?_⟩)
    exact xe_openGap_44 (mks := mks) (by omega) (by omega) hb (fun m' hm' => H a m' (fun i hi => h1 i (by omega)) (fun i hi hl => h2 i (by omega) hl) hm') 3 0 a_marks rfl (fun m hm => by omega) (fun m _ h3 => hm m h3)
  | d + 1, x, a, hx, hd, h1, h2 => by
    rw [show p + (d + 1) = (p + d) + 1 by omega, pk_m1] at hx
    subst hx
    refine br_f (nI_nlt (by omega) (by omega)) ⟨vp_in_nI (by omega) (by omega), pk_in (p + d + k) 32 (by omega) (nI_add _ _), nm_e (nm_e ?_)⟩
    rw [pk_cl (p + d + k) (nI_add _ _), nI_clamp (n := p + d) (by omega), h1 (p + d) (by omega)]
    refine xe_openGap_7 hp hk hb hm H d _ _ rfl (by omega) (fun i hi => ?_) (fun i hi hl => ?_)
    · rw [pk_un (by omega)]; exact h1 i (by omega)
    · by_cases e : i = p + d
      · subst e; exact pk_us
      · rw [pk_un (by omega)]; exact h2 i (by omega) hl
theorem xe_openGap {p k : Nat} (hp : p ≤ len) (hk : len + k ≤ 32) (ht : ∀ i, i < len → a_text i = t i) (hb : ∀ m, m < 3 → ∀ j, mks m = some j → j ≤ 32) (hm : ∀ m, m < 3 → a_marks m = me_o (mks m))
    (H : ∀ a' m', (∀ i, i < p → a' i = t i) → (∀ i, p ≤ i → i < len → a' (i + k) = t i) → (∀ m, m < 3 → m' m = me_o (me_shm mks p k m)) → post (f_textCap, f_nodeCap, f_levels, nI (len + k), f_cur, f_nodeCount, f_node, f_reg, f_c1, f_op, f_c2, f_waiting, f_sessionStart, f_copies, f_recReg, f_recLen, f_chKeyLen, f_chTextLen, f_chReg, f_chCount, f_depth, f_keyLevel, f_spanFrom, f_spanTo, f_spanTextEnd, f_spanKind, a', m', a_regKinds, a_regLens, a_regCodes, a_nodeParent, a_nodeRedo, a_nodeLen, a_nodeCur, a_nodeMarks, a_nodeText, a_recCodes, a_chKeys, a_chText, a_frameCodes, a_frameLen, a_framePos, a_frameTimes, a_frameLevel)) :
    wpX_openGap post (f_textCap, f_nodeCap, f_levels, nI len, f_cur, f_nodeCount, f_node, f_reg, f_c1, f_op, f_c2, f_waiting, f_sessionStart, f_copies, f_recReg, f_recLen, f_chKeyLen, f_chTextLen, f_chReg, f_chCount, f_depth, f_keyLevel, f_spanFrom, f_spanTo, f_spanTextEnd, f_spanKind, a_text, a_marks, a_regKinds, a_regLens, a_regCodes, a_nodeParent, a_nodeRedo, a_nodeLen, a_nodeCur, a_nodeMarks, a_nodeText, a_recCodes, a_chKeys, a_chText, a_frameCodes, a_frameLen, a_framePos, a_frameTimes, a_frameLevel) (nI p) (nI k) := by
  refine nm_r (me_subm1 _) ⟨_, xe_openGap_7 hp hk hb hm H (len - p) _ a_text ?_ (by omega) (fun i hi => ht i (by omega)) (fun i hi hl => by omega)⟩
  rw [show p + (len - p) = len by omega]
theorem xe_insertCode {cur : Nat} {code : Int32} (hc : cur ≤ len) (hl : len + 1 ≤ 32) (ht : ∀ i, i < len → a_text i = t i) (hb : ∀ m, m < 3 → ∀ j, mks m = some j → j ≤ 32) (hm : ∀ m, m < 3 → a_marks m = me_o (mks m))
    (H : ∀ a' m', (∀ i, i < len + 1 → a' i = me_gap t cur 1 (fun _ => code) i) → (∀ m, m < 3 → m' m = me_o (me_shm mks cur 1 m)) → post (f_textCap, f_nodeCap, f_levels, nI (len + 1), nI (cur + 1), f_nodeCount, f_node, f_reg, f_c1, f_op, f_c2, f_waiting, f_sessionStart, f_copies, f_recReg, f_recLen, f_chKeyLen, f_chTextLen, f_chReg, f_chCount, f_depth, f_keyLevel, f_spanFrom, f_spanTo, f_spanTextEnd, f_spanKind, a', m', a_regKinds, a_regLens, a_regCodes, a_nodeParent, a_nodeRedo, a_nodeLen, a_nodeCur, a_nodeMarks, a_nodeText, a_recCodes, a_chKeys, a_chText, a_frameCodes, a_frameLen, a_framePos, a_frameTimes, a_frameLevel)) :
    wpX_insertCode post (f_textCap, f_nodeCap, f_levels, nI len, nI cur, f_nodeCount, f_node, f_reg, f_c1, f_op, f_c2, f_waiting, f_sessionStart, f_copies, f_recReg, f_recLen, f_chKeyLen, f_chTextLen, f_chReg, f_chCount, f_depth, f_keyLevel, f_spanFrom, f_spanTo, f_spanTextEnd, f_spanKind, a_text, a_marks, a_regKinds, a_regLens, a_regCodes, a_nodeParent, a_nodeRedo, a_nodeLen, a_nodeCur, a_nodeMarks, a_nodeText, a_recCodes, a_chKeys, a_chText, a_frameCodes, a_frameLen, a_framePos, a_frameTimes, a_frameLevel) code := by
  refine xe_openGap (k := 1) hc hl ht hb hm (fun a' m' h1 h2 h3 => ⟨vp_in_nI (by omega) (by omega), nm_e (nm_r (nI_1 cur) (H _ _ (fun i hi => ?_) h3))⟩)
  rw [nI_clamp (by omega)]
  by_cases e : i = cur
  · subst e; rw [pk_us]; exact (me_gap_mid (i := 0) (g := fun _ => code) (by omega)).symm
  · rw [pk_un e]
    by_cases e2 : i < cur
    · rw [h1 i e2, me_gap_lo e2]
    · obtain ⟨q, rfl⟩ : ∃ q, i = q + 1 := ⟨i - 1, by omega⟩
      rw [h2 q (by omega) (by omega), me_gap_hi (by omega)]
theorem xe_insertTyped_14 {cur n : Nat} {g : Nat → Int32} (hn : cur + n ≤ 32) (hg : ∀ i, i < n → a_chText i = g i)
    (H : ∀ a', (∀ i, i < cur ∨ cur + n ≤ i → a' i = t i) → (∀ i, i < n → a' (cur + i) = g i) → post (f_textCap, f_nodeCap, f_levels, f_len, nI (cur + n), f_nodeCount, f_node, f_reg, f_c1, f_op, f_c2, f_waiting, f_sessionStart, f_copies, f_recReg, f_recLen, f_chKeyLen, nI n, f_chReg, f_chCount, f_depth, f_keyLevel, f_spanFrom, f_spanTo, f_spanTextEnd, f_spanKind, a', a_marks, a_regKinds, a_regLens, a_regCodes, a_nodeParent, a_nodeRedo, a_nodeLen, a_nodeCur, a_nodeMarks, a_nodeText, a_recCodes, a_chKeys, a_chText, a_frameCodes, a_frameLen, a_framePos, a_frameTimes, a_frameLevel)) :
    ∀ (d i : Nat) (a : Nat → Int32), i + d = n → (∀ j, j < cur ∨ cur + n ≤ j → a j = t j) → (∀ j, j < i → a (cur + j) = g j) → wX_insertTyped_14 post f_textCap f_nodeCap f_levels f_len (nI cur) f_nodeCount f_node f_reg f_c1 f_op f_c2 f_waiting f_sessionStart f_copies f_recReg f_recLen f_chKeyLen (nI n) f_chReg f_chCount f_depth f_keyLevel f_spanFrom f_spanTo f_spanTextEnd f_spanKind (d + 1) (nI i) a a_marks a_regKinds a_regLens a_regCodes a_nodeParent a_nodeRedo a_nodeLen a_nodeCur a_nodeMarks a_nodeText a_recCodes a_chKeys a_chText a_frameCodes a_frameLen a_framePos a_frameTimes a_frameLevel
  | 0, i, a, hd, h1, h2 => br_t (nI_le (by omega) (by omega)) (nm_r (nI_add _ _) (H a h1 (fun j hj => h2 j (by omega))))
  | d + 1, i, a, hd, h1, h2 => by
    refine br_f (nI_ge (by omega) (by omega)) ⟨vp_in_nI (by omega) (by omega), pk_in (cur + i) 32 (by omega) (nI_add _ _), nm_e (nm_r (nI_1 i) ?_)⟩
    rw [pk_cl (cur + i) (nI_add _ _), nI_clamp (n := i) (by omega), hg i (by omega)]
    refine xe_insertTyped_14 hn hg H d (i + 1) _ (by omega) (fun j hj => ?_) (fun j hj => ?_)
    · rw [pk_un (by omega)]; exact h1 j hj
    · by_cases e : j = i
      · subst e; exact pk_us
      · rw [pk_un (by omega)]; exact h2 j (by omega)
theorem xe_insertTyped {cur n : Nat} {g : Nat → Int32} (hc : cur ≤ len) (hl : len + n ≤ 32) (ht : ∀ i, i < len → a_text i = t i) (hb : ∀ m, m < 3 → ∀ j, mks m = some j → j ≤ 32) (hm : ∀ m, m < 3 → a_marks m = me_o (mks m)) (hg : ∀ i, i < n → a_chText i = g i)
    (H : ∀ a' m', (∀ i, i < len + n → a' i = me_gap t cur n g i) → (∀ m, m < 3 → m' m = me_o (me_shm mks cur n m)) → post (f_textCap, f_nodeCap, f_levels, nI (len + n), nI (cur + n), f_nodeCount, f_node, f_reg, f_c1, f_op, f_c2, f_waiting, f_sessionStart, f_copies, f_recReg, f_recLen, f_chKeyLen, nI n, f_chReg, f_chCount, f_depth, f_keyLevel, f_spanFrom, f_spanTo, f_spanTextEnd, f_spanKind, a', m', a_regKinds, a_regLens, a_regCodes, a_nodeParent, a_nodeRedo, a_nodeLen, a_nodeCur, a_nodeMarks, a_nodeText, a_recCodes, a_chKeys, a_chText, a_frameCodes, a_frameLen, a_framePos, a_frameTimes, a_frameLevel)) :
    wpX_insertTyped post (f_textCap, f_nodeCap, f_levels, nI len, nI cur, f_nodeCount, f_node, f_reg, f_c1, f_op, f_c2, f_waiting, f_sessionStart, f_copies, f_recReg, f_recLen, f_chKeyLen, nI n, f_chReg, f_chCount, f_depth, f_keyLevel, f_spanFrom, f_spanTo, f_spanTextEnd, f_spanKind, a_text, a_marks, a_regKinds, a_regLens, a_regCodes, a_nodeParent, a_nodeRedo, a_nodeLen, a_nodeCur, a_nodeMarks, a_nodeText, a_recCodes, a_chKeys, a_chText, a_frameCodes, a_frameLen, a_framePos, a_frameTimes, a_frameLevel) := by
  refine xe_openGap hc hl ht hb hm (fun a' m' h1 h2 h3 => ⟨n + 1, xe_insertTyped_14 (t := a') (g := g) (by omega) hg (fun a'' k1 k2 => H _ _ (fun i hi => ?_) h3) n 0 a' (by omega) (fun j _ => rfl) (fun j hj => by omega)⟩)
  by_cases e1 : i < cur
  · rw [k1 i (Or.inl e1), h1 i e1, me_gap_lo e1]
  · by_cases e2 : i < cur + n
    · obtain ⟨q, rfl⟩ : ∃ q, i = cur + q := ⟨i - cur, by omega⟩
      rw [k2 q (by omega), me_gap_mid (by omega)]
    · obtain ⟨q, rfl⟩ : ∃ q, i = q + n := ⟨i - n, by omega⟩
      rw [k1 _ (Or.inr (by omega)), h2 q (by omega) (by omega), me_gap_hi (by omega)]
theorem xe_deleteCells_51 {s e : Nat} (hs : s ≤ e) (he : e ≤ 32) (hb : ∀ m, m < 3 → ∀ j, mks m = some j → j ≤ 32)
    (H : ∀ m', (∀ m, m < 3 → m' m = me_o (me_cutm mks s e m)) → post (f_textCap, f_nodeCap, f_levels, f_len, f_cur, f_nodeCount, f_node, f_reg, f_c1, f_op, f_c2, f_waiting, f_sessionStart, f_copies, f_recReg, f_recLen, f_chKeyLen, f_chTextLen, f_chReg, f_chCount, f_depth, f_keyLevel, f_spanFrom, f_spanTo, f_spanTextEnd, f_spanKind, a_text, m', a_regKinds, a_regLens, a_regCodes, a_nodeParent, a_nodeRedo, a_nodeLen, a_nodeCur, a_nodeMarks, a_nodeText, a_recCodes, a_chKeys, a_chText, a_frameCodes, a_frameLen, a_framePos, a_frameTimes, a_frameLevel)) : ∀ (d i : Nat) (ms : Nat → Int32), i + d = 3 → (∀ m, m < i → ms m = me_o (me_cutm mks s e m)) → (∀ m, i ≤ m → m < 3 → ms m = me_o (mks m)) → wX_deleteCells_51 post (nI s) (nI e) (nI (e - s)) f_textCap f_nodeCap f_levels f_len f_cur f_nodeCount f_node f_reg f_c1 f_op f_c2 f_waiting f_sessionStart f_copies f_recReg f_recLen f_chKeyLen f_chTextLen f_chReg f_chCount f_depth f_keyLevel f_spanFrom f_spanTo f_spanTextEnd f_spanKind (d + 1) (nI i) a_text ms a_regKinds a_regLens a_regCodes a_nodeParent a_nodeRedo a_nodeLen a_nodeCur a_nodeMarks a_nodeText a_recCodes a_chKeys a_chText a_frameCodes a_frameLen a_framePos a_frameTimes a_frameLevel
  | 0, i, ms, hd, h1, h2 => br_t (nI_le (a := 3) (by omega) (by omega)) (H ms (fun m hm => h1 m (by omega)))
  | d + 1, i, ms, hd, h1, h2 => by
    have hi := h2 i (Nat.le_refl _) (by omega)
    have hbi := hb i (by omega)
    have cl := nI_clamp (n := i) (by omega)
    have vi : vp_in (nI i) 3 := vp_in_nI (by omega) (by omega)
    refine br_f (nI_ge (b := 3) (by omega) (by omega)) ⟨vi, br_c (fun h => ⟨vi, br_c (fun h0 => nm_r (nI_1 i) ?_) (fun h0 => ⟨vi, nm_e (nm_r (nI_1 i) ?_)⟩)⟩) (fun h => ⟨vi, vi, nm_e (nm_r (nI_1 i) ?_)⟩)⟩
    · rw [cl, hi, me_o_ltp hbi (by omega)] at h h0
      refine xe_deleteCells_51 hs he hb H d (i + 1) ms (by omega) (fun m hm => ?_) (fun m hm hm3 => h2 m (by omega) hm3)
      by_cases e1 : m = i
      · subst e1
        rw [hi]
        unfold me_cutm
        cases eq : mks m with
        | none => rfl
        | some j =>
          have := h j eq
          have := h0 j eq
          rw [Option.bind_some, if_neg (by omega), if_neg (by omega)]
      · exact h1 m (by omega)
    · rw [cl, hi, me_o_ltp hbi (by omega)] at h h0
      refine xe_deleteCells_51 hs he hb H d (i + 1) _ (by omega) ?_ (fun m hm hm3 => ?_)
      · rw [cl]
        refine me_lt3 (by omega) h1 ?_
        unfold me_cutm
        cases eq : mks i with
        | none => exact absurd (fun j e => by rw [eq] at e; cases e) h0
        | some j =>
          have := h j eq
          have : ¬ j < s := fun hj => h0 (fun q e => by rw [eq] at e; cases e; exact hj)
          rw [Option.bind_some, if_neg (by omega), if_pos (by omega)]; rfl
      · rw [cl, pk_un (by omega)]; exact h2 m (by omega) hm3
    · rw [cl, hi, me_o_ltp hbi (by omega)] at h
      refine xe_deleteCells_51 hs he hb H d (i + 1) _ (by omega) ?_ (fun m hm hm3 => ?_)
      · rw [cl]
        refine me_lt3 (by omega) h1 ?_
        rw [hi]
        unfold me_cutm
        cases eq : mks i with
        | none => exact absurd (fun j e => by rw [eq] at e; cases e) h
        | some j =>
          have : ¬ j < e := fun hj => h (fun q e => by rw [eq] at e; cases e; exact hj)
          rw [Option.bind_some, if_pos (by omega), me_o_some, me_o_some, pk_sub (by omega)]
      · rw [cl, pk_un (by omega)]; exact h2 m (by omega) hm3
theorem xe_deleteCells_7 {s e : Nat} (hs : s ≤ e) (he : e ≤ len) (hl : len ≤ 32) (hb : ∀ m, m < 3 → ∀ j, mks m = some j → j ≤ 32) (hm : ∀ m, m < 3 → a_marks m = me_o (mks m))
    (H : ∀ a' m', (∀ i, i < len - (e - s) → a' i = me_cut t s e i) → (∀ m, m < 3 → m' m = me_o (me_cutm mks s e m)) → post (f_textCap, f_nodeCap, f_levels, nI (len - (e - s)), f_cur, f_nodeCount, f_node, f_reg, f_c1, f_op, f_c2, f_waiting, f_sessionStart, f_copies, f_recReg, f_recLen, f_chKeyLen, f_chTextLen, f_chReg, f_chCount, f_depth, f_keyLevel, f_spanFrom, f_spanTo, f_spanTextEnd, f_spanKind, a', m', a_regKinds, a_regLens, a_regCodes, a_nodeParent, a_nodeRedo, a_nodeLen, a_nodeCur, a_nodeMarks, a_nodeText, a_recCodes, a_chKeys, a_chText, a_frameCodes, a_frameLen, a_framePos, a_frameTimes, a_frameLevel)) :
    ∀ (d j : Nat) (a : Nat → Int32), j + d = len → e ≤ j → (∀ i, i < j - (e - s) → a i = me_cut t s e i) → (∀ i, j ≤ i → i < len → a i = t i) → wX_deleteCells_7 post (nI s) (nI e) (nI (e - s)) f_textCap f_nodeCap f_levels (nI len) f_cur f_nodeCount f_node f_reg f_c1 f_op f_c2 f_waiting f_sessionStart f_copies f_recReg f_recLen f_chKeyLen f_chTextLen f_chReg f_chCount f_depth f_keyLevel f_spanFrom f_spanTo f_spanTextEnd f_spanKind (d + 1) (nI j) a a_marks a_regKinds a_regLens a_regCodes a_nodeParent a_nodeRedo a_nodeLen a_nodeCur a_nodeMarks a_nodeText a_recCodes a_chKeys a_chText a_frameCodes a_frameLen a_framePos a_frameTimes a_frameLevel
  | 0, j, a, hd, hj, h1, h2 => by
    refine br_t (nI_le (by omega) (by omega)) (nm_r (pk_sub (by omega)) ⟨4, ?_⟩)
    exact xe_deleteCells_51 (mks := mks) hs (by omega) hb (fun m' hm' => H a m' (fun i hi => h1 i (by omega)) hm') 3 0 a_marks rfl (fun m hm => by omega) (fun m _ h3 => hm m h3)
  | d + 1, j, a, hd, hj, h1, h2 => by
    refine br_f (nI_ge (by omega) (by omega)) ⟨vp_in_nI (by omega) (by omega), pk_in (j - (e - s)) 32 (by omega) (pk_sub (by omega)), nm_e (nm_r (nI_1 j) ?_)⟩
    rw [pk_cl (j - (e - s)) (pk_sub (by omega)), nI_clamp (n := j) (by omega), h2 j (by omega) (by omega)]
    refine xe_deleteCells_7 hs he hl hb hm H d (j + 1) _ (by omega) (by omega) (fun i hi => ?_) (fun i hi hl => ?_)
    · by_cases e1 : i = j - (e - s)
      · subst e1
        rw [pk_us]
        unfold me_cut
        rw [if_neg (by omega)]
        exact congrArg t (by omega)
      · rw [pk_un e1]; exact h1 i (by omega)
    · by_cases e1 : e - s = 0
      · rw [pk_un (by omega)]; exact h2 i (by omega) hl
      · rw [pk_un (by omega)]; exact h2 i (by omega) hl
theorem xe_deleteCells {s e : Nat} (hs : s ≤ e) (he : e ≤ len) (hl : len ≤ 32) (ht : ∀ i, i < len → a_text i = t i) (hb : ∀ m, m < 3 → ∀ j, mks m = some j → j ≤ 32) (hm : ∀ m, m < 3 → a_marks m = me_o (mks m))
    (H : ∀ a' m', (∀ i, i < len - (e - s) → a' i = me_cut t s e i) → (∀ m, m < 3 → m' m = me_o (me_cutm mks s e m)) → post (f_textCap, f_nodeCap, f_levels, nI (len - (e - s)), f_cur, f_nodeCount, f_node, f_reg, f_c1, f_op, f_c2, f_waiting, f_sessionStart, f_copies, f_recReg, f_recLen, f_chKeyLen, f_chTextLen, f_chReg, f_chCount, f_depth, f_keyLevel, f_spanFrom, f_spanTo, f_spanTextEnd, f_spanKind, a', m', a_regKinds, a_regLens, a_regCodes, a_nodeParent, a_nodeRedo, a_nodeLen, a_nodeCur, a_nodeMarks, a_nodeText, a_recCodes, a_chKeys, a_chText, a_frameCodes, a_frameLen, a_framePos, a_frameTimes, a_frameLevel)) :
    wpX_deleteCells post (f_textCap, f_nodeCap, f_levels, nI len, f_cur, f_nodeCount, f_node, f_reg, f_c1, f_op, f_c2, f_waiting, f_sessionStart, f_copies, f_recReg, f_recLen, f_chKeyLen, f_chTextLen, f_chReg, f_chCount, f_depth, f_keyLevel, f_spanFrom, f_spanTo, f_spanTextEnd, f_spanKind, a_text, a_marks, a_regKinds, a_regLens, a_regCodes, a_nodeParent, a_nodeRedo, a_nodeLen, a_nodeCur, a_nodeMarks, a_nodeText, a_recCodes, a_chKeys, a_chText, a_frameCodes, a_frameLen, a_framePos, a_frameTimes, a_frameLevel) (nI s) (nI e) := by
  refine nm_r (pk_sub hs) ⟨_, xe_deleteCells_7 hs he hl hb hm H (len - e) e a_text (by omega) (by omega) (fun i hi => ?_) (fun i hi hl => ht i hl)⟩
  unfold me_cut
  rw [if_pos (by omega), ht i (by omega)]
end
end
section
/-! the reference's changes of text and marks -/
section
variable {f_cap f_nodeCap f_levels f_len f_cur f_now f_nodeCount f_queued f_c1 f_op f_c2 f_waits f_copies f_recCount f_reg f_begin f_recording f_recReg : Int32} {a_text a_marks a_info a_held a_strips a_size a_kind a_dueKey a_dueLevel : Nat → Int32}
variable {post : SY → Prop} {t : Nat → Int32} {len : Nat} {mks : Nat → Option Nat}
theorem ye_ins_32 {p : Nat} {code : Int32} (hp : p < 32) (hb : ∀ m, m < 3 → ∀ j, mks m = some j → j ≤ 32)
    (H : ∀ m', (∀ m, m < 3 → m' m = me_o (me_shm mks p 1 m)) → post (f_cap, f_nodeCap, f_levels, nI (len + 1), f_cur, f_now, f_nodeCount, f_queued, f_c1, f_op, f_c2, f_waits, f_copies, f_recCount, f_reg, f_begin, f_recording, f_recReg, upd a_text p code, m', a_info, a_held, a_strips, a_size, a_kind, a_dueKey, a_dueLevel)) : ∀ (d i : Nat) (ms : Nat → Int32), i + d = 3 → (∀ m, m < i → ms m = me_o (me_shm mks p 1 m)) → (∀ m, i ≤ m → m < 3 → ms m = me_o (mks m)) → wY_ins_32 post (nI p) code f_cap f_nodeCap f_levels (nI len) f_cur f_now f_nodeCount f_queued f_c1 f_op f_c2 f_waits f_copies f_recCount f_reg f_begin f_recording f_recReg (d + 1) (nI i) a_text ms a_info a_held a_strips a_size a_kind a_dueKey a_dueLevel
  | 0, i, ms, hd, h1, h2 => br_t (nI_le (a := 3) (by omega) (by omega)) ⟨vp_in_nI hp (by omega), nm_r (by rw [nI_clamp (by omega)]) (nm_r (nI_1 len) (H ms (fun m hm => h1 m (by omega))))⟩
  | d + 1, i, ms, hd, h1, h2 => by
    refine br_f (nI_ge (b := 3) (by omega) (by omega)) ⟨vp_in_nI (by omega) (by omega), ?_⟩
    have hi := h2 i (Nat.le_refl _) (by omega)
    have hbi := hb i (by omega)
    have cl := nI_clamp (n := i) (by omega)
    refine br_c (fun h => nm_r (nI_1 i) ?_) (fun h => ⟨vp_in_nI (by omega) (by omega), vp_in_nI (by omega) (by omega), nm_e (nm_r (nI_1 i) ?_)⟩)
    · rw [cl, hi, me_o_ltp hbi (by omega)] at h
      refine ye_ins_32 hp hb H d (i + 1) ms (by omega) (fun m hm => ?_) (fun m hm hm3 => h2 m (by omega) hm3)
      by_cases e : m = i
      · subst e
        rw [hi]
        unfold me_shm
        cases eq : mks m with
        | none => rfl
        | some j => rw [Option.map_some, if_pos (h j eq)]
      · exact h1 m (by omega)
    · rw [cl, hi, me_o_ltp hbi (by omega)] at h
      refine ye_ins_32 hp hb H d (i + 1) _ (by omega) ?_ (fun m hm hm3 => ?_)
      · rw [cl]
        refine me_lt3 (by omega) h1 ?_
        rw [hi]
        unfold me_shm
        cases eq : mks i with
        | none => exact absurd (fun j e => by rw [eq] at e; cases e) h
        | some j =>
          have : ¬ j < p := fun hj => h (fun q e => by rw [eq] at e; cases e; exact hj)
          rw [Option.map_some, if_neg this, me_o_some, me_o_some, nI_1]
      · rw [cl, pk_un (by omega)]; exact h2 m (by omega) hm3
theorem ye_ins_5 {p : Nat} {code : Int32} (hp : p ≤ len) (hl : len + 1 ≤ 32) (hb : ∀ m, m < 3 → ∀ j, mks m = some j → j ≤ 32) (hm : ∀ m, m < 3 → a_marks m = me_o (mks m))
    (H : ∀ a' m', (∀ i, i < len + 1 → a' i = me_gap t p 1 (fun _ => code) i) → (∀ m, m < 3 → m' m = me_o (me_shm mks p 1 m)) → post (f_cap, f_nodeCap, f_levels, nI (len + 1), f_cur, f_now, f_nodeCount, f_queued, f_c1, f_op, f_c2, f_waits, f_copies, f_recCount, f_reg, f_begin, f_recording, f_recReg, a', m', a_info, a_held, a_strips, a_size, a_kind, a_dueKey, a_dueLevel)) :
    ∀ (d : Nat) (a : Nat → Int32), p + d ≤ len → (∀ i, i < p + d → a i = t i) → (∀ i, p + d ≤ i → i < len → a (i + 1) = t i) → wY_ins_5 post (nI p) code f_cap f_nodeCap f_levels (nI len) f_cur f_now f_nodeCount f_queued f_c1 f_op f_c2 f_waits f_copies f_recCount f_reg f_begin f_recording f_recReg (d + 1) (nI (p + d)) a a_marks a_info a_held a_strips a_size a_kind a_dueKey a_dueLevel
  | 0, a, hd, h1, h2 => by
    refine br_t (nI_le (by omega) (by omega)) ⟨4, ?_⟩
    refine ye_ins_32 (mks := mks) (by omega) hb (fun m' hm' => H _ m' (fun i hi => ?_) hm') 3 0 a_marks rfl (fun m hm => by omega) (fun m _ h3 => hm m h3)
    by_cases e : i = p
    · subst e; rw [pk_us]; exact (me_gap_mid (i := 0) (g := fun _ => code) (by omega)).symm
    · rw [pk_un e]
      by_cases e2 : i < p
      · rw [h1 i (by omega), me_gap_lo e2]
      · obtain ⟨q, rfl⟩ : ∃ q, i = q + 1 := ⟨i - 1, by omega⟩
        rw [h2 q (by omega) (by omega), me_gap_hi (by omega)]
  | d + 1, a, hd, h1, h2 => by
    have e1 : nI (p + (d + 1)) - 1 = nI (p + d) := nI_pred (p + d)
    have e2 : nI (p + (d + 1)) + (-1) = nI (p + d) := pk_m1 (p + d)
    refine br_f (nI_ge (by omega) (by omega)) ⟨pk_in (p + d) 32 (by omega) e1, vp_in_nI (by omega) (by omega), nm_e (nm_r e2 ?_)⟩
    rw [pk_cl (p + d) e1, nI_clamp (n := p + (d + 1)) (by omega), h1 (p + d) (by omega)]
    refine ye_ins_5 hp hl hb hm H d _ (by omega) (fun i hi => ?_) (fun i hi hl => ?_)
    · rw [pk_un (by omega)]; exact h1 i (by omega)
    · by_cases e : i = p + d
      · subst e; exact pk_us
      · rw [pk_un (by omega)]; exact h2 i (by omega) hl
theorem ye_ins {p : Nat} {code : Int32} (hp : p ≤ len) (hl : len + 1 ≤ 32) (ht : ∀ i, i < len → a_text i = t i) (hb : ∀ m, m < 3 → ∀ j, mks m = some j → j ≤ 32) (hm : ∀ m, m < 3 → a_marks m = me_o (mks m))
    (H : ∀ a' m', (∀ i, i < len + 1 → a' i = me_gap t p 1 (fun _ => code) i) → (∀ m, m < 3 → m' m = me_o (me_shm mks p 1 m)) → post (f_cap, f_nodeCap, f_levels, nI (len + 1), f_cur, f_now, f_nodeCount, f_queued, f_c1, f_op, f_c2, f_waits, f_copies, f_recCount, f_reg, f_begin, f_recording, f_recReg, a', m', a_info, a_held, a_strips, a_size, a_kind, a_dueKey, a_dueLevel)) :
    wpY_ins post (f_cap, f_nodeCap, f_levels, nI len, f_cur, f_now, f_nodeCount, f_queued, f_c1, f_op, f_c2, f_waits, f_copies, f_recCount, f_reg, f_begin, f_recording, f_recReg, a_text, a_marks, a_info, a_held, a_strips, a_size, a_kind, a_dueKey, a_dueLevel) (nI p) code := by
  have := ye_ins_5 hp hl hb hm H (len - p) a_text (by omega) (fun i hi => ht i (by omega)) (fun i hi hl => by omega)
  rw [show p + (len - p) = len by omega] at this
  exact ⟨_, this⟩
theorem ye_del_42 {s : Nat} (hs : s < 32) (hb : ∀ m, m < 3 → ∀ j, mks m = some j → j ≤ 32)
    (H : ∀ m', (∀ m, m < 3 → m' m = me_o (me_cutm mks s (s + 1) m)) → post (f_cap, f_nodeCap, f_levels, f_len, f_cur, f_now, f_nodeCount, f_queued, f_c1, f_op, f_c2, f_waits, f_copies, f_recCount, f_reg, f_begin, f_recording, f_recReg, a_text, m', a_info, a_held, a_strips, a_size, a_kind, a_dueKey, a_dueLevel)) : ∀ (d i : Nat) (ms : Nat → Int32), i + d = 3 → (∀ m, m < i → ms m = me_o (me_cutm mks s (s + 1) m)) → (∀ m, i ≤ m → m < 3 → ms m = me_o (mks m)) → wY_del_42 post (nI s) f_cap f_nodeCap f_levels f_len f_cur f_now f_nodeCount f_queued f_c1 f_op f_c2 f_waits f_copies f_recCount f_reg f_begin f_recording f_recReg (d + 1) (nI i) a_text ms a_info a_held a_strips a_size a_kind a_dueKey a_dueLevel
  | 0, i, ms, hd, h1, h2 => br_t (nI_le (a := 3) (by omega) (by omega)) (H ms (fun m hm => h1 m (by omega)))
  | d + 1, i, ms, hd, h1, h2 => by
    have hi := h2 i (Nat.le_refl _) (by omega)
    have hbi := hb i (by omega)
    have cl := nI_clamp (n := i) (by omega)
    have vi : vp_in (nI i) 3 := vp_in_nI (by omega) (by omega)
    have heq : me_o (mks i) = nI s ↔ mks i = some s := me_o_inj (a := mks i) (b := some s) (fun n e => by have := hbi n e; omega) (fun n e => by cases e; omega)
    have hle : me_o (mks i) ≤ nI s ↔ ∀ j, mks i = some j → j ≤ s := by
      cases eq : mks i with
      | none =>
        refine ⟨fun _ j e => (by cases e), fun _ => ?_⟩
        rw [Int32.le_iff_toInt_le, nI_toInt (by omega), show (me_o none).toInt = -1 by decide]; omega
      | some j =>
        have := hbi j eq
        rw [me_o_some, nI_leI (by omega) (by omega)]
        exact ⟨fun h q e => by cases e; exact h, fun h => h j rfl⟩
    refine br_f (nI_ge (b := 3) (by omega) (by omega)) ⟨vi, br_c (fun h => ⟨vi, nm_e (nm_r (nI_1 i) ?_)⟩) (fun h => ⟨vi, br_c (fun h0 => nm_r (nI_1 i) ?_) (fun h0 => ⟨vi, vi, nm_e (nm_r (nI_1 i) ?_)⟩)⟩)⟩
    · rw [cl, hi, heq] at h
      refine ye_del_42 hs hb H d (i + 1) _ (by omega) ?_ (fun m hm hm3 => ?_)
      · rw [cl]
        refine me_lt3 (by omega) h1 ?_
        unfold me_cutm
        rw [h, Option.bind_some, if_neg (by omega), if_pos (by omega)]; rfl
      · rw [cl, pk_un (by omega)]; exact h2 m (by omega) hm3
    · rw [cl, hi, heq] at h
      rw [cl, hi, hle] at h0
      refine ye_del_42 hs hb H d (i + 1) ms (by omega) (fun m hm => ?_) (fun m hm hm3 => h2 m (by omega) hm3)
      by_cases e1 : m = i
      · subst e1
        rw [hi]
        unfold me_cutm
        cases eq : mks m with
        | none => rfl
        | some j =>
          have := h0 j eq
          have : j ≠ s := fun q => h (by rw [eq, q])
          rw [Option.bind_some, if_neg (by omega), if_neg (by omega)]
      · exact h1 m (by omega)
    · rw [cl, hi, heq] at h
      rw [cl, hi, hle] at h0
      refine ye_del_42 hs hb H d (i + 1) _ (by omega) ?_ (fun m hm hm3 => ?_)
      · rw [cl]
        refine me_lt3 (by omega) h1 ?_
        rw [hi]
        unfold me_cutm
        cases eq : mks i with
        | none => exact absurd (fun j e => by rw [eq] at e; cases e) h0
        | some j =>
          have : ¬ j ≤ s := fun hj => h0 (fun q e => by rw [eq] at e; cases e; exact hj)
          rw [Option.bind_some, if_pos (by omega), me_o_some, me_o_some, me_sub1 (by omega)]
          exact congrArg nI (by omega)
      · rw [cl, pk_un (by omega)]; exact h2 m (by omega) hm3
theorem ye_del_12 {s : Nat} (hs : s < len + 1) (hl : len + 1 ≤ 32) (hb : ∀ m, m < 3 → ∀ j, mks m = some j → j ≤ 32) (hm : ∀ m, m < 3 → a_marks m = me_o (mks m))
    (H : ∀ a' m', (∀ i, i < len → a' i = me_cut t s (s + 1) i) → (∀ m, m < 3 → m' m = me_o (me_cutm mks s (s + 1) m)) → post (f_cap, f_nodeCap, f_levels, nI len, f_cur, f_now, f_nodeCount, f_queued, f_c1, f_op, f_c2, f_waits, f_copies, f_recCount, f_reg, f_begin, f_recording, f_recReg, a', m', a_info, a_held, a_strips, a_size, a_kind, a_dueKey, a_dueLevel)) :
    ∀ (d j : Nat) (a : Nat → Int32), j + d = len → s ≤ j → (∀ i, i < j → a i = me_cut t s (s + 1) i) → (∀ i, j ≤ i → i < len + 1 → a i = t i) → wY_del_12 post (nI s) f_cap f_nodeCap f_levels (nI len) f_cur f_now f_nodeCount f_queued f_c1 f_op f_c2 f_waits f_copies f_recCount f_reg f_begin f_recording f_recReg (d + 1) (nI j) a a_marks a_info a_held a_strips a_size a_kind a_dueKey a_dueLevel
  | 0, j, a, hd, hj, h1, h2 => by
    refine br_t (nI_le (by omega) (by omega)) ⟨4, ?_⟩
    exact ye_del_42 (mks := mks) (by omega) hb (fun m' hm' => H a m' (fun i hi => h1 i (by omega)) hm') 3 0 a_marks rfl (fun m hm => by omega) (fun m _ h3 => hm m h3)
  | d + 1, j, a, hd, hj, h1, h2 => by
    refine br_f (nI_ge (by omega) (by omega)) ⟨pk_in (j + 1) 32 (by omega) (nI_1 j), vp_in_nI (by omega) (by omega), nm_e (nm_r (nI_1 j) ?_)⟩
    rw [pk_cl (j + 1) (nI_1 j), nI_clamp (n := j) (by omega), h2 (j + 1) (by omega) (by omega)]
    refine ye_del_12 hs hl hb hm H d (j + 1) _ (by omega) (by omega) (fun i hi => ?_) (fun i hi hl => ?_)
    · by_cases e1 : i = j
      · subst e1
        rw [pk_us]
        unfold me_cut
        rw [if_neg (by omega)]
        exact congrArg t (by omega)
      · rw [pk_un e1]; exact h1 i (by omega)
    · rw [pk_un (by omega)]; exact h2 i (by omega) hl
theorem ye_del {s : Nat} (hs : s < len) (hl : len ≤ 32) (ht : ∀ i, i < len → a_text i = t i) (hb : ∀ m, m < 3 → ∀ j, mks m = some j → j ≤ 32) (hm : ∀ m, m < 3 → a_marks m = me_o (mks m))
    (H : ∀ a' m', (∀ i, i < len - 1 → a' i = me_cut t s (s + 1) i) → (∀ m, m < 3 → m' m = me_o (me_cutm mks s (s + 1) m)) → post (f_cap, f_nodeCap, f_levels, nI (len - 1), f_cur, f_now, f_nodeCount, f_queued, f_c1, f_op, f_c2, f_waits, f_copies, f_recCount, f_reg, f_begin, f_recording, f_recReg, a', m', a_info, a_held, a_strips, a_size, a_kind, a_dueKey, a_dueLevel)) :
    wpY_del post (f_cap, f_nodeCap, f_levels, nI len, f_cur, f_now, f_nodeCount, f_queued, f_c1, f_op, f_c2, f_waits, f_copies, f_recCount, f_reg, f_begin, f_recording, f_recReg, a_text, a_marks, a_info, a_held, a_strips, a_size, a_kind, a_dueKey, a_dueLevel) (nI s) := by
  refine nm_r (me_sub1 (by omega)) ⟨_, ye_del_12 (by omega) (by omega) hb hm H (len - 1 - s) s a_text (by omega) (by omega) (fun i hi => ?_) (fun i hi hl => ht i (by omega))⟩
  unfold me_cut
  rw [if_pos hi, ht i (by omega)]
end
end
section
/-! the abstract state, the two relations, the invariant -/
abbrev me_Fr : Type := List Int32 × Nat × Nat × Nat
abbrev me_CC : Type := Nat × Nat × Nat × (Nat → Int32) × Nat × Nat × (Nat → Option Nat) × (Nat → Nat) × (Nat → Nat) × (Nat → Nat → Int32) × Nat × Nat × (Nat → Option Nat) × (Nat → Option Nat) × (Nat → Nat → Int32) × (Nat → Nat) × (Nat → Nat) × (Nat → Nat → Option Nat) × Option Nat × Nat × Int32 × Nat × Int32 × Option Nat × Nat × Option Nat × Option Nat × Nat × List (List Int32 × Nat × Nat × Nat) × Nat × Nat
theorem me_tupC {P : me_CC → Prop} (h : ∀ tcap ncap lvs t len cur mks kd sz st cnt now par rd nt nl nc nm reg k1 op k2 wt ss cp rr cr cc fr kl tk, P (tcap, ncap, lvs, t, len, cur, mks, kd, sz, st, cnt, now, par, rd, nt, nl, nc, nm, reg, k1, op, k2, wt, ss, cp, rr, cr, cc, fr, kl, tk)) (c : me_CC) : P c := h (c.1) (c.2.1) (c.2.2.1) (c.2.2.2.1) (c.2.2.2.2.1) (c.2.2.2.2.2.1) (c.2.2.2.2.2.2.1) (c.2.2.2.2.2.2.2.1) (c.2.2.2.2.2.2.2.2.1) (c.2.2.2.2.2.2.2.2.2.1) (c.2.2.2.2.2.2.2.2.2.2.1) (c.2.2.2.2.2.2.2.2.2.2.2.1) (c.2.2.2.2.2.2.2.2.2.2.2.2.1) (c.2.2.2.2.2.2.2.2.2.2.2.2.2.1) (c.2.2.2.2.2.2.2.2.2.2.2.2.2.2.1) (c.2.2.2.2.2.2.2.2.2.2.2.2.2.2.2.1) (c.2.2.2.2.2.2.2.2.2.2.2.2.2.2.2.2.1) (c.2.2.2.2.2.2.2.2.2.2.2.2.2.2.2.2.2.1) (c.2.2.2.2.2.2.2.2.2.2.2.2.2.2.2.2.2.2.1) (c.2.2.2.2.2.2.2.2.2.2.2.2.2.2.2.2.2.2.2.1) (c.2.2.2.2.2.2.2.2.2.2.2.2.2.2.2.2.2.2.2.2.1) (c.2.2.2.2.2.2.2.2.2.2.2.2.2.2.2.2.2.2.2.2.2.1) (c.2.2.2.2.2.2.2.2.2.2.2.2.2.2.2.2.2.2.2.2.2.2.1) (c.2.2.2.2.2.2.2.2.2.2.2.2.2.2.2.2.2.2.2.2.2.2.2.1) (c.2.2.2.2.2.2.2.2.2.2.2.2.2.2.2.2.2.2.2.2.2.2.2.2.1) (c.2.2.2.2.2.2.2.2.2.2.2.2.2.2.2.2.2.2.2.2.2.2.2.2.2.1) (c.2.2.2.2.2.2.2.2.2.2.2.2.2.2.2.2.2.2.2.2.2.2.2.2.2.2.1) (c.2.2.2.2.2.2.2.2.2.2.2.2.2.2.2.2.2.2.2.2.2.2.2.2.2.2.2.1) (c.2.2.2.2.2.2.2.2.2.2.2.2.2.2.2.2.2.2.2.2.2.2.2.2.2.2.2.2.1) (c.2.2.2.2.2.2.2.2.2.2.2.2.2.2.2.2.2.2.2.2.2.2.2.2.2.2.2.2.2.1) (c.2.2.2.2.2.2.2.2.2.2.2.2.2.2.2.2.2.2.2.2.2.2.2.2.2.2.2.2.2.2)
theorem me_tupX {P : SX → Prop} (h : ∀ f_textCap f_nodeCap f_levels f_len f_cur f_nodeCount f_node f_reg f_c1 f_op f_c2 f_waiting f_sessionStart f_copies f_recReg f_recLen f_chKeyLen f_chTextLen f_chReg f_chCount f_depth f_keyLevel f_spanFrom f_spanTo f_spanTextEnd f_spanKind a_text a_marks a_regKinds a_regLens a_regCodes a_nodeParent a_nodeRedo a_nodeLen a_nodeCur a_nodeMarks a_nodeText a_recCodes a_chKeys a_chText a_frameCodes a_frameLen a_framePos a_frameTimes a_frameLevel, P (f_textCap, f_nodeCap, f_levels, f_len, f_cur, f_nodeCount, f_node, f_reg, f_c1, f_op, f_c2, f_waiting, f_sessionStart, f_copies, f_recReg, f_recLen, f_chKeyLen, f_chTextLen, f_chReg, f_chCount, f_depth, f_keyLevel, f_spanFrom, f_spanTo, f_spanTextEnd, f_spanKind, a_text, a_marks, a_regKinds, a_regLens, a_regCodes, a_nodeParent, a_nodeRedo, a_nodeLen, a_nodeCur, a_nodeMarks, a_nodeText, a_recCodes, a_chKeys, a_chText, a_frameCodes, a_frameLen, a_framePos, a_frameTimes, a_frameLevel)) (u : SX) : P u := h (u.1) (u.2.1) (u.2.2.1) (u.2.2.2.1) (u.2.2.2.2.1) (u.2.2.2.2.2.1) (u.2.2.2.2.2.2.1) (u.2.2.2.2.2.2.2.1) (u.2.2.2.2.2.2.2.2.1) (u.2.2.2.2.2.2.2.2.2.1) (u.2.2.2.2.2.2.2.2.2.2.1) (u.2.2.2.2.2.2.2.2.2.2.2.1) (u.2.2.2.2.2.2.2.2.2.2.2.2.1) (u.2.2.2.2.2.2.2.2.2.2.2.2.2.1) (u.2.2.2.2.2.2.2.2.2.2.2.2.2.2.1) (u.2.2.2.2.2.2.2.2.2.2.2.2.2.2.2.1) (u.2.2.2.2.2.2.2.2.2.2.2.2.2.2.2.2.1) (u.2.2.2.2.2.2.2.2.2.2.2.2.2.2.2.2.2.1) (u.2.2.2.2.2.2.2.2.2.2.2.2.2.2.2.2.2.2.1) (u.2.2.2.2.2.2.2.2.2.2.2.2.2.2.2.2.2.2.2.1) (u.2.2.2.2.2.2.2.2.2.2.2.2.2.2.2.2.2.2.2.2.1) (u.2.2.2.2.2.2.2.2.2.2.2.2.2.2.2.2.2.2.2.2.2.1) (u.2.2.2.2.2.2.2.2.2.2.2.2.2.2.2.2.2.2.2.2.2.2.1) (u.2.2.2.2.2.2.2.2.2.2.2.2.2.2.2.2.2.2.2.2.2.2.2.1) (u.2.2.2.2.2.2.2.2.2.2.2.2.2.2.2.2.2.2.2.2.2.2.2.2.1) (u.2.2.2.2.2.2.2.2.2.2.2.2.2.2.2.2.2.2.2.2.2.2.2.2.2.1) (u.2.2.2.2.2.2.2.2.2.2.2.2.2.2.2.2.2.2.2.2.2.2.2.2.2.2.1) (u.2.2.2.2.2.2.2.2.2.2.2.2.2.2.2.2.2.2.2.2.2.2.2.2.2.2.2.1) (u.2.2.2.2.2.2.2.2.2.2.2.2.2.2.2.2.2.2.2.2.2.2.2.2.2.2.2.2.1) (u.2.2.2.2.2.2.2.2.2.2.2.2.2.2.2.2.2.2.2.2.2.2.2.2.2.2.2.2.2.1) (u.2.2.2.2.2.2.2.2.2.2.2.2.2.2.2.2.2.2.2.2.2.2.2.2.2.2.2.2.2.2.1) (u.2.2.2.2.2.2.2.2.2.2.2.2.2.2.2.2.2.2.2.2.2.2.2.2.2.2.2.2.2.2.2.1) (u.2.2.2.2.2.2.2.2.2.2.2.2.2.2.2.2.2.2.2.2.2.2.2.2.2.2.2.2.2.2.2.2.1) (u.2.2.2.2.2.2.2.2.2.2.2.2.2.2.2.2.2.2.2.2.2.2.2.2.2.2.2.2.2.2.2.2.2.1) (u.2.2.2.2.2.2.2.2.2.2.2.2.2.2.2.2.2.2.2.2.2.2.2.2.2.2.2.2.2.2.2.2.2.2.1) (u.2.2.2.2.2.2.2.2.2.2.2.2.2.2.2.2.2.2.2.2.2.2.2.2.2.2.2.2.2.2.2.2.2.2.2.1) (u.2.2.2.2.2.2.2.2.2.2.2.2.2.2.2.2.2.2.2.2.2.2.2.2.2.2.2.2.2.2.2.2.2.2.2.2.1) (u.2.2.2.2.2.2.2.2.2.2.2.2.2.2.2.2.2.2.2.2.2.2.2.2.2.2.2.2.2.2.2.2.2.2.2.2.2.1) (u.2.2.2.2.2.2.2.2.2.2.2.2.2.2.2.2.2.2.2.2.2.2.2.2.2.2.2.2.2.2.2.2.2.2.2.2.2.2.1) (u.2.2.2.2.2.2.2.2.2.2.2.2.2.2.2.2.2.2.2.2.2.2.2.2.2.2.2.2.2.2.2.2.2.2.2.2.2.2.2.1) (u.2.2.2.2.2.2.2.2.2.2.2.2.2.2.2.2.2.2.2.2.2.2.2.2.2.2.2.2.2.2.2.2.2.2.2.2.2.2.2.2.1) (u.2.2.2.2.2.2.2.2.2.2.2.2.2.2.2.2.2.2.2.2.2.2.2.2.2.2.2.2.2.2.2.2.2.2.2.2.2.2.2.2.2.1) (u.2.2.2.2.2.2.2.2.2.2.2.2.2.2.2.2.2.2.2.2.2.2.2.2.2.2.2.2.2.2.2.2.2.2.2.2.2.2.2.2.2.2.1) (u.2.2.2.2.2.2.2.2.2.2.2.2.2.2.2.2.2.2.2.2.2.2.2.2.2.2.2.2.2.2.2.2.2.2.2.2.2.2.2.2.2.2.2.1) (u.2.2.2.2.2.2.2.2.2.2.2.2.2.2.2.2.2.2.2.2.2.2.2.2.2.2.2.2.2.2.2.2.2.2.2.2.2.2.2.2.2.2.2.2)
theorem me_tupY {P : SY → Prop} (h : ∀ f_cap f_nodeCap f_levels f_len f_cur f_now f_nodeCount f_queued f_c1 f_op f_c2 f_waits f_copies f_recCount f_reg f_begin f_recording f_recReg a_text a_marks a_info a_held a_strips a_size a_kind a_dueKey a_dueLevel, P (f_cap, f_nodeCap, f_levels, f_len, f_cur, f_now, f_nodeCount, f_queued, f_c1, f_op, f_c2, f_waits, f_copies, f_recCount, f_reg, f_begin, f_recording, f_recReg, a_text, a_marks, a_info, a_held, a_strips, a_size, a_kind, a_dueKey, a_dueLevel)) (u : SY) : P u := h (u.1) (u.2.1) (u.2.2.1) (u.2.2.2.1) (u.2.2.2.2.1) (u.2.2.2.2.2.1) (u.2.2.2.2.2.2.1) (u.2.2.2.2.2.2.2.1) (u.2.2.2.2.2.2.2.2.1) (u.2.2.2.2.2.2.2.2.2.1) (u.2.2.2.2.2.2.2.2.2.2.1) (u.2.2.2.2.2.2.2.2.2.2.2.1) (u.2.2.2.2.2.2.2.2.2.2.2.2.1) (u.2.2.2.2.2.2.2.2.2.2.2.2.2.1) (u.2.2.2.2.2.2.2.2.2.2.2.2.2.2.1) (u.2.2.2.2.2.2.2.2.2.2.2.2.2.2.2.1) (u.2.2.2.2.2.2.2.2.2.2.2.2.2.2.2.2.1) (u.2.2.2.2.2.2.2.2.2.2.2.2.2.2.2.2.2.1) (u.2.2.2.2.2.2.2.2.2.2.2.2.2.2.2.2.2.2.1) (u.2.2.2.2.2.2.2.2.2.2.2.2.2.2.2.2.2.2.2.1) (u.2.2.2.2.2.2.2.2.2.2.2.2.2.2.2.2.2.2.2.2.1) (u.2.2.2.2.2.2.2.2.2.2.2.2.2.2.2.2.2.2.2.2.2.1) (u.2.2.2.2.2.2.2.2.2.2.2.2.2.2.2.2.2.2.2.2.2.2.1) (u.2.2.2.2.2.2.2.2.2.2.2.2.2.2.2.2.2.2.2.2.2.2.2.1) (u.2.2.2.2.2.2.2.2.2.2.2.2.2.2.2.2.2.2.2.2.2.2.2.2.1) (u.2.2.2.2.2.2.2.2.2.2.2.2.2.2.2.2.2.2.2.2.2.2.2.2.2.1) (u.2.2.2.2.2.2.2.2.2.2.2.2.2.2.2.2.2.2.2.2.2.2.2.2.2.2)

def me_vk (x : Int32) : Prop := ∃ n : Nat, x = nI n ∧ 1 ≤ n ∧ n ≤ 126
def me_mo (k : Int32) : Prop := k = 104 ∨ k = 108 ∨ k = 119 ∨ k = 98 ∨ k = 48 ∨ k = 36 ∨ k = 106 ∨ k = 107
/-- text and marks (both sides) -/
def me_TX (t : Nat → Int32) (len : Nat) (mks : Nat → Option Nat) (a_text a_marks : Nat → Int32) : Prop :=
  (∀ i, i < len → a_text i = t i) ∧ (∀ m, m < 3 → a_marks m = me_o (mks m))
def me_GX (kd sz : Nat → Nat) (st : Nat → Nat → Int32) (a_regKinds a_regLens a_regCodes a_recCodes a_chKeys a_chText : Nat → Int32) : Prop :=
  (∀ r, r < 4 → a_regKinds r = nI (kd r) ∧ a_regLens r = nI (sz r) ∧ ∀ i, i < sz r → a_regCodes (r * 32 + i) = st r i) ∧ (∀ i, i < sz 4 → a_recCodes i = st 4 i) ∧ (∀ i, i < sz 5 → a_chKeys i = st 5 i) ∧ (∀ i, i < sz 6 → a_chText i = st 6 i)
def me_GY (kd sz : Nat → Nat) (st : Nat → Nat → Int32) (a_strips a_size a_kind : Nat → Int32) : Prop :=
  (∀ r, r < 7 → a_size r = nI (sz r) ∧ ∀ i, i < sz r → a_strips (r * 32 + i) = st r i) ∧ ∀ r, r < 4 → a_kind r = nI (kd r)
def me_N1X (par rd : Nat → Option Nat) (nt : Nat → Nat → Int32) (nl nc : Nat → Nat) (nm : Nat → Nat → Option Nat) (a_nodeParent a_nodeRedo a_nodeLen a_nodeCur a_nodeMarks a_nodeText : Nat → Int32) (k : Nat) : Prop :=
  a_nodeParent k = me_o (par k) ∧ a_nodeRedo k = me_o (rd k) ∧ a_nodeLen k = nI (nl k) ∧ a_nodeCur k = nI (nc k) ∧ (∀ m, m < 3 → a_nodeMarks (k * 3 + m) = me_o (nm k m)) ∧ (∀ i, i < nl k → a_nodeText (k * 32 + i) = nt k i)
def me_NX (cnt : Nat) (par rd : Nat → Option Nat) (nt : Nat → Nat → Int32) (nl nc : Nat → Nat) (nm : Nat → Nat → Option Nat) (a_nodeParent a_nodeRedo a_nodeLen a_nodeCur a_nodeMarks a_nodeText : Nat → Int32) : Prop :=
  ∀ k, k < cnt → me_N1X par rd nt nl nc nm a_nodeParent a_nodeRedo a_nodeLen a_nodeCur a_nodeMarks a_nodeText k
def me_N1Y (par rd : Nat → Option Nat) (nt : Nat → Nat → Int32) (nl nc : Nat → Nat) (nm : Nat → Nat → Option Nat) (a_info a_held : Nat → Int32) (k : Nat) : Prop :=
  a_info (k * 7) = me_o (par k) ∧ a_info (k * 7 + 1) = me_o (rd k) ∧ a_info (k * 7 + 2) = nI (nl k) ∧ a_info (k * 7 + 3) = nI (nc k) ∧ (∀ m, m < 3 → a_info (k * 7 + 4 + m) = me_o (nm k m)) ∧ (∀ i, i < nl k → a_held (k * 32 + i) = nt k i)
def me_NY (cnt : Nat) (par rd : Nat → Option Nat) (nt : Nat → Nat → Int32) (nl nc : Nat → Nat) (nm : Nat → Nat → Option Nat) (a_info a_held : Nat → Int32) : Prop :=
  ∀ k, k < cnt → me_N1Y par rd nt nl nc nm a_info a_held k
def me_FX : List me_Fr → (Nat → Int32) → (Nat → Int32) → (Nat → Int32) → (Nat → Int32) → (Nat → Int32) → Prop
  | [], _, _, _, _, _ => True
  | f :: r, ac, al, ap, am, av => (al r.length = nI f.1.length ∧ ap r.length = nI f.2.1 ∧ am r.length = nI f.2.2.1 ∧ av r.length = nI f.2.2.2 ∧ ∀ i, i < f.1.length → ac (r.length * 40 + i) = f.1.getD i 0) ∧ me_FX r ac al ap am av
/-- the keys that a frame still gives, each with its level as the reference counts it -/
def me_pf (f : me_Fr) : List (Int32 × Nat) := match f.2.2.1 with
  | 0 => []
  | n + 1 => (f.1.drop f.2.1 ++ (List.replicate n f.1).flatten).map (fun x => (x, if f.2.2.2 = 5 then 0 else f.2.2.2))
def me_pend : List me_Fr → List (Int32 × Nat)
  | [] => []
  | f :: r => me_pf f ++ me_pend r
def me_QY (pn : List (Int32 × Nat)) (tk q : Nat) (a_dueKey a_dueLevel : Nat → Int32) : Prop :=
  q ≤ 65 ∧ q ≤ pn.length ∧ (q = pn.length ∨ 65 ≤ q + tk) ∧ ∀ i, i < q → a_dueKey i = (pn.getD i (0, 0)).1 ∧ a_dueLevel i = nI (pn.getD i (0, 0)).2
/-- the component's state u tells c -/
def me_RX (c : me_CC) (u : SX) : Prop := match c with
  | (tcap, ncap, lvs, t, len, cur, mks, kd, sz, st, cnt, now, par, rd, nt, nl, nc, nm, reg, k1, op, k2, wt, ss, cp, rr, cr, cc, fr, kl, tk) => ∃ (f_spanFrom f_spanTo f_spanTextEnd f_spanKind : Int32) (a_text a_marks a_regKinds a_regLens a_regCodes a_nodeParent a_nodeRedo a_nodeLen a_nodeCur a_nodeMarks a_nodeText a_recCodes a_chKeys a_chText a_frameCodes a_frameLen a_framePos a_frameTimes a_frameLevel : Nat → Int32), u = (nI tcap, nI ncap, nI lvs, nI len, nI cur, nI cnt, nI now, me_o reg, nI k1, op, nI k2, wt, me_o ss, nI cp, me_o rr, nI (sz 4), nI (sz 5), nI (sz 6), me_o cr, nI cc, nI fr.length, nI kl, f_spanFrom, f_spanTo, f_spanTextEnd, f_spanKind, a_text, a_marks, a_regKinds, a_regLens, a_regCodes, a_nodeParent, a_nodeRedo, a_nodeLen, a_nodeCur, a_nodeMarks, a_nodeText, a_recCodes, a_chKeys, a_chText, a_frameCodes, a_frameLen, a_framePos, a_frameTimes, a_frameLevel) ∧ me_TX t len mks a_text a_marks ∧ me_GX kd sz st a_regKinds a_regLens a_regCodes a_recCodes a_chKeys a_chText ∧ me_NX cnt par rd nt nl nc nm a_nodeParent a_nodeRedo a_nodeLen a_nodeCur a_nodeMarks a_nodeText ∧ me_FX fr a_frameCodes a_frameLen a_framePos a_frameTimes a_frameLevel
/-- the reference's state v tells c -/
def me_RY (c : me_CC) (v : SY) : Prop := match c with
  | (tcap, ncap, lvs, t, len, cur, mks, kd, sz, st, cnt, now, par, rd, nt, nl, nc, nm, reg, k1, op, k2, wt, ss, cp, rr, cr, cc, fr, kl, tk) => ∃ (q : Nat) (a_text a_marks a_info a_held a_strips a_size a_kind a_dueKey a_dueLevel : Nat → Int32), v = (nI tcap, nI ncap, nI lvs, nI len, nI cur, nI now, nI cnt, nI q, nI k1, op, nI k2, wt, nI cp, nI cc, me_o reg, me_o ss, me_o rr, me_o cr, a_text, a_marks, a_info, a_held, a_strips, a_size, a_kind, a_dueKey, a_dueLevel) ∧ me_TX t len mks a_text a_marks ∧ me_GY kd sz st a_strips a_size a_kind ∧ me_NY cnt par rd nt nl nc nm a_info a_held ∧ me_QY (me_pend fr) tk q a_dueKey a_dueLevel
theorem me_inX {tcap : Nat} {ncap : Nat} {lvs : Nat} {t : Nat → Int32} {len : Nat} {cur : Nat} {mks : Nat → Option Nat} {kd : Nat → Nat} {sz : Nat → Nat} {st : Nat → Nat → Int32} {cnt : Nat} {now : Nat} {par : Nat → Option Nat} {rd : Nat → Option Nat} {nt : Nat → Nat → Int32} {nl : Nat → Nat} {nc : Nat → Nat} {nm : Nat → Nat → Option Nat} {reg : Option Nat} {k1 : Nat} {op : Int32} {k2 : Nat} {wt : Int32} {ss : Option Nat} {cp : Nat} {rr : Option Nat} {cr : Option Nat} {cc : Nat} {fr : List (List Int32 × Nat × Nat × Nat)} {kl : Nat} {tk : Nat} {f_spanFrom f_spanTo f_spanTextEnd f_spanKind : Int32} {a_text a_marks a_regKinds a_regLens a_regCodes a_nodeParent a_nodeRedo a_nodeLen a_nodeCur a_nodeMarks a_nodeText a_recCodes a_chKeys a_chText a_frameCodes a_frameLen a_framePos a_frameTimes a_frameLevel : Nat → Int32} (h1 : me_TX t len mks a_text a_marks) (h2 : me_GX kd sz st a_regKinds a_regLens a_regCodes a_recCodes a_chKeys a_chText) (h3 : me_NX cnt par rd nt nl nc nm a_nodeParent a_nodeRedo a_nodeLen a_nodeCur a_nodeMarks a_nodeText) (h4 : me_FX fr a_frameCodes a_frameLen a_framePos a_frameTimes a_frameLevel) : me_RX (tcap, ncap, lvs, t, len, cur, mks, kd, sz, st, cnt, now, par, rd, nt, nl, nc, nm, reg, k1, op, k2, wt, ss, cp, rr, cr, cc, fr, kl, tk) (nI tcap, nI ncap, nI lvs, nI len, nI cur, nI cnt, nI now, me_o reg, nI k1, op, nI k2, wt, me_o ss, nI cp, me_o rr, nI (sz 4), nI (sz 5), nI (sz 6), me_o cr, nI cc, nI fr.length, nI kl, f_spanFrom, f_spanTo, f_spanTextEnd, f_spanKind, a_text, a_marks, a_regKinds, a_regLens, a_regCodes, a_nodeParent, a_nodeRedo, a_nodeLen, a_nodeCur, a_nodeMarks, a_nodeText, a_recCodes, a_chKeys, a_chText, a_frameCodes, a_frameLen, a_framePos, a_frameTimes, a_frameLevel) := by
  unfold me_RX
  exact ⟨f_spanFrom, f_spanTo, f_spanTextEnd, f_spanKind, a_text, a_marks, a_regKinds, a_regLens, a_regCodes, a_nodeParent, a_nodeRedo, a_nodeLen, a_nodeCur, a_nodeMarks, a_nodeText, a_recCodes, a_chKeys, a_chText, a_frameCodes, a_frameLen, a_framePos, a_frameTimes, a_frameLevel, rfl, h1, h2, h3, h4⟩
theorem me_elX {tcap : Nat} {ncap : Nat} {lvs : Nat} {t : Nat → Int32} {len : Nat} {cur : Nat} {mks : Nat → Option Nat} {kd : Nat → Nat} {sz : Nat → Nat} {st : Nat → Nat → Int32} {cnt : Nat} {now : Nat} {par : Nat → Option Nat} {rd : Nat → Option Nat} {nt : Nat → Nat → Int32} {nl : Nat → Nat} {nc : Nat → Nat} {nm : Nat → Nat → Option Nat} {reg : Option Nat} {k1 : Nat} {op : Int32} {k2 : Nat} {wt : Int32} {ss : Option Nat} {cp : Nat} {rr : Option Nat} {cr : Option Nat} {cc : Nat} {fr : List (List Int32 × Nat × Nat × Nat)} {kl : Nat} {tk : Nat} {P : SX → Prop} {u : SX} (R : me_RX (tcap, ncap, lvs, t, len, cur, mks, kd, sz, st, cnt, now, par, rd, nt, nl, nc, nm, reg, k1, op, k2, wt, ss, cp, rr, cr, cc, fr, kl, tk) u) (h : ∀ (f_spanFrom f_spanTo f_spanTextEnd f_spanKind : Int32) (a_text a_marks a_regKinds a_regLens a_regCodes a_nodeParent a_nodeRedo a_nodeLen a_nodeCur a_nodeMarks a_nodeText a_recCodes a_chKeys a_chText a_frameCodes a_frameLen a_framePos a_frameTimes a_frameLevel : Nat → Int32), me_TX t len mks a_text a_marks → me_GX kd sz st a_regKinds a_regLens a_regCodes a_recCodes a_chKeys a_chText → me_NX cnt par rd nt nl nc nm a_nodeParent a_nodeRedo a_nodeLen a_nodeCur a_nodeMarks a_nodeText → me_FX fr a_frameCodes a_frameLen a_framePos a_frameTimes a_frameLevel → P (nI tcap, nI ncap, nI lvs, nI len, nI cur, nI cnt, nI now, me_o reg, nI k1, op, nI k2, wt, me_o ss, nI cp, me_o rr, nI (sz 4), nI (sz 5), nI (sz 6), me_o cr, nI cc, nI fr.length, nI kl, f_spanFrom, f_spanTo, f_spanTextEnd, f_spanKind, a_text, a_marks, a_regKinds, a_regLens, a_regCodes, a_nodeParent, a_nodeRedo, a_nodeLen, a_nodeCur, a_nodeMarks, a_nodeText, a_recCodes, a_chKeys, a_chText, a_frameCodes, a_frameLen, a_framePos, a_frameTimes, a_frameLevel)) : P u := by
  obtain ⟨f_spanFrom, f_spanTo, f_spanTextEnd, f_spanKind, a_text, a_marks, a_regKinds, a_regLens, a_regCodes, a_nodeParent, a_nodeRedo, a_nodeLen, a_nodeCur, a_nodeMarks, a_nodeText, a_recCodes, a_chKeys, a_chText, a_frameCodes, a_frameLen, a_framePos, a_frameTimes, a_frameLevel, rfl, h1, h2, h3, h4⟩ := R
  exact h _ _ _ _ a_text a_marks a_regKinds a_regLens a_regCodes a_nodeParent a_nodeRedo a_nodeLen a_nodeCur a_nodeMarks a_nodeText a_recCodes a_chKeys a_chText a_frameCodes a_frameLen a_framePos a_frameTimes a_frameLevel h1 h2 h3 h4
theorem me_inY {tcap : Nat} {ncap : Nat} {lvs : Nat} {t : Nat → Int32} {len : Nat} {cur : Nat} {mks : Nat → Option Nat} {kd : Nat → Nat} {sz : Nat → Nat} {st : Nat → Nat → Int32} {cnt : Nat} {now : Nat} {par : Nat → Option Nat} {rd : Nat → Option Nat} {nt : Nat → Nat → Int32} {nl : Nat → Nat} {nc : Nat → Nat} {nm : Nat → Nat → Option Nat} {reg : Option Nat} {k1 : Nat} {op : Int32} {k2 : Nat} {wt : Int32} {ss : Option Nat} {cp : Nat} {rr : Option Nat} {cr : Option Nat} {cc : Nat} {fr : List (List Int32 × Nat × Nat × Nat)} {kl : Nat} {tk : Nat} {q : Nat} {a_text a_marks a_info a_held a_strips a_size a_kind a_dueKey a_dueLevel : Nat → Int32} (h1 : me_TX t len mks a_text a_marks) (h2 : me_GY kd sz st a_strips a_size a_kind) (h3 : me_NY cnt par rd nt nl nc nm a_info a_held) (h4 : me_QY (me_pend fr) tk q a_dueKey a_dueLevel) : me_RY (tcap, ncap, lvs, t, len, cur, mks, kd, sz, st, cnt, now, par, rd, nt, nl, nc, nm, reg, k1, op, k2, wt, ss, cp, rr, cr, cc, fr, kl, tk) (nI tcap, nI ncap, nI lvs, nI len, nI cur, nI now, nI cnt, nI q, nI k1, op, nI k2, wt, nI cp, nI cc, me_o reg, me_o ss, me_o rr, me_o cr, a_text, a_marks, a_info, a_held, a_strips, a_size, a_kind, a_dueKey, a_dueLevel) := by
  unfold me_RY
  exact ⟨q, a_text, a_marks, a_info, a_held, a_strips, a_size, a_kind, a_dueKey, a_dueLevel, rfl, h1, h2, h3, h4⟩
theorem me_elY {tcap : Nat} {ncap : Nat} {lvs : Nat} {t : Nat → Int32} {len : Nat} {cur : Nat} {mks : Nat → Option Nat} {kd : Nat → Nat} {sz : Nat → Nat} {st : Nat → Nat → Int32} {cnt : Nat} {now : Nat} {par : Nat → Option Nat} {rd : Nat → Option Nat} {nt : Nat → Nat → Int32} {nl : Nat → Nat} {nc : Nat → Nat} {nm : Nat → Nat → Option Nat} {reg : Option Nat} {k1 : Nat} {op : Int32} {k2 : Nat} {wt : Int32} {ss : Option Nat} {cp : Nat} {rr : Option Nat} {cr : Option Nat} {cc : Nat} {fr : List (List Int32 × Nat × Nat × Nat)} {kl : Nat} {tk : Nat} {P : SY → Prop} {u : SY} (R : me_RY (tcap, ncap, lvs, t, len, cur, mks, kd, sz, st, cnt, now, par, rd, nt, nl, nc, nm, reg, k1, op, k2, wt, ss, cp, rr, cr, cc, fr, kl, tk) u) (h : ∀ (q : Nat) (a_text a_marks a_info a_held a_strips a_size a_kind a_dueKey a_dueLevel : Nat → Int32), me_TX t len mks a_text a_marks → me_GY kd sz st a_strips a_size a_kind → me_NY cnt par rd nt nl nc nm a_info a_held → me_QY (me_pend fr) tk q a_dueKey a_dueLevel → P (nI tcap, nI ncap, nI lvs, nI len, nI cur, nI now, nI cnt, nI q, nI k1, op, nI k2, wt, nI cp, nI cc, me_o reg, me_o ss, me_o rr, me_o cr, a_text, a_marks, a_info, a_held, a_strips, a_size, a_kind, a_dueKey, a_dueLevel)) : P u := by
  obtain ⟨q, a_text, a_marks, a_info, a_held, a_strips, a_size, a_kind, a_dueKey, a_dueLevel, rfl, h1, h2, h3, h4⟩ := R
  exact h _ a_text a_marks a_info a_held a_strips a_size a_kind a_dueKey a_dueLevel h1 h2 h3 h4
theorem me_inX' {tcap : Nat} {ncap : Nat} {lvs : Nat} {t : Nat → Int32} {len : Nat} {cur : Nat} {mks : Nat → Option Nat} {kd : Nat → Nat} {sz : Nat → Nat} {st : Nat → Nat → Int32} {cnt : Nat} {now : Nat} {par : Nat → Option Nat} {rd : Nat → Option Nat} {nt : Nat → Nat → Int32} {nl : Nat → Nat} {nc : Nat → Nat} {nm : Nat → Nat → Option Nat} {reg : Option Nat} {k1 : Nat} {op : Int32} {k2 : Nat} {wt : Int32} {ss : Option Nat} {cp : Nat} {rr : Option Nat} {cr : Option Nat} {cc : Nat} {fr : List (List Int32 × Nat × Nat × Nat)} {kl : Nat} {tk : Nat} {f_spanFrom f_spanTo f_spanTextEnd f_spanKind x4 x5 x6 : Int32} {a_text a_marks a_regKinds a_regLens a_regCodes a_nodeParent a_nodeRedo a_nodeLen a_nodeCur a_nodeMarks a_nodeText a_recCodes a_chKeys a_chText a_frameCodes a_frameLen a_framePos a_frameTimes a_frameLevel : Nat → Int32} (e4 : x4 = nI (sz 4)) (e5 : x5 = nI (sz 5)) (e6 : x6 = nI (sz 6)) (h1 : me_TX t len mks a_text a_marks) (h2 : me_GX kd sz st a_regKinds a_regLens a_regCodes a_recCodes a_chKeys a_chText) (h3 : me_NX cnt par rd nt nl nc nm a_nodeParent a_nodeRedo a_nodeLen a_nodeCur a_nodeMarks a_nodeText) (h4 : me_FX fr a_frameCodes a_frameLen a_framePos a_frameTimes a_frameLevel) : me_RX (tcap, ncap, lvs, t, len, cur, mks, kd, sz, st, cnt, now, par, rd, nt, nl, nc, nm, reg, k1, op, k2, wt, ss, cp, rr, cr, cc, fr, kl, tk) (nI tcap, nI ncap, nI lvs, nI len, nI cur, nI cnt, nI now, me_o reg, nI k1, op, nI k2, wt, me_o ss, nI cp, me_o rr, x4, x5, x6, me_o cr, nI cc, nI fr.length, nI kl, f_spanFrom, f_spanTo, f_spanTextEnd, f_spanKind, a_text, a_marks, a_regKinds, a_regLens, a_regCodes, a_nodeParent, a_nodeRedo, a_nodeLen, a_nodeCur, a_nodeMarks, a_nodeText, a_recCodes, a_chKeys, a_chText, a_frameCodes, a_frameLen, a_framePos, a_frameTimes, a_frameLevel) := by
  subst e4 e5 e6
  exact me_inX h1 h2 h3 h4
theorem me_allX {P Q : SX → Prop} (h : ∀ f_textCap f_nodeCap f_levels f_len f_cur f_nodeCount f_node f_reg f_c1 f_op f_c2 f_waiting f_sessionStart f_copies f_recReg f_recLen f_chKeyLen f_chTextLen f_chReg f_chCount f_depth f_keyLevel f_spanFrom f_spanTo f_spanTextEnd f_spanKind a_text a_marks a_regKinds a_regLens a_regCodes a_nodeParent a_nodeRedo a_nodeLen a_nodeCur a_nodeMarks a_nodeText a_recCodes a_chKeys a_chText a_frameCodes a_frameLen a_framePos a_frameTimes a_frameLevel, Q (f_textCap, f_nodeCap, f_levels, f_len, f_cur, f_nodeCount, f_node, f_reg, f_c1, f_op, f_c2, f_waiting, f_sessionStart, f_copies, f_recReg, f_recLen, f_chKeyLen, f_chTextLen, f_chReg, f_chCount, f_depth, f_keyLevel, f_spanFrom, f_spanTo, f_spanTextEnd, f_spanKind, a_text, a_marks, a_regKinds, a_regLens, a_regCodes, a_nodeParent, a_nodeRedo, a_nodeLen, a_nodeCur, a_nodeMarks, a_nodeText, a_recCodes, a_chKeys, a_chText, a_frameCodes, a_frameLen, a_framePos, a_frameTimes, a_frameLevel) → P (f_textCap, f_nodeCap, f_levels, f_len, f_cur, f_nodeCount, f_node, f_reg, f_c1, f_op, f_c2, f_waiting, f_sessionStart, f_copies, f_recReg, f_recLen, f_chKeyLen, f_chTextLen, f_chReg, f_chCount, f_depth, f_keyLevel, f_spanFrom, f_spanTo, f_spanTextEnd, f_spanKind, a_text, a_marks, a_regKinds, a_regLens, a_regCodes, a_nodeParent, a_nodeRedo, a_nodeLen, a_nodeCur, a_nodeMarks, a_nodeText, a_recCodes, a_chKeys, a_chText, a_frameCodes, a_frameLen, a_framePos, a_frameTimes, a_frameLevel)) (u : SX) : Q u → P u := me_tupX (P := fun u => Q u → P u) h u
theorem me_allY {P Q : SY → Prop} (h : ∀ f_cap f_nodeCap f_levels f_len f_cur f_now f_nodeCount f_queued f_c1 f_op f_c2 f_waits f_copies f_recCount f_reg f_begin f_recording f_recReg a_text a_marks a_info a_held a_strips a_size a_kind a_dueKey a_dueLevel, Q (f_cap, f_nodeCap, f_levels, f_len, f_cur, f_now, f_nodeCount, f_queued, f_c1, f_op, f_c2, f_waits, f_copies, f_recCount, f_reg, f_begin, f_recording, f_recReg, a_text, a_marks, a_info, a_held, a_strips, a_size, a_kind, a_dueKey, a_dueLevel) → P (f_cap, f_nodeCap, f_levels, f_len, f_cur, f_now, f_nodeCount, f_queued, f_c1, f_op, f_c2, f_waits, f_copies, f_recCount, f_reg, f_begin, f_recording, f_recReg, a_text, a_marks, a_info, a_held, a_strips, a_size, a_kind, a_dueKey, a_dueLevel)) (u : SY) : Q u → P u := me_tupY (P := fun u => Q u → P u) h u
/-- the change record -/
def me_CH (n : Nat) (s : Nat → Int32) : Prop :=
  n = 0 ∨ (n = 1 ∧ (s 0 = 120 ∨ s 0 = 112 ∨ s 0 = 80 ∨ s 0 = 105 ∨ s 0 = 97 ∨ s 0 = 111)) ∨ (n = 2 ∧ (s 0 = 100 ∨ s 0 = 99) ∧ (me_mo (s 1) ∨ s 1 = s 0)) ∨ (n = 3 ∧ (s 0 = 100 ∨ s 0 = 99) ∧ (s 1 = 102 ∨ s 1 = 96 ∨ s 1 = 105) ∧ s 2 ≠ 27)
def me_IA (tcap ncap lvs : Nat) : Prop := 8 ≤ tcap ∧ tcap ≤ 32 ∧ 2 ≤ ncap ∧ ncap ≤ 8 ∧ 1 ≤ lvs ∧ lvs ≤ 4
def me_IT (tcap : Nat) (t : Nat → Int32) (len cur : Nat) (mks : Nat → Option Nat) : Prop :=
  len ≤ tcap ∧ cur ≤ len ∧ (∀ i, i < len → me_vk (t i)) ∧ (∀ m, m < 3 → ∀ j, mks m = some j → j ≤ len)
def me_IG (kd sz : Nat → Nat) (st : Nat → Nat → Int32) : Prop :=
  (∀ r, r < 4 → kd r ≤ 2 ∧ (kd r = 1 → 0 < sz r)) ∧ (∀ r, r < 7 → sz r ≤ 32 ∧ ∀ i, i < sz r → me_vk (st r i)) ∧ (∀ i, i < sz 6 → st 6 i ≠ 27) ∧ me_CH (sz 5) (st 5)
def me_IN (tcap ncap cnt now : Nat) (par rd : Nat → Option Nat) (nt : Nat → Nat → Int32) (nl nc : Nat → Nat) (nm : Nat → Nat → Option Nat) : Prop :=
  1 ≤ cnt ∧ cnt ≤ ncap ∧ now < cnt ∧ ∀ k, k < cnt → me_IT tcap (nt k) (nl k) (nc k) (nm k) ∧ (k = 0 → par k = none) ∧ (0 < k → ∃ j, j < k ∧ par k = some j) ∧ (∀ j, rd k = some j → j < cnt)
def me_IK (reg : Option Nat) (k1 : Nat) (op : Int32) (k2 : Nat) (wt : Int32) : Prop :=
  (∀ r, reg = some r → r < 4) ∧ k1 ≤ 32 ∧ k2 ≤ 32 ∧ (op = 0 ∨ op = 99 ∨ op = 100 ∨ op = 121) ∧ (wt = 0 ∨ wt = 34 ∨ wt = 64 ∨ wt = 96 ∨ wt = 102 ∨ wt = 105 ∨ wt = 109 ∨ wt = 113) ∧ (wt = 105 → op ≠ 0)
def me_IS (t : Nat → Int32) (cur : Nat) (ss : Option Nat) (cp : Nat) (rr cr : Option Nat) (cc : Nat) : Prop :=
  (∀ s, ss = some s → s ≤ cur ∧ ∀ i, s ≤ i → i < cur → t i ≠ 27) ∧ cp ≤ 32 ∧ (∀ r, rr = some r → r < 4) ∧ (∀ r, cr = some r → r < 4) ∧ cc ≤ 32
def me_IF (fr : List me_Fr) : Prop := ∀ f, f ∈ fr → f.1.length ≤ 40 ∧ f.2.1 < f.1.length ∧ f.2.2.1 ≤ 32 ∧ f.2.2.2 ≤ 5 ∧ ∀ x, x ∈ f.1 → me_vk x
def me_Inv (c : me_CC) : Prop := match c with
  | (tcap, ncap, lvs, t, len, cur, mks, kd, sz, st, cnt, now, par, rd, nt, nl, nc, nm, reg, k1, op, k2, wt, ss, cp, rr, cr, cc, fr, kl, tk) => me_IA tcap ncap lvs ∧ me_IT tcap t len cur mks ∧ me_IG kd sz st ∧ me_IN tcap ncap cnt now par rd nt nl nc nm ∧ me_IK reg k1 op k2 wt ∧ me_IS t cur ss cp rr cr cc ∧ me_IF fr
def me_drop (c : me_CC) : me_CC := match c with
  | (tcap, ncap, lvs, t, len, cur, mks, kd, sz, st, cnt, now, par, rd, nt, nl, nc, nm, reg, k1, op, k2, wt, ss, cp, rr, cr, cc, fr, kl, tk) => (tcap, ncap, lvs, t, len, cur, mks, kd, sz, st, cnt, now, par, rd, nt, nl, nc, nm, none, 0, 0, 0, 0, ss, cp, rr, cr, cc, fr, kl, tk)
theorem me_inv_drop {c : me_CC} (I : me_Inv c) : me_Inv (me_drop c) := by
  revert I
  refine me_tupC (P := fun c => me_Inv c → me_Inv (me_drop c)) ?_ c
  intro tcap ncap lvs t len cur mks kd sz st cnt now par rd nt nl nc nm reg k1 op k2 wt ss cp rr cr cc fr kl tk I
  exact ⟨I.1, I.2.1, I.2.2.1, I.2.2.2.1, ⟨fun r h => (by cases h), by omega, by omega, Or.inl rfl, Or.inl rfl, fun h => absurd h (by decide)⟩, I.2.2.2.2.2⟩
theorem me_vk_n {n : Nat} (h1 : 1 ≤ n) (h2 : n ≤ 126) : me_vk (nI n) := ⟨n, rfl, h1, h2⟩
theorem me_vk_0 {x : Int32} (h : me_vk x) : x ≠ 0 := by
  obtain ⟨n, rfl, h1, h2⟩ := h
  exact nI_ne0 (by omega) (by omega)
end
section
/-! copies into an array, registers -/
def me_cp (dst : Nat → Int32) (b n : Nat) (g : Nat → Int32) : Nat → Int32 := fun j => if b ≤ j ∧ j < b + n then g (j - b) else dst j
theorem me_cp_0 (dst : Nat → Int32) (b : Nat) (g : Nat → Int32) : me_cp dst b 0 g = dst := by
  funext j
  unfold me_cp
  rw [if_neg (by omega)]
theorem me_cp_s (dst : Nat → Int32) (b i : Nat) (g : Nat → Int32) : upd (me_cp dst b i g) (b + i) (g i) = me_cp dst b (i + 1) g := by
  funext j
  simp only [me_cp, upd]
  by_cases h : j = b + i
  · subst h
    rw [if_pos rfl, if_pos (by omega), Nat.add_sub_cancel_left]
  · rw [if_neg h]
    by_cases h2 : b ≤ j ∧ j < b + i
    · rw [if_pos h2, if_pos (by omega)]
    · rw [if_neg h2, if_neg (by omega)]
theorem me_cp_in {dst : Nat → Int32} {b n : Nat} {g : Nat → Int32} {i : Nat} (h : i < n) : me_cp dst b n g (b + i) = g i := by
  unfold me_cp
  rw [if_pos (by omega), Nat.add_sub_cancel_left]
theorem me_cp_out {dst : Nat → Int32} {b n : Nat} {g : Nat → Int32} {j : Nat} (h : j < b ∨ b + n ≤ j) : me_cp dst b n g j = dst j := by
  unfold me_cp
  rw [if_neg (by omega)]
theorem me_uu (f : Nat → Int32) (k : Nat) (x y : Int32) : upd (upd f k x) k y = upd f k y := by
  funext j
  unfold upd
  split <;> rfl
theorem me_GX_fill {kd sz : Nat → Nat} {st : Nat → Nat → Int32} {K L C RC HK HT g g' : Nat → Int32} {r n k : Nat} (h : me_GX kd sz st K L C RC HK HT) (hz : ∀ r, r < 7 → sz r ≤ 32) (hr : r < 4) (hn : n ≤ 32) (hg : ∀ i, i < n → g' i = g i) :
    me_GX (me_set kd r k) (me_set sz r n) (me_set st r g) (upd K r (nI k)) (upd L r (nI n)) (me_cp C (r * 32) n g') RC HK HT := by
  refine ⟨fun q hq => ?_, ?_, ?_, ?_⟩
  · by_cases e : q = r
    · subst e
      rw [pk_us, pk_us, me_set_s, me_set_s, me_set_s]
      exact ⟨rfl, rfl, fun i hi => by rw [me_cp_in hi, hg i hi]⟩
    · rw [pk_un e, pk_un e, me_set_n e, me_set_n e, me_set_n e]
      obtain ⟨a, b, c⟩ := h.1 q hq
      refine ⟨a, b, fun i hi => ?_⟩
      have := hz q (by omega)
      rw [me_cp_out (by omega)]
      exact c i hi
  · rw [me_set_n (by omega), me_set_n (by omega)]; exact h.2.1
  · rw [me_set_n (by omega), me_set_n (by omega)]; exact h.2.2.1
  · rw [me_set_n (by omega), me_set_n (by omega)]; exact h.2.2.2
theorem me_GY_copy {kd sz : Nat → Nat} {st : Nat → Nat → Int32} {S Z K g g' : Nat → Int32} {r n : Nat} (h : me_GY kd sz st S Z K) (hz : ∀ r, r < 7 → sz r ≤ 32) (hr : r < 7) (hn : n ≤ 32) (hg : ∀ i, i < n → g' i = g i) :
    me_GY kd (me_set sz r n) (me_set st r g) (me_cp S (r * 32) n g') (upd Z r (nI n)) K := by
  refine ⟨fun q hq => ?_, h.2⟩
  by_cases e : q = r
  · subst e
    rw [pk_us, me_set_s, me_set_s]
    exact ⟨rfl, fun i hi => by rw [me_cp_in hi, hg i hi]⟩
  · rw [pk_un e, me_set_n e, me_set_n e]
    obtain ⟨a, c⟩ := h.1 q hq
    refine ⟨a, fun i hi => ?_⟩
    have := hz q hq
    rw [me_cp_out (by omega)]
    exact c i hi
theorem me_GY_kind {kd sz : Nat → Nat} {st : Nat → Nat → Int32} {S Z K : Nat → Int32} {r k : Nat} (h : me_GY kd sz st S Z K) :
    me_GY (me_set kd r k) sz st S Z (upd K r (nI k)) := by
  refine ⟨h.1, fun q hq => ?_⟩
  by_cases e : q = r
  · subst e; rw [pk_us, me_set_s]
  · rw [pk_un e, me_set_n e]; exact h.2 q hq
section
variable {f_textCap f_nodeCap f_levels f_len f_cur f_nodeCount f_node f_reg f_c1 f_op f_c2 f_waiting f_sessionStart f_copies f_recReg f_recLen f_chKeyLen f_chTextLen f_chReg f_chCount f_depth f_keyLevel f_spanFrom f_spanTo f_spanTextEnd f_spanKind : Int32} {a_text a_marks a_regKinds a_regLens a_regCodes a_nodeParent a_nodeRedo a_nodeLen a_nodeCur a_nodeMarks a_nodeText a_recCodes a_chKeys a_chText a_frameCodes a_frameLen a_framePos a_frameTimes a_frameLevel : Nat → Int32}
variable {post : SX → Prop}
theorem xe_fillRegister_29 {r s n : Nat} (hr : r < 4) (hn : n ≤ 32) (hs : s + n ≤ 32) (H : post (f_textCap, f_nodeCap, f_levels, f_len, f_cur, f_nodeCount, f_node, f_reg, f_c1, f_op, f_c2, f_waiting, f_sessionStart, f_copies, f_recReg, f_recLen, f_chKeyLen, f_chTextLen, f_chReg, f_chCount, f_depth, f_keyLevel, nI s, f_spanTo, f_spanTextEnd, f_spanKind, a_text, a_marks, a_regKinds, a_regLens, me_cp a_regCodes (r * 32) n (fun i => a_text (s + i)), a_nodeParent, a_nodeRedo, a_nodeLen, a_nodeCur, a_nodeMarks, a_nodeText, a_recCodes, a_chKeys, a_chText, a_frameCodes, a_frameLen, a_framePos, a_frameTimes, a_frameLevel)) :
    ∀ d i : Nat, i + d = n → wX_fillRegister_29 post (nI r) (nI n) f_textCap f_nodeCap f_levels f_len f_cur f_nodeCount f_node f_reg f_c1 f_op f_c2 f_waiting f_sessionStart f_copies f_recReg f_recLen f_chKeyLen f_chTextLen f_chReg f_chCount f_depth f_keyLevel (nI s) f_spanTo f_spanTextEnd f_spanKind (d + 1) (nI i) a_text a_marks a_regKinds a_regLens (me_cp a_regCodes (r * 32) i (fun i => a_text (s + i))) a_nodeParent a_nodeRedo a_nodeLen a_nodeCur a_nodeMarks a_nodeText a_recCodes a_chKeys a_chText a_frameCodes a_frameLen a_framePos a_frameTimes a_frameLevel
  | 0, i, hd => by
    have : i = n := by omega
    subst this
    exact br_t (nI_le (by omega) (by omega)) H
  | d + 1, i, hd => by
    refine br_f (nI_ge (by omega) (by omega)) ⟨pk_in (s + i) 32 (by omega) (nI_add _ _), pk_in (r * 32 + i) 128 (by omega) (me_ix32 _ _), nm_r ?_ (nm_r (nI_1 i) (xe_fillRegister_29 hr hn hs H d (i + 1) (by omega)))⟩
    rw [pk_cl (r * 32 + i) (me_ix32 _ _), pk_cl (s + i) (nI_add _ _)]
    exact me_cp_s _ _ i (fun i => a_text (s + i))
theorem xe_fillRegister {r s e : Nat} (hr : r < 4) (hs : s ≤ e) (he : e ≤ 32)
    (H : post (f_textCap, f_nodeCap, f_levels, f_len, f_cur, f_nodeCount, f_node, f_reg, f_c1, f_op, f_c2, f_waiting, f_sessionStart, f_copies, f_recReg, f_recLen, f_chKeyLen, f_chTextLen, f_chReg, f_chCount, f_depth, f_keyLevel, nI s, f_spanTo, nI e, f_spanKind, a_text, a_marks, upd a_regKinds r f_spanKind, upd a_regLens r (nI (e - s)), me_cp a_regCodes (r * 32) (e - s) (fun i => a_text (s + i)), a_nodeParent, a_nodeRedo, a_nodeLen, a_nodeCur, a_nodeMarks, a_nodeText, a_recCodes, a_chKeys, a_chText, a_frameCodes, a_frameLen, a_framePos, a_frameTimes, a_frameLevel)) :
    wpX_fillRegister post (f_textCap, f_nodeCap, f_levels, f_len, f_cur, f_nodeCount, f_node, f_reg, f_c1, f_op, f_c2, f_waiting, f_sessionStart, f_copies, f_recReg, f_recLen, f_chKeyLen, f_chTextLen, f_chReg, f_chCount, f_depth, f_keyLevel, nI s, f_spanTo, nI e, f_spanKind, a_text, a_marks, a_regKinds, a_regLens, a_regCodes, a_nodeParent, a_nodeRedo, a_nodeLen, a_nodeCur, a_nodeMarks, a_nodeText, a_recCodes, a_chKeys, a_chText, a_frameCodes, a_frameLen, a_framePos, a_frameTimes, a_frameLevel) (nI r) := by
  refine nm_r (pk_sub hs) ⟨vp_in_nI hr (by omega), nm_r (by rw [nI_clamp (by omega)]) ⟨vp_in_nI hr (by omega), nm_r (by rw [nI_clamp (by omega)]) ⟨e - s + 1, ?_⟩⟩⟩
  have := xe_fillRegister_29 (post := post) (f_spanTextEnd := nI e) (a_regKinds := upd a_regKinds r f_spanKind) (a_regLens := upd a_regLens r (nI (e - s))) hr (n := e - s) (by omega) (by omega) H (e - s) 0 (by omega)
  rw [me_cp_0] at this
  exact this
theorem xe_storeNode_65 {k len : Nat} (hk : k < 8) (hl : len ≤ 32) (H : post (f_textCap, f_nodeCap, f_levels, nI len, f_cur, f_nodeCount, f_node, f_reg, f_c1, f_op, f_c2, f_waiting, f_sessionStart, f_copies, f_recReg, f_recLen, f_chKeyLen, f_chTextLen, f_chReg, f_chCount, f_depth, f_keyLevel, f_spanFrom, f_spanTo, f_spanTextEnd, f_spanKind, a_text, a_marks, a_regKinds, a_regLens, a_regCodes, a_nodeParent, a_nodeRedo, a_nodeLen, a_nodeCur, a_nodeMarks, me_cp a_nodeText (k * 32) len a_text, a_recCodes, a_chKeys, a_chText, a_frameCodes, a_frameLen, a_framePos, a_frameTimes, a_frameLevel)) :
    ∀ d i : Nat, i + d = len → wX_storeNode_65 post (nI k) f_textCap f_nodeCap f_levels (nI len) f_cur f_nodeCount f_node f_reg f_c1 f_op f_c2 f_waiting f_sessionStart f_copies f_recReg f_recLen f_chKeyLen f_chTextLen f_chReg f_chCount f_depth f_keyLevel f_spanFrom f_spanTo f_spanTextEnd f_spanKind (d + 1) (nI i) a_text a_marks a_regKinds a_regLens a_regCodes a_nodeParent a_nodeRedo a_nodeLen a_nodeCur a_nodeMarks (me_cp a_nodeText (k * 32) i a_text) a_recCodes a_chKeys a_chText a_frameCodes a_frameLen a_framePos a_frameTimes a_frameLevel
  | 0, i, hd => by
    have : i = len := by omega
    subst this
    exact br_t (nI_le (by omega) (by omega)) H
  | d + 1, i, hd => by
    refine br_f (nI_ge (by omega) (by omega)) ⟨vp_in_nI (by omega) (by omega), pk_in (k * 32 + i) 256 (by omega) (me_ix32 _ _), nm_r ?_ (nm_r (nI_1 i) (xe_storeNode_65 hk hl H d (i + 1) (by omega)))⟩
    rw [pk_cl (k * 32 + i) (me_ix32 _ _), nI_clamp (by omega)]
    exact me_cp_s _ _ i _
theorem xe_storeNode_36 {k len : Nat} (hk : k < 8) (hl : len ≤ 32) (H : post (f_textCap, f_nodeCap, f_levels, nI len, f_cur, f_nodeCount, f_node, f_reg, f_c1, f_op, f_c2, f_waiting, f_sessionStart, f_copies, f_recReg, f_recLen, f_chKeyLen, f_chTextLen, f_chReg, f_chCount, f_depth, f_keyLevel, f_spanFrom, f_spanTo, f_spanTextEnd, f_spanKind, a_text, a_marks, a_regKinds, a_regLens, a_regCodes, a_nodeParent, a_nodeRedo, a_nodeLen, a_nodeCur, me_cp a_nodeMarks (k * 3) 3 a_marks, me_cp a_nodeText (k * 32) len a_text, a_recCodes, a_chKeys, a_chText, a_frameCodes, a_frameLen, a_framePos, a_frameTimes, a_frameLevel)) :
    ∀ d i : Nat, i + d = 3 → wX_storeNode_36 post (nI k) f_textCap f_nodeCap f_levels (nI len) f_cur f_nodeCount f_node f_reg f_c1 f_op f_c2 f_waiting f_sessionStart f_copies f_recReg f_recLen f_chKeyLen f_chTextLen f_chReg f_chCount f_depth f_keyLevel f_spanFrom f_spanTo f_spanTextEnd f_spanKind (d + 1) (nI i) a_text a_marks a_regKinds a_regLens a_regCodes a_nodeParent a_nodeRedo a_nodeLen a_nodeCur (me_cp a_nodeMarks (k * 3) i a_marks) a_nodeText a_recCodes a_chKeys a_chText a_frameCodes a_frameLen a_framePos a_frameTimes a_frameLevel
  | 0, i, hd => by
    have : i = 3 := by omega
    subst this
    refine br_t (by decide) ⟨len + 1, ?_⟩
    have := xe_storeNode_65 hk hl H len 0 (by omega)
    rw [me_cp_0 a_nodeText] at this
    exact this
  | d + 1, i, hd => by
    refine br_f (nI_ge (b := 3) (by omega) (by omega)) ⟨vp_in_nI (by omega) (by omega), pk_in (k * 3 + i) 24 (by omega) (me_ix3 _ _), nm_r ?_ (nm_r (nI_1 i) (xe_storeNode_36 hk hl H d (i + 1) (by omega)))⟩
    rw [pk_cl (k * 3 + i) (me_ix3 _ _), nI_clamp (by omega)]
    exact me_cp_s _ _ i _
theorem xe_storeNode {k len : Nat} {pa : Int32} (hk : k < 8) (hl : len ≤ 32) (H : post (f_textCap, f_nodeCap, f_levels, nI len, f_cur, f_nodeCount, f_node, f_reg, f_c1, f_op, f_c2, f_waiting, f_sessionStart, f_copies, f_recReg, f_recLen, f_chKeyLen, f_chTextLen, f_chReg, f_chCount, f_depth, f_keyLevel, f_spanFrom, f_spanTo, f_spanTextEnd, f_spanKind, a_text, a_marks, a_regKinds, a_regLens, a_regCodes, upd a_nodeParent k pa, upd a_nodeRedo k (-1), upd a_nodeLen k (nI len), upd a_nodeCur k f_cur, me_cp a_nodeMarks (k * 3) 3 a_marks, me_cp a_nodeText (k * 32) len a_text, a_recCodes, a_chKeys, a_chText, a_frameCodes, a_frameLen, a_framePos, a_frameTimes, a_frameLevel)) :
    wpX_storeNode post (f_textCap, f_nodeCap, f_levels, nI len, f_cur, f_nodeCount, f_node, f_reg, f_c1, f_op, f_c2, f_waiting, f_sessionStart, f_copies, f_recReg, f_recLen, f_chKeyLen, f_chTextLen, f_chReg, f_chCount, f_depth, f_keyLevel, f_spanFrom, f_spanTo, f_spanTextEnd, f_spanKind, a_text, a_marks, a_regKinds, a_regLens, a_regCodes, a_nodeParent, a_nodeRedo, a_nodeLen, a_nodeCur, a_nodeMarks, a_nodeText, a_recCodes, a_chKeys, a_chText, a_frameCodes, a_frameLen, a_framePos, a_frameTimes, a_frameLevel) (nI k) pa := by
  have v : vp_in (nI k) 8 := vp_in_nI hk (by omega)
  have c := nI_clamp (n := k) (by omega)
  refine ⟨v, nm_r (by rw [c]) ⟨v, nm_r (by rw [c]) ⟨v, nm_r (by rw [c]) ⟨v, nm_r (by rw [c]) ⟨4, ?_⟩⟩⟩⟩⟩
  have := xe_storeNode_36 hk hl H 3 0 (by omega)
  rw [me_cp_0] at this
  exact this
theorem xe_restore_51 {k len : Nat} (hk : k < 8) (hl : len ≤ 32) (H : post (f_textCap, f_nodeCap, f_levels, nI len, f_cur, f_nodeCount, nI k, f_reg, f_c1, f_op, f_c2, f_waiting, f_sessionStart, f_copies, f_recReg, f_recLen, f_chKeyLen, f_chTextLen, f_chReg, f_chCount, f_depth, f_keyLevel, f_spanFrom, f_spanTo, f_spanTextEnd, f_spanKind, me_cp a_text 0 len (fun i => a_nodeText (k * 32 + i)), a_marks, a_regKinds, a_regLens, a_regCodes, a_nodeParent, a_nodeRedo, a_nodeLen, a_nodeCur, a_nodeMarks, a_nodeText, a_recCodes, a_chKeys, a_chText, a_frameCodes, a_frameLen, a_framePos, a_frameTimes, a_frameLevel)) :
    ∀ d i : Nat, i + d = len → wX_restore_51 post (nI k) f_textCap f_nodeCap f_levels (nI len) f_cur f_nodeCount f_node f_reg f_c1 f_op f_c2 f_waiting f_sessionStart f_copies f_recReg f_recLen f_chKeyLen f_chTextLen f_chReg f_chCount f_depth f_keyLevel f_spanFrom f_spanTo f_spanTextEnd f_spanKind (d + 1) (nI i) (me_cp a_text 0 i (fun i => a_nodeText (k * 32 + i))) a_marks a_regKinds a_regLens a_regCodes a_nodeParent a_nodeRedo a_nodeLen a_nodeCur a_nodeMarks a_nodeText a_recCodes a_chKeys a_chText a_frameCodes a_frameLen a_framePos a_frameTimes a_frameLevel
  | 0, i, hd => by
    have : i = len := by omega
    subst this
    exact br_t (nI_le (by omega) (by omega)) H
  | d + 1, i, hd => by
    refine br_f (nI_ge (by omega) (by omega)) ⟨pk_in (k * 32 + i) 256 (by omega) (me_ix32 _ _), vp_in_nI (by omega) (by omega), nm_r ?_ (nm_r (nI_1 i) (xe_restore_51 hk hl H d (i + 1) (by omega)))⟩
    rw [pk_cl (k * 32 + i) (me_ix32 _ _), nI_clamp (by omega)]
    have := me_cp_s a_text 0 i (fun i => a_nodeText (k * 32 + i))
    rw [Nat.zero_add] at this
    exact this
theorem xe_restore_22 {k len : Nat} (hk : k < 8) (hl : len ≤ 32) (H : post (f_textCap, f_nodeCap, f_levels, nI len, f_cur, f_nodeCount, nI k, f_reg, f_c1, f_op, f_c2, f_waiting, f_sessionStart, f_copies, f_recReg, f_recLen, f_chKeyLen, f_chTextLen, f_chReg, f_chCount, f_depth, f_keyLevel, f_spanFrom, f_spanTo, f_spanTextEnd, f_spanKind, me_cp a_text 0 len (fun i => a_nodeText (k * 32 + i)), me_cp a_marks 0 3 (fun i => a_nodeMarks (k * 3 + i)), a_regKinds, a_regLens, a_regCodes, a_nodeParent, a_nodeRedo, a_nodeLen, a_nodeCur, a_nodeMarks, a_nodeText, a_recCodes, a_chKeys, a_chText, a_frameCodes, a_frameLen, a_framePos, a_frameTimes, a_frameLevel)) :
    ∀ d i : Nat, i + d = 3 → wX_restore_22 post (nI k) f_textCap f_nodeCap f_levels (nI len) f_cur f_nodeCount f_node f_reg f_c1 f_op f_c2 f_waiting f_sessionStart f_copies f_recReg f_recLen f_chKeyLen f_chTextLen f_chReg f_chCount f_depth f_keyLevel f_spanFrom f_spanTo f_spanTextEnd f_spanKind (d + 1) (nI i) a_text (me_cp a_marks 0 i (fun i => a_nodeMarks (k * 3 + i))) a_regKinds a_regLens a_regCodes a_nodeParent a_nodeRedo a_nodeLen a_nodeCur a_nodeMarks a_nodeText a_recCodes a_chKeys a_chText a_frameCodes a_frameLen a_framePos a_frameTimes a_frameLevel
  | 0, i, hd => by
    have : i = 3 := by omega
    subst this
    refine br_t (by decide) ⟨len + 1, ?_⟩
    have := xe_restore_51 (f_node := f_node) hk hl H len 0 (by omega)
    rw [me_cp_0 a_text] at this
    exact this
  | d + 1, i, hd => by
    refine br_f (nI_ge (b := 3) (by omega) (by omega)) ⟨pk_in (k * 3 + i) 24 (by omega) (me_ix3 _ _), vp_in_nI (by omega) (by omega), nm_r ?_ (nm_r (nI_1 i) (xe_restore_22 hk hl H d (i + 1) (by omega)))⟩
    rw [pk_cl (k * 3 + i) (me_ix3 _ _), nI_clamp (by omega)]
    have := me_cp_s a_marks 0 i (fun i => a_nodeMarks (k * 3 + i))
    rw [Nat.zero_add] at this
    exact this
theorem xe_restore {k len cur : Nat} (hk : k < 8) (hl : len ≤ 32) (h1 : a_nodeLen k = nI len) (h2 : a_nodeCur k = nI cur) (H : post (f_textCap, f_nodeCap, f_levels, nI len, nI cur, f_nodeCount, nI k, f_reg, f_c1, f_op, f_c2, f_waiting, f_sessionStart, f_copies, f_recReg, f_recLen, f_chKeyLen, f_chTextLen, f_chReg, f_chCount, f_depth, f_keyLevel, f_spanFrom, f_spanTo, f_spanTextEnd, f_spanKind, me_cp a_text 0 len (fun i => a_nodeText (k * 32 + i)), me_cp a_marks 0 3 (fun i => a_nodeMarks (k * 3 + i)), a_regKinds, a_regLens, a_regCodes, a_nodeParent, a_nodeRedo, a_nodeLen, a_nodeCur, a_nodeMarks, a_nodeText, a_recCodes, a_chKeys, a_chText, a_frameCodes, a_frameLen, a_framePos, a_frameTimes, a_frameLevel)) :
    wpX_restore post (f_textCap, f_nodeCap, f_levels, f_len, f_cur, f_nodeCount, f_node, f_reg, f_c1, f_op, f_c2, f_waiting, f_sessionStart, f_copies, f_recReg, f_recLen, f_chKeyLen, f_chTextLen, f_chReg, f_chCount, f_depth, f_keyLevel, f_spanFrom, f_spanTo, f_spanTextEnd, f_spanKind, a_text, a_marks, a_regKinds, a_regLens, a_regCodes, a_nodeParent, a_nodeRedo, a_nodeLen, a_nodeCur, a_nodeMarks, a_nodeText, a_recCodes, a_chKeys, a_chText, a_frameCodes, a_frameLen, a_framePos, a_frameTimes, a_frameLevel) (nI k) := by
  have v : vp_in (nI k) 8 := vp_in_nI hk (by omega)
  have c := nI_clamp (n := k) (by omega)
  refine ⟨v, nm_r (by rw [c, h1]) ⟨v, nm_r (by rw [c, h2]) ⟨4, ?_⟩⟩⟩
  have := xe_restore_22 (f_node := f_node) hk hl H 3 0 (by omega)
  rw [me_cp_0 a_marks] at this
  exact this
end
section
variable {f_textCap f_nodeCap f_levels f_len f_cur f_nodeCount f_node f_reg f_c1 f_op f_c2 f_waiting f_sessionStart f_copies f_recReg f_recLen f_chKeyLen f_chTextLen f_chReg f_chCount f_depth f_keyLevel f_spanFrom f_spanTo f_spanTextEnd f_spanKind : Int32} {a_text a_marks a_regKinds a_regLens a_regCodes a_nodeParent a_nodeRedo a_nodeLen a_nodeCur a_nodeMarks a_nodeText a_recCodes a_chKeys a_chText a_frameCodes a_frameLen a_framePos a_frameTimes a_frameLevel : Nat → Int32}
variable {post : Int32 → Prop}
theorem xe_isUnchanged_20 {k len : Nat} {t nt : Nat → Int32} (hk : k < 8) (hl : len ≤ 32) (ht : ∀ i, i < len → a_text i = t i) (hn : ∀ i, i < len → a_nodeText (k * 32 + i) = nt i) (H1 : (∀ i, i < len → t i = nt i) → post 1) (H0 : ¬ (∀ i, i < len → t i = nt i) → post 0) :
    ∀ d i : Nat, i + d = len → (∀ j, j < i → t j = nt j) → wX_isUnchanged_20 post f_textCap f_nodeCap f_levels (nI len) f_cur f_nodeCount (nI k) f_reg f_c1 f_op f_c2 f_waiting f_sessionStart f_copies f_recReg f_recLen f_chKeyLen f_chTextLen f_chReg f_chCount f_depth f_keyLevel f_spanFrom f_spanTo f_spanTextEnd f_spanKind a_text a_marks a_regKinds a_regLens a_regCodes a_nodeParent a_nodeRedo a_nodeLen a_nodeCur a_nodeMarks a_nodeText a_recCodes a_chKeys a_chText a_frameCodes a_frameLen a_framePos a_frameTimes a_frameLevel (d + 1) (nI i)
  | 0, i, hd, h => br_t (nI_le (by omega) (by omega)) (H1 (fun j hj => h j (by omega)))
  | d + 1, i, hd, h => by
    refine br_f (nI_ge (by omega) (by omega)) ⟨vp_in_nI (by omega) (by omega), pk_in (k * 32 + i) 256 (by omega) (me_ix32 _ _), ?_⟩
    rw [pk_cl (k * 32 + i) (me_ix32 _ _), nI_clamp (by omega), ht i (by omega), hn i (by omega)]
    refine br_c (fun e => nm_r (nI_1 i) (xe_isUnchanged_20 hk hl ht hn H1 H0 d (i + 1) (by omega) (fun j hj => ?_))) (fun e => H0 (fun q => e (q i (by omega))))
    by_cases q : j = i
    · subst q; exact e
    · exact h j (by omega)
theorem xe_isUnchanged {k len nl : Nat} {t nt : Nat → Int32} (hk : k < 8) (hl : len ≤ 32) (hnl : nl ≤ 32) (h1 : a_nodeLen k = nI nl) (ht : ∀ i, i < len → a_text i = t i) (hn : ∀ i, i < nl → a_nodeText (k * 32 + i) = nt i) (H1 : (len = nl ∧ ∀ i, i < len → t i = nt i) → post 1) (H0 : ¬ (len = nl ∧ ∀ i, i < len → t i = nt i) → post 0) :
    wpX_isUnchanged post (f_textCap, f_nodeCap, f_levels, nI len, f_cur, f_nodeCount, nI k, f_reg, f_c1, f_op, f_c2, f_waiting, f_sessionStart, f_copies, f_recReg, f_recLen, f_chKeyLen, f_chTextLen, f_chReg, f_chCount, f_depth, f_keyLevel, f_spanFrom, f_spanTo, f_spanTextEnd, f_spanKind, a_text, a_marks, a_regKinds, a_regLens, a_regCodes, a_nodeParent, a_nodeRedo, a_nodeLen, a_nodeCur, a_nodeMarks, a_nodeText, a_recCodes, a_chKeys, a_chText, a_frameCodes, a_frameLen, a_framePos, a_frameTimes, a_frameLevel) := by
  refine ⟨vp_in_nI hk (by omega), ?_⟩
  rw [nI_clamp (by omega), h1]
  refine pk_eq len nl (fun e => ?_) (fun e => H0 (fun q => e q.1))
  subst e
  exact ⟨_, xe_isUnchanged_20 hk hl ht hn (fun q => H1 ⟨rfl, q⟩) (fun q => H0 (fun w => q w.2)) len 0 (by omega) (fun j hj => by omega)⟩
end
end
section
/-! the reference's copies, nodes -/
section
variable {f_cap f_nodeCap f_levels f_len f_cur f_now f_nodeCount f_queued f_c1 f_op f_c2 f_waits f_copies f_recCount f_reg f_begin f_recording f_recReg : Int32} {a_text a_marks a_info a_held a_strips a_size a_kind a_dueKey a_dueLevel : Nat → Int32}
variable {post : SY → Prop}
theorem ye_append {r n : Nat} {code : Int32} (hr : r < 7) (hz : a_size r = nI n) (hn : n < 32) (H : post (f_cap, f_nodeCap, f_levels, f_len, f_cur, f_now, f_nodeCount, f_queued, f_c1, f_op, f_c2, f_waits, f_copies, f_recCount, f_reg, f_begin, f_recording, f_recReg, a_text, a_marks, a_info, a_held, upd a_strips (r * 32 + n) code, upd a_size r (nI (n + 1)), a_kind, a_dueKey, a_dueLevel)) :
    wpY_append post (f_cap, f_nodeCap, f_levels, f_len, f_cur, f_now, f_nodeCount, f_queued, f_c1, f_op, f_c2, f_waits, f_copies, f_recCount, f_reg, f_begin, f_recording, f_recReg, a_text, a_marks, a_info, a_held, a_strips, a_size, a_kind, a_dueKey, a_dueLevel) (nI r) code := by
  have v : vp_in (nI r) 7 := vp_in_nI hr (by omega)
  have c := nI_clamp (n := r) (by omega)
  refine ⟨v, ?_⟩
  rw [c, hz]
  refine br_f (nI_ge (b := 32) hn (by omega)) ⟨v, pk_in (r * 32 + n) 224 (by omega) (me_ix32 _ _), nm_r ?_ ⟨v, v, nm_r ?_ H⟩⟩
  · rw [pk_cl (r * 32 + n) (me_ix32 _ _)]
  · rw [nI_1]
theorem ye_append_full {r : Nat} {code : Int32} (hr : r < 7) (hz : a_size r = nI 32) (H : post (f_cap, f_nodeCap, f_levels, f_len, f_cur, f_now, f_nodeCount, f_queued, f_c1, f_op, f_c2, f_waits, f_copies, f_recCount, f_reg, f_begin, f_recording, f_recReg, a_text, a_marks, a_info, a_held, a_strips, a_size, a_kind, a_dueKey, a_dueLevel)) : wpY_append post (f_cap, f_nodeCap, f_levels, f_len, f_cur, f_now, f_nodeCount, f_queued, f_c1, f_op, f_c2, f_waits, f_copies, f_recCount, f_reg, f_begin, f_recording, f_recReg, a_text, a_marks, a_info, a_held, a_strips, a_size, a_kind, a_dueKey, a_dueLevel) (nI r) code := by
  refine ⟨vp_in_nI hr (by omega), br_t ?_ H⟩
  rw [nI_clamp (by omega), hz]; decide
theorem ye_copy_10 {r s n : Nat} (hr : r < 7) (hs : s + n ≤ 32) (H : post (f_cap, f_nodeCap, f_levels, f_len, f_cur, f_now, f_nodeCount, f_queued, f_c1, f_op, f_c2, f_waits, f_copies, f_recCount, f_reg, f_begin, f_recording, f_recReg, a_text, a_marks, a_info, a_held, me_cp a_strips (r * 32) n (fun i => a_text (s + i)), upd a_size r (nI n), a_kind, a_dueKey, a_dueLevel)) :
    ∀ d i : Nat, i + d = n → wY_copy_10 post (nI r) (nI (s + n)) (d + 1) (nI (s + i)) f_cap f_nodeCap f_levels f_len f_cur f_now f_nodeCount f_queued f_c1 f_op f_c2 f_waits f_copies f_recCount f_reg f_begin f_recording f_recReg a_text a_marks a_info a_held (me_cp a_strips (r * 32) i (fun i => a_text (s + i))) (upd a_size r (nI i)) a_kind a_dueKey a_dueLevel
  | 0, i, hd => by
    have : i = n := by omega
    subst this
    exact br_t (nI_le (by omega) (by omega)) H
  | d + 1, i, hd => by
    refine br_f (nI_ge (by omega) (by omega)) ⟨vp_in_nI (by omega) (by omega), ye_append hr pk_us (by omega) (nm_r (nI_1 _) ?_)⟩
    rw [nI_clamp (by omega), me_uu, me_cp_s (g := fun i => a_text (s + i))]
    exact ye_copy_10 hr hs H d (i + 1) (by omega)
theorem ye_copy {r s e : Nat} (hr : r < 7) (hs : s ≤ e) (he : e ≤ 32) (H : post (f_cap, f_nodeCap, f_levels, f_len, f_cur, f_now, f_nodeCount, f_queued, f_c1, f_op, f_c2, f_waits, f_copies, f_recCount, f_reg, f_begin, f_recording, f_recReg, a_text, a_marks, a_info, a_held, me_cp a_strips (r * 32) (e - s) (fun i => a_text (s + i)), upd a_size r (nI (e - s)), a_kind, a_dueKey, a_dueLevel)) :
    wpY_copy post (f_cap, f_nodeCap, f_levels, f_len, f_cur, f_now, f_nodeCount, f_queued, f_c1, f_op, f_c2, f_waits, f_copies, f_recCount, f_reg, f_begin, f_recording, f_recReg, a_text, a_marks, a_info, a_held, a_strips, a_size, a_kind, a_dueKey, a_dueLevel) (nI r) (nI s) (nI e) := by
  refine ⟨vp_in_nI hr (by omega), nm_r (by rw [nI_clamp (by omega)]) ⟨e - s + 1, ?_⟩⟩
  have := ye_copy_10 hr (n := e - s) (by omega) H (e - s) 0 (by omega)
  rw [me_cp_0, show s + (e - s) = e by omega] at this
  exact this
theorem ye_hold_86 {k len : Nat} (hk : k < 8) (hl : len ≤ 32) (H : post (f_cap, f_nodeCap, f_levels, nI len, f_cur, f_now, f_nodeCount, f_queued, f_c1, f_op, f_c2, f_waits, f_copies, f_recCount, f_reg, f_begin, f_recording, f_recReg, a_text, a_marks, a_info, me_cp a_held (k * 32) len a_text, a_strips, a_size, a_kind, a_dueKey, a_dueLevel)) :
    ∀ d i : Nat, i + d = len → wY_hold_86 post (nI k) f_cap f_nodeCap f_levels (nI len) f_cur f_now f_nodeCount f_queued f_c1 f_op f_c2 f_waits f_copies f_recCount f_reg f_begin f_recording f_recReg (d + 1) (nI i) a_text a_marks a_info (me_cp a_held (k * 32) i a_text) a_strips a_size a_kind a_dueKey a_dueLevel
  | 0, i, hd => by
    have : i = len := by omega
    subst this
    exact br_t (nI_le (by omega) (by omega)) H
  | d + 1, i, hd => by
    refine br_f (nI_ge (by omega) (by omega)) ⟨vp_in_nI (by omega) (by omega), pk_in (k * 32 + i) 256 (by omega) (me_ix32 _ _), nm_r ?_ (nm_r (nI_1 i) (ye_hold_86 hk hl H d (i + 1) (by omega)))⟩
    rw [pk_cl (k * 32 + i) (me_ix32 _ _), nI_clamp (by omega)]
    exact me_cp_s _ _ i _
theorem ye_hold_54 {k len : Nat} (hk : k < 8) (hl : len ≤ 32) (H : post (f_cap, f_nodeCap, f_levels, nI len, f_cur, f_now, f_nodeCount, f_queued, f_c1, f_op, f_c2, f_waits, f_copies, f_recCount, f_reg, f_begin, f_recording, f_recReg, a_text, a_marks, me_cp a_info (k * 7 + 4) 3 a_marks, me_cp a_held (k * 32) len a_text, a_strips, a_size, a_kind, a_dueKey, a_dueLevel)) :
    ∀ d i : Nat, i + d = 3 → wY_hold_54 post (nI k) f_cap f_nodeCap f_levels (nI len) f_cur f_now f_nodeCount f_queued f_c1 f_op f_c2 f_waits f_copies f_recCount f_reg f_begin f_recording f_recReg (d + 1) (nI i) a_text a_marks (me_cp a_info (k * 7 + 4) i a_marks) a_held a_strips a_size a_kind a_dueKey a_dueLevel
  | 0, i, hd => by
    have : i = 3 := by omega
    subst this
    refine br_t (by decide) ⟨len + 1, ?_⟩
    have := ye_hold_86 hk hl H len 0 (by omega)
    rw [me_cp_0 a_held] at this
    exact this
  | d + 1, i, hd => by
    refine br_f (nI_ge (b := 3) (by omega) (by omega)) ⟨vp_in_nI (by omega) (by omega), pk_in (k * 7 + 4 + i) 56 (by omega) (me_ix74 _ _), nm_r ?_ (nm_r (nI_1 i) (ye_hold_54 hk hl H d (i + 1) (by omega)))⟩
    rw [pk_cl (k * 7 + 4 + i) (me_ix74 _ _), nI_clamp (by omega)]
    exact me_cp_s _ _ i _
theorem ye_hold {k len : Nat} {pa : Int32} (hk : k < 8) (hl : len ≤ 32) (H : post (f_cap, f_nodeCap, f_levels, nI len, f_cur, f_now, f_nodeCount, f_queued, f_c1, f_op, f_c2, f_waits, f_copies, f_recCount, f_reg, f_begin, f_recording, f_recReg, a_text, a_marks, me_cp (upd (upd (upd (upd a_info (k * 7) pa) (k * 7 + 1) (-1)) (k * 7 + 2) (nI len)) (k * 7 + 3) f_cur) (k * 7 + 4) 3 a_marks, me_cp a_held (k * 32) len a_text, a_strips, a_size, a_kind, a_dueKey, a_dueLevel)) :
    wpY_hold post (f_cap, f_nodeCap, f_levels, nI len, f_cur, f_now, f_nodeCount, f_queued, f_c1, f_op, f_c2, f_waits, f_copies, f_recCount, f_reg, f_begin, f_recording, f_recReg, a_text, a_marks, a_info, a_held, a_strips, a_size, a_kind, a_dueKey, a_dueLevel) (nI k) pa := by
  refine ⟨pk_in (k * 7) 56 (by omega) (me_ix7 _), nm_r (by rw [pk_cl (k * 7) (me_ix7 _)]) ⟨pk_in (k * 7 + 1) 56 (by omega) (me_ix71 _), nm_r (by rw [pk_cl (k * 7 + 1) (me_ix71 _)]) ⟨pk_in (k * 7 + 2) 56 (by omega) (me_ix72 _), nm_r (by rw [pk_cl (k * 7 + 2) (me_ix72 _)]) ⟨pk_in (k * 7 + 3) 56 (by omega) (me_ix73 _), nm_r (by rw [pk_cl (k * 7 + 3) (me_ix73 _)]) ⟨4, ?_⟩⟩⟩⟩⟩
  have := ye_hold_54 hk hl H 3 0 (by omega)
  rw [me_cp_0] at this
  exact this
theorem ye_restore_69 {k len : Nat} (hk : k < 8) (hl : len ≤ 32) (H : post (f_cap, f_nodeCap, f_levels, nI len, f_cur, f_now, f_nodeCount, f_queued, f_c1, f_op, f_c2, f_waits, f_copies, f_recCount, f_reg, f_begin, f_recording, f_recReg, me_cp a_text 0 len (fun i => a_held (k * 32 + i)), a_marks, a_info, a_held, a_strips, a_size, a_kind, a_dueKey, a_dueLevel)) :
    ∀ d i : Nat, i + d = len → wY_restore_69 post (nI k) f_cap f_nodeCap f_levels (nI len) f_cur f_now f_nodeCount f_queued f_c1 f_op f_c2 f_waits f_copies f_recCount f_reg f_begin f_recording f_recReg (d + 1) (nI i) (me_cp a_text 0 i (fun i => a_held (k * 32 + i))) a_marks a_info a_held a_strips a_size a_kind a_dueKey a_dueLevel
  | 0, i, hd => by
    have : i = len := by omega
    subst this
    exact br_t (nI_le (by omega) (by omega)) H
  | d + 1, i, hd => by
    refine br_f (nI_ge (by omega) (by omega)) ⟨pk_in (k * 32 + i) 256 (by omega) (me_ix32 _ _), vp_in_nI (by omega) (by omega), nm_r ?_ (nm_r (nI_1 i) (ye_restore_69 hk hl H d (i + 1) (by omega)))⟩
    rw [pk_cl (k * 32 + i) (me_ix32 _ _), nI_clamp (by omega)]
    have := me_cp_s a_text 0 i (fun i => a_held (k * 32 + i))
    rw [Nat.zero_add] at this
    exact this
theorem ye_restore_37 {k len : Nat} (hk : k < 8) (hl : len ≤ 32) (H : post (f_cap, f_nodeCap, f_levels, nI len, f_cur, f_now, f_nodeCount, f_queued, f_c1, f_op, f_c2, f_waits, f_copies, f_recCount, f_reg, f_begin, f_recording, f_recReg, me_cp a_text 0 len (fun i => a_held (k * 32 + i)), me_cp a_marks 0 3 (fun i => a_info (k * 7 + 4 + i)), a_info, a_held, a_strips, a_size, a_kind, a_dueKey, a_dueLevel)) :
    ∀ d i : Nat, i + d = 3 → wY_restore_37 post (nI k) f_cap f_nodeCap f_levels (nI len) f_cur f_now f_nodeCount f_queued f_c1 f_op f_c2 f_waits f_copies f_recCount f_reg f_begin f_recording f_recReg (d + 1) (nI i) a_text (me_cp a_marks 0 i (fun i => a_info (k * 7 + 4 + i))) a_info a_held a_strips a_size a_kind a_dueKey a_dueLevel
  | 0, i, hd => by
    have : i = 3 := by omega
    subst this
    refine br_t (by decide) ⟨len + 1, ?_⟩
    have := ye_restore_69 hk hl H len 0 (by omega)
    rw [me_cp_0 a_text] at this
    exact this
  | d + 1, i, hd => by
    refine br_f (nI_ge (b := 3) (by omega) (by omega)) ⟨pk_in (k * 7 + 4 + i) 56 (by omega) (me_ix74 _ _), vp_in_nI (by omega) (by omega), nm_r ?_ (nm_r (nI_1 i) (ye_restore_37 hk hl H d (i + 1) (by omega)))⟩
    rw [pk_cl (k * 7 + 4 + i) (me_ix74 _ _), nI_clamp (by omega)]
    have := me_cp_s a_marks 0 i (fun i => a_info (k * 7 + 4 + i))
    rw [Nat.zero_add] at this
    exact this
theorem ye_restore {k len cur : Nat} (hk : k < 8) (hl : len ≤ 32) (h1 : a_info (k * 7 + 2) = nI len) (h2 : a_info (k * 7 + 3) = nI cur) (H : post (f_cap, f_nodeCap, f_levels, nI len, nI cur, nI k, f_nodeCount, f_queued, f_c1, f_op, f_c2, f_waits, f_copies, f_recCount, f_reg, f_begin, f_recording, f_recReg, me_cp a_text 0 len (fun i => a_held (k * 32 + i)), me_cp a_marks 0 3 (fun i => a_info (k * 7 + 4 + i)), a_info, a_held, a_strips, a_size, a_kind, a_dueKey, a_dueLevel)) :
    wpY_restore post (f_cap, f_nodeCap, f_levels, f_len, f_cur, f_now, f_nodeCount, f_queued, f_c1, f_op, f_c2, f_waits, f_copies, f_recCount, f_reg, f_begin, f_recording, f_recReg, a_text, a_marks, a_info, a_held, a_strips, a_size, a_kind, a_dueKey, a_dueLevel) (nI k) := by
  refine ⟨pk_in (k * 7 + 2) 56 (by omega) (me_ix72 _), nm_r (by rw [pk_cl (k * 7 + 2) (me_ix72 _), h1]) ⟨pk_in (k * 7 + 3) 56 (by omega) (me_ix73 _), nm_r (by rw [pk_cl (k * 7 + 3) (me_ix73 _), h2]) ⟨4, ?_⟩⟩⟩
  have := ye_restore_37 hk hl H 3 0 (by omega)
  rw [me_cp_0 a_marks] at this
  exact this
end
end
section
/-! nodes: commit, restore, planting -/
theorem me_N1X_store {par rd : Nat → Option Nat} {nt : Nat → Nat → Int32} {nl nc : Nat → Nat} {nm : Nat → Nat → Option Nat} {P R L C M T a_text a_marks t : Nat → Int32} {mks : Nat → Option Nat} {k q len cur : Nat} {pa : Option Nat}
    (h : q ≠ k → me_N1X par rd nt nl nc nm P R L C M T q ∧ nl q ≤ 32) (hT : me_TX t len mks a_text a_marks) (hl : len ≤ 32) :
    me_N1X (me_set par k pa) (me_set rd k none) (me_set nt k t) (me_set nl k len) (me_set nc k cur) (me_set nm k mks) (upd P k (me_o pa)) (upd R k (-1)) (upd L k (nI len)) (upd C k (nI cur)) (me_cp M (k * 3) 3 a_marks) (me_cp T (k * 32) len a_text) q := by
  unfold me_N1X
  by_cases e : q = k
  · subst e
    simp only [me_set_s, pk_us]
    exact ⟨trivial, rfl, trivial, trivial, fun m hm => by rw [me_cp_in hm]; exact hT.2 m hm, fun i hi => by rw [me_cp_in hi]; exact hT.1 i hi⟩
  · obtain ⟨⟨h1, h2, h3, h4, h5, h6⟩, h7⟩ := h e
    simp only [me_set_n e, pk_un e]
    refine ⟨h1, h2, h3, h4, fun m hm => ?_, fun i hi => ?_⟩
    · rw [me_cp_out (by omega)]; exact h5 m hm
    · rw [me_cp_out (by omega)]; exact h6 i hi
theorem me_N1X_redo {par rd : Nat → Option Nat} {nt : Nat → Nat → Int32} {nl nc : Nat → Nat} {nm : Nat → Nat → Option Nat} {P R L C M T : Nat → Int32} {k q : Nat} {o : Option Nat}
    (h : me_N1X par rd nt nl nc nm P R L C M T q) : me_N1X par (me_set rd k o) nt nl nc nm P (upd R k (me_o o)) L C M T q := by
  obtain ⟨h1, h2, h3, h4, h5, h6⟩ := h
  refine ⟨h1, ?_, h3, h4, h5, h6⟩
  by_cases e : q = k
  · subst e; rw [me_set_s, pk_us]
  · rw [me_set_n e, pk_un e]; exact h2
theorem me_N1Y_store {par rd : Nat → Option Nat} {nt : Nat → Nat → Int32} {nl nc : Nat → Nat} {nm : Nat → Nat → Option Nat} {I T a_text a_marks t : Nat → Int32} {mks : Nat → Option Nat} {k q len cur : Nat} {pa : Option Nat}
    (h : q ≠ k → me_N1Y par rd nt nl nc nm I T q ∧ nl q ≤ 32) (hT : me_TX t len mks a_text a_marks) (hl : len ≤ 32) :
    me_N1Y (me_set par k pa) (me_set rd k none) (me_set nt k t) (me_set nl k len) (me_set nc k cur) (me_set nm k mks) (me_cp (upd (upd (upd (upd I (k * 7) (me_o pa)) (k * 7 + 1) (-1)) (k * 7 + 2) (nI len)) (k * 7 + 3) (nI cur)) (k * 7 + 4) 3 a_marks) (me_cp T (k * 32) len a_text) q := by
  unfold me_N1Y
  by_cases e : q = k
  · subst e
    simp only [me_set_s]
    refine ⟨?_, ?_, ?_, ?_, fun m hm => by rw [me_cp_in hm]; exact hT.2 m hm, fun i hi => by rw [me_cp_in hi]; exact hT.1 i hi⟩
    · rw [me_cp_out (by omega), pk_un (by omega), pk_un (by omega), pk_un (by omega), pk_us]
    · rw [me_cp_out (by omega), pk_un (by omega), pk_un (by omega), pk_us]; rfl
    · rw [me_cp_out (by omega), pk_un (by omega), pk_us]
    · rw [me_cp_out (by omega), pk_us]
  · obtain ⟨⟨h1, h2, h3, h4, h5, h6⟩, h7⟩ := h e
    simp only [me_set_n e]
    have key : ∀ x, x < 7 → me_cp (upd (upd (upd (upd I (k * 7) (me_o pa)) (k * 7 + 1) (-1)) (k * 7 + 2) (nI len)) (k * 7 + 3) (nI cur)) (k * 7 + 4) 3 a_marks (q * 7 + x) = I (q * 7 + x) := by
      intro x hx
      rw [me_cp_out (by omega), pk_un (by omega), pk_un (by omega), pk_un (by omega), pk_un (by omega)]
    refine ⟨?_, ?_, ?_, ?_, fun m hm => ?_, fun i hi => ?_⟩
    · exact (key 0 (by omega)).trans h1
    · exact (key 1 (by omega)).trans h2
    · exact (key 2 (by omega)).trans h3
    · exact (key 3 (by omega)).trans h4
    · rw [Nat.add_assoc, key _ (by omega), ← Nat.add_assoc]; exact h5 m hm
    · rw [me_cp_out (by omega)]; exact h6 i hi
theorem me_N1Y_redo {par rd : Nat → Option Nat} {nt : Nat → Nat → Int32} {nl nc : Nat → Nat} {nm : Nat → Nat → Option Nat} {I T : Nat → Int32} {k q : Nat} {o : Option Nat}
    (h : me_N1Y par rd nt nl nc nm I T q) : me_N1Y par (me_set rd k o) nt nl nc nm (upd I (k * 7 + 1) (me_o o)) T q := by
  obtain ⟨h1, h2, h3, h4, h5, h6⟩ := h
  refine ⟨?_, ?_, ?_, ?_, fun m hm => ?_, h6⟩
  · rw [pk_un (by omega)]; exact h1
  · by_cases e : q = k
    · subst e; rw [me_set_s, pk_us]
    · rw [me_set_n e, pk_un (by omega)]; exact h2
  · rw [pk_un (by omega)]; exact h3
  · rw [pk_un (by omega)]; exact h4
  · rw [pk_un (by omega)]; exact h5 m hm
def me_cm (c : me_CC) : me_CC := match c with
  | (tcap, ncap, lvs, t, len, cur, mks, kd, sz, st, cnt, now, par, rd, nt, nl, nc, nm, reg, k1, op, k2, wt, ss, cp, rr, cr, cc, fr, kl, tk) => if ncap ≤ cnt ∨ (len = nl now ∧ ∀ i, i < len → t i = nt now i) then (tcap, ncap, lvs, t, len, cur, mks, kd, sz, st, cnt, now, par, rd, nt, nl, nc, nm, reg, k1, op, k2, wt, ss, cp, rr, cr, cc, fr, kl, tk) else (tcap, ncap, lvs, t, len, cur, mks, kd, sz, st, cnt + 1, cnt, me_set par cnt (some now), me_set (me_set rd cnt none) now (some cnt), me_set nt cnt t, me_set nl cnt len, me_set nc cnt cur, me_set nm cnt mks, reg, k1, op, k2, wt, ss, cp, rr, cr, cc, fr, kl, tk)
def me_rest (c : me_CC) (k : Nat) : me_CC := match c with
  | (tcap, ncap, lvs, t, len, cur, mks, kd, sz, st, cnt, now, par, rd, nt, nl, nc, nm, reg, k1, op, k2, wt, ss, cp, rr, cr, cc, fr, kl, tk) => (tcap, ncap, lvs, nt k, nl k, nc k, nm k, kd, sz, st, cnt, k, par, rd, nt, nl, nc, nm, reg, k1, op, k2, wt, ss, cp, rr, cr, cc, fr, kl, tk)
def me_plant (c : me_CC) : me_CC := match c with
  | (tcap, ncap, lvs, t, len, cur, mks, kd, sz, st, cnt, now, par, rd, nt, nl, nc, nm, reg, k1, op, k2, wt, ss, cp, rr, cr, cc, fr, kl, tk) => (tcap, ncap, lvs, t, len, cur, mks, kd, sz, st, 1, 0, me_set par 0 none, me_set rd 0 none, me_set nt 0 t, me_set nl 0 len, me_set nc 0 cur, me_set nm 0 mks, reg, k1, op, k2, wt, ss, cp, rr, cr, cc, fr, kl, tk)
section
variable {tcap : Nat} {ncap : Nat} {lvs : Nat} {t : Nat → Int32} {len : Nat} {cur : Nat} {mks : Nat → Option Nat} {kd : Nat → Nat} {sz : Nat → Nat} {st : Nat → Nat → Int32} {cnt : Nat} {now : Nat} {par : Nat → Option Nat} {rd : Nat → Option Nat} {nt : Nat → Nat → Int32} {nl : Nat → Nat} {nc : Nat → Nat} {nm : Nat → Nat → Option Nat} {reg : Option Nat} {k1 : Nat} {op : Int32} {k2 : Nat} {wt : Int32} {ss : Option Nat} {cp : Nat} {rr : Option Nat} {cr : Option Nat} {cc : Nat} {fr : List (List Int32 × Nat × Nat × Nat)} {kl : Nat} {tk : Nat}
theorem me_cm_t (h : ncap ≤ cnt ∨ (len = nl now ∧ ∀ i, i < len → t i = nt now i)) : me_cm (tcap, ncap, lvs, t, len, cur, mks, kd, sz, st, cnt, now, par, rd, nt, nl, nc, nm, reg, k1, op, k2, wt, ss, cp, rr, cr, cc, fr, kl, tk) = (tcap, ncap, lvs, t, len, cur, mks, kd, sz, st, cnt, now, par, rd, nt, nl, nc, nm, reg, k1, op, k2, wt, ss, cp, rr, cr, cc, fr, kl, tk) := if_pos h
theorem me_cm_f (h : ¬ (ncap ≤ cnt ∨ (len = nl now ∧ ∀ i, i < len → t i = nt now i))) : me_cm (tcap, ncap, lvs, t, len, cur, mks, kd, sz, st, cnt, now, par, rd, nt, nl, nc, nm, reg, k1, op, k2, wt, ss, cp, rr, cr, cc, fr, kl, tk) = (tcap, ncap, lvs, t, len, cur, mks, kd, sz, st, cnt + 1, cnt, me_set par cnt (some now), me_set (me_set rd cnt none) now (some cnt), me_set nt cnt t, me_set nl cnt len, me_set nc cnt cur, me_set nm cnt mks, reg, k1, op, k2, wt, ss, cp, rr, cr, cc, fr, kl, tk) := if_neg h
theorem me_inv_cm (I : me_Inv (tcap, ncap, lvs, t, len, cur, mks, kd, sz, st, cnt, now, par, rd, nt, nl, nc, nm, reg, k1, op, k2, wt, ss, cp, rr, cr, cc, fr, kl, tk)) : me_Inv (me_cm (tcap, ncap, lvs, t, len, cur, mks, kd, sz, st, cnt, now, par, rd, nt, nl, nc, nm, reg, k1, op, k2, wt, ss, cp, rr, cr, cc, fr, kl, tk)) := by
  by_cases h : ncap ≤ cnt ∨ (len = nl now ∧ ∀ i, i < len → t i = nt now i)
  · rw [me_cm_t h]; exact I
  · rw [me_cm_f h]
    obtain ⟨hA, hT, hG, ⟨n1, n2, n3, n4⟩, hK, hS, hF⟩ := I
    refine ⟨hA, hT, hG, ⟨by omega, by omega, by omega, fun k hk => ?_⟩, hK, hS, hF⟩
    by_cases e : k = cnt
    · subst e
      simp only [me_set_s]
      refine ⟨hT, fun h0 => by omega, fun _ => ⟨now, n3, rfl⟩, fun j hj => ?_⟩
      rw [me_set_n (by omega), me_set_s] at hj
      cases hj
    · obtain ⟨a1, a2, a3, a4⟩ := n4 k (by omega)
      simp only [me_set_n e]
      refine ⟨a1, a2, a3, fun j hj => ?_⟩
      by_cases e2 : k = now
      · subst e2; rw [me_set_s] at hj; cases hj; omega
      · rw [me_set_n e2, me_set_n e] at hj
        have := a4 j hj
        omega
theorem me_inv_rest {k : Nat} (hk : k < cnt) (hs : ss = none) (I : me_Inv (tcap, ncap, lvs, t, len, cur, mks, kd, sz, st, cnt, now, par, rd, nt, nl, nc, nm, reg, k1, op, k2, wt, ss, cp, rr, cr, cc, fr, kl, tk)) : me_Inv (me_rest (tcap, ncap, lvs, t, len, cur, mks, kd, sz, st, cnt, now, par, rd, nt, nl, nc, nm, reg, k1, op, k2, wt, ss, cp, rr, cr, cc, fr, kl, tk) k) := by
  obtain ⟨hA, hT, hG, ⟨n1, n2, n3, n4⟩, hK, ⟨s1, s2⟩, hF⟩ := I
  exact ⟨hA, (n4 k hk).1, hG, ⟨n1, n2, hk, n4⟩, hK, ⟨fun s h => (by rw [hs] at h; cases h), s2⟩, hF⟩
theorem me_inv_plant (I : me_Inv (tcap, ncap, lvs, t, len, cur, mks, kd, sz, st, cnt, now, par, rd, nt, nl, nc, nm, reg, k1, op, k2, wt, ss, cp, rr, cr, cc, fr, kl, tk)) : me_Inv (me_plant (tcap, ncap, lvs, t, len, cur, mks, kd, sz, st, cnt, now, par, rd, nt, nl, nc, nm, reg, k1, op, k2, wt, ss, cp, rr, cr, cc, fr, kl, tk)) := by
  obtain ⟨hA, hT, hG, ⟨n1, n2, n3, n4⟩, hK, hS, hF⟩ := I
  refine ⟨hA, hT, hG, ⟨by omega, by omega, by omega, fun k hk => ?_⟩, hK, hS, hF⟩
  have e : k = 0 := by omega
  subst e
  simp only [me_set_s]
  exact ⟨hT, fun _ => trivial, fun h => by omega, fun j hj => by cases hj⟩
theorem xe_commit {post : SX → Prop} {u : SX} (I : me_Inv (tcap, ncap, lvs, t, len, cur, mks, kd, sz, st, cnt, now, par, rd, nt, nl, nc, nm, reg, k1, op, k2, wt, ss, cp, rr, cr, cc, fr, kl, tk)) (R : me_RX (tcap, ncap, lvs, t, len, cur, mks, kd, sz, st, cnt, now, par, rd, nt, nl, nc, nm, reg, k1, op, k2, wt, ss, cp, rr, cr, cc, fr, kl, tk) u) (H : ∀ u', me_RX (me_cm (tcap, ncap, lvs, t, len, cur, mks, kd, sz, st, cnt, now, par, rd, nt, nl, nc, nm, reg, k1, op, k2, wt, ss, cp, rr, cr, cc, fr, kl, tk)) u' → post u') : wpX_commit post u := by
  refine me_elX R ?_
  intro f_spanFrom f_spanTo f_spanTextEnd f_spanKind a_text a_marks a_regKinds a_regLens a_regCodes a_nodeParent a_nodeRedo a_nodeLen a_nodeCur a_nodeMarks a_nodeText a_recCodes a_chKeys a_chText a_frameCodes a_frameLen a_framePos a_frameTimes a_frameLevel hT hG hN hF
  obtain ⟨⟨a1, a2, a3, a4, a5, a6⟩, ⟨t1, t2, t3, t4⟩, hIG, ⟨n1, n2, n3, n4⟩, hIK, hIS, hIF⟩ := I
  have nn := hN now n3
  have nb := (n4 now n3).1
  by_cases h1 : ncap ≤ cnt
  · refine br_t (nI_le h1 (by omega)) (H _ ?_)
    rw [me_cm_t (Or.inl h1)]
    exact me_inX hT hG hN hF
  · refine br_f (nI_ge (by omega) (by omega)) (xe_isUnchanged (t := t) (nt := nt now) (nl := nl now) (by omega) (by omega) (by have := nb.1; omega) nn.2.2.1 hT.1 nn.2.2.2.2.2 (fun q => br_f (by decide) (H _ ?_)) (fun q => br_t rfl (xe_storeNode (by omega) (by omega) ⟨vp_in_nI (by omega) (by omega), nm_e (nm_r (nI_1 cnt) (H _ ?_))⟩)))
    · rw [me_cm_t (Or.inr q)]
      exact me_inX hT hG hN hF
    · rw [me_cm_f (fun z => z.elim h1 q), nI_clamp (by omega)]
      refine me_inX hT hG (fun k hk => ?_) hF
      refine me_N1X_redo (o := some cnt) (me_N1X_store (pa := some now) (fun e => ?_) hT (by omega))
      have := (n4 k (by omega)).1.1
      exact ⟨hN k (by omega), by omega⟩
theorem xe_restoreC {post : SX → Prop} {u : SX} {k : Nat} (hk : k < cnt) (I : me_Inv (tcap, ncap, lvs, t, len, cur, mks, kd, sz, st, cnt, now, par, rd, nt, nl, nc, nm, reg, k1, op, k2, wt, ss, cp, rr, cr, cc, fr, kl, tk)) (R : me_RX (tcap, ncap, lvs, t, len, cur, mks, kd, sz, st, cnt, now, par, rd, nt, nl, nc, nm, reg, k1, op, k2, wt, ss, cp, rr, cr, cc, fr, kl, tk) u) (H : ∀ u', me_RX (me_rest (tcap, ncap, lvs, t, len, cur, mks, kd, sz, st, cnt, now, par, rd, nt, nl, nc, nm, reg, k1, op, k2, wt, ss, cp, rr, cr, cc, fr, kl, tk) k) u' → post u') : wpX_restore post u (nI k) := by
  refine me_elX (P := fun u => wpX_restore post u (nI k)) R ?_
  intro f_spanFrom f_spanTo f_spanTextEnd f_spanKind a_text a_marks a_regKinds a_regLens a_regCodes a_nodeParent a_nodeRedo a_nodeLen a_nodeCur a_nodeMarks a_nodeText a_recCodes a_chKeys a_chText a_frameCodes a_frameLen a_framePos a_frameTimes a_frameLevel hT hG hN hF
  obtain ⟨⟨a1, a2, a3, a4, a5, a6⟩, hIT, hIG, ⟨n1, n2, n3, n4⟩, hIK, hIS, hIF⟩ := I
  obtain ⟨h1, h2, h3, h4, h5, h6⟩ := hN k hk
  have nb := (n4 k hk).1.1
  refine xe_restore (by omega) (by omega) h3 h4 (H _ (me_inX ⟨fun i hi => ?_, fun m hm => ?_⟩ hG hN hF))
  · have := me_cp_in (dst := a_text) (b := 0) (g := fun i => a_nodeText (k * 32 + i)) hi
    rw [Nat.zero_add] at this
    rw [this]; exact h6 i hi
  · have := me_cp_in (dst := a_marks) (b := 0) (g := fun i => a_nodeMarks (k * 3 + i)) hm
    rw [Nat.zero_add] at this
    rw [this]; exact h5 m hm
theorem xe_plantC {post : SX → Prop} {u : SX} (hl : len ≤ 32) (R : me_RX (tcap, ncap, lvs, t, len, cur, mks, kd, sz, st, cnt, now, par, rd, nt, nl, nc, nm, reg, k1, op, k2, wt, ss, cp, rr, cr, cc, fr, kl, tk) u) (H : ∀ u', me_RX (me_plant (tcap, ncap, lvs, t, len, cur, mks, kd, sz, st, cnt, now, par, rd, nt, nl, nc, nm, reg, k1, op, k2, wt, ss, cp, rr, cr, cc, fr, kl, tk)) u' → post u') : wpX_plantTree post u := by
  refine me_elX R ?_
  intro f_spanFrom f_spanTo f_spanTextEnd f_spanKind a_text a_marks a_regKinds a_regLens a_regCodes a_nodeParent a_nodeRedo a_nodeLen a_nodeCur a_nodeMarks a_nodeText a_recCodes a_chKeys a_chText a_frameCodes a_frameLen a_framePos a_frameTimes a_frameLevel hT hG hN hF
  refine xe_storeNode (k := 0) (by omega) hl (H _ ?_)
  refine me_inX hT hG (fun k hk => ?_) hF
  exact me_N1X_store (pa := none) (fun e => by omega) hT hl
section
variable {f_cap f_nodeCap f_levels f_len f_cur f_now f_nodeCount f_queued f_c1 f_op f_c2 f_waits f_copies f_recCount f_reg f_begin f_recording f_recReg : Int32} {a_text a_marks a_info a_held a_strips a_size a_kind a_dueKey a_dueLevel : Nat → Int32}
theorem ye_commit_29 {post : SY → Prop} {k ln : Nat} {tt nn : Nat → Int32} {b : Prop} (hk : k < 8) (hl : ln ≤ 32) (ht : ∀ i, i < ln → a_text i = tt i) (hn : b → ∀ i, i < ln → a_held (k * 32 + i) = nn i)
    (H1 : (b ∧ ∀ i, i < ln → tt i = nn i) → post (f_cap, f_nodeCap, f_levels, nI ln, f_cur, nI k, f_nodeCount, f_queued, f_c1, f_op, f_c2, f_waits, f_copies, f_recCount, f_reg, f_begin, f_recording, f_recReg, a_text, a_marks, a_info, a_held, a_strips, a_size, a_kind, a_dueKey, a_dueLevel))
    (H0 : ¬ (b ∧ ∀ i, i < ln → tt i = nn i) → wY_commit_29 post f_cap f_nodeCap f_levels (nI ln) f_cur (nI k) f_nodeCount f_queued f_c1 f_op f_c2 f_waits f_copies f_recCount f_reg f_begin f_recording f_recReg a_text a_marks a_info a_held a_strips a_size a_kind a_dueKey a_dueLevel 1 0 (nI ln)) :
    ∀ (d i : Nat) (z : Int32), i + d = ln → (z = 0 ∨ z = 1) → (z = 0 → ¬ (b ∧ ∀ i, i < ln → tt i = nn i)) → (z = 1 → b ∧ ∀ j, j < i → tt j = nn j) → wY_commit_29 post f_cap f_nodeCap f_levels (nI ln) f_cur (nI k) f_nodeCount f_queued f_c1 f_op f_c2 f_waits f_copies f_recCount f_reg f_begin f_recording f_recReg a_text a_marks a_info a_held a_strips a_size a_kind a_dueKey a_dueLevel (d + 1) z (nI i)
  | 0, i, z, hd, hz, h0, h1 => by
    have : i = ln := by omega
    subst this
    rcases hz with rfl | rfl
    · exact H0 (h0 rfl)
    · exact br_t (nI_le (by omega) (by omega)) (br_f (by decide) (H1 (h1 rfl)))
  | d + 1, i, z, hd, hz, h0, h1 => by
    refine br_f (nI_ge (by omega) (by omega)) ?_
    rcases hz with rfl | rfl
    · exact br_t rfl (nm_r (nI_1 i) (ye_commit_29 hk hl ht hn H1 H0 d (i + 1) 0 (by omega) (Or.inl rfl) h0 (fun e => absurd e (by decide))))
    · have hb := (h1 rfl).1
      refine br_f (by decide) ⟨vp_in_nI (by omega) (by omega), pk_in (k * 32 + i) 256 (by omega) (me_ix32 _ _), ?_⟩
      rw [pk_cl (k * 32 + i) (me_ix32 _ _), nI_clamp (by omega), ht i (by omega), hn hb i (by omega)]
      refine br_c (fun e => nm_r (nI_1 i) (ye_commit_29 hk hl ht hn H1 H0 d (i + 1) 1 (by omega) (Or.inr rfl) (fun e => absurd e (by decide)) (fun _ => ⟨hb, fun j hj => ?_⟩))) (fun e => nm_r (nI_1 i) (ye_commit_29 hk hl ht hn H1 H0 d (i + 1) 0 (by omega) (Or.inl rfl) (fun _ q => e (q.2 i (by omega))) (fun e => absurd e (by decide))))
      by_cases q : j = i
      · subst q; exact e
      · exact (h1 rfl).2 j (by omega)
end
theorem ye_commit {post : SY → Prop} {u : SY} (I : me_Inv (tcap, ncap, lvs, t, len, cur, mks, kd, sz, st, cnt, now, par, rd, nt, nl, nc, nm, reg, k1, op, k2, wt, ss, cp, rr, cr, cc, fr, kl, tk)) (R : me_RY (tcap, ncap, lvs, t, len, cur, mks, kd, sz, st, cnt, now, par, rd, nt, nl, nc, nm, reg, k1, op, k2, wt, ss, cp, rr, cr, cc, fr, kl, tk) u) (H : ∀ u', me_RY (me_cm (tcap, ncap, lvs, t, len, cur, mks, kd, sz, st, cnt, now, par, rd, nt, nl, nc, nm, reg, k1, op, k2, wt, ss, cp, rr, cr, cc, fr, kl, tk)) u' → post u') : wpY_commit post u := by
  refine me_elY R ?_
  intro q a_text a_marks a_info a_held a_strips a_size a_kind a_dueKey a_dueLevel hT hG hN hQ
  obtain ⟨⟨a1, a2, a3, a4, a5, a6⟩, ⟨t1, t2, t3, t4⟩, hIG, ⟨n1, n2, n3, n4⟩, hIK, hIS, hIF⟩ := I
  have nn := hN now n3
  have nb := (n4 now n3).1.1
  refine ⟨pk_in (now * 7 + 2) 56 (by omega) (me_ix72 _), ?_⟩
  rw [pk_cl (now * 7 + 2) (me_ix72 _), nn.2.2.1]
  have w1 : (len = nl now ∧ ∀ i, i < len → t i = nt now i) → post (nI tcap, nI ncap, nI lvs, nI len, nI cur, nI now, nI cnt, nI q, nI k1, op, nI k2, wt, nI cp, nI cc, me_o reg, me_o ss, me_o rr, me_o cr, a_text, a_marks, a_info, a_held, a_strips, a_size, a_kind, a_dueKey, a_dueLevel) := fun z => by
    refine H _ ?_
    rw [me_cm_t (Or.inr z)]
    exact me_inY hT hG hN hQ
  have w0 : ¬ (len = nl now ∧ ∀ i, i < len → t i = nt now i) → wY_commit_29 post (nI tcap) (nI ncap) (nI lvs) (nI len) (nI cur) (nI now) (nI cnt) (nI q) (nI k1) op (nI k2) wt (nI cp) (nI cc) (me_o reg) (me_o ss) (me_o rr) (me_o cr) a_text a_marks a_info a_held a_strips a_size a_kind a_dueKey a_dueLevel 1 0 (nI len) := by
    intro z
    refine br_t (nI_le (by omega) (by omega)) (br_t rfl (pk_lt cnt ncap (fun h => ⟨pk_in (now * 7 + 1) 56 (by omega) (me_ix71 _), nm_r (by rw [pk_cl (now * 7 + 1) (me_ix71 _)]) (ye_hold (by omega) (by omega) (nm_r (nI_1 cnt) (H _ ?_)))⟩) (fun h => H _ ?_)))
    · rw [me_cm_f (fun y => y.elim (by omega) z)]
      have e : me_set (me_set rd cnt none) now (some cnt) = me_set (me_set rd now (some cnt)) cnt none := by
        funext j
        unfold me_set
        by_cases e1 : j = now
        · rw [if_pos e1, if_neg (by omega), if_pos e1]
        · rw [if_neg e1, if_neg e1]
      rw [e]
      refine me_inY hT hG (fun k hk => ?_) hQ
      refine me_N1Y_store (pa := some now) (fun e => ?_) hT (by omega)
      have := (n4 k (by omega)).1.1
      exact ⟨me_N1Y_redo (o := some cnt) (hN k (by omega)), by omega⟩
    · rw [me_cm_t (Or.inl h)]
      exact me_inY hT hG hN hQ
  refine pk_eq len (nl now) (fun e => ⟨len + 1, ?_⟩) (fun e => ⟨len + 1, ?_⟩)
  · exact ye_commit_29 (b := len = nl now) (nn := nt now) (by omega) (by omega) hT.1 (fun b i hi => nn.2.2.2.2.2 i (by omega)) w1 w0 len 0 1 (by omega) (Or.inr rfl) (fun e => absurd e (by decide)) (fun _ => ⟨e, fun j hj => by omega⟩)
  · exact ye_commit_29 (b := len = nl now) (nn := nt now) (by omega) (by omega) hT.1 (fun b i hi => nn.2.2.2.2.2 i (by omega)) w1 w0 len 0 0 (by omega) (Or.inl rfl) (fun _ q => e q.1) (fun e => absurd e (by decide))
theorem ye_restoreC {post : SY → Prop} {u : SY} {k : Nat} (hk : k < cnt) (I : me_Inv (tcap, ncap, lvs, t, len, cur, mks, kd, sz, st, cnt, now, par, rd, nt, nl, nc, nm, reg, k1, op, k2, wt, ss, cp, rr, cr, cc, fr, kl, tk)) (R : me_RY (tcap, ncap, lvs, t, len, cur, mks, kd, sz, st, cnt, now, par, rd, nt, nl, nc, nm, reg, k1, op, k2, wt, ss, cp, rr, cr, cc, fr, kl, tk) u) (H : ∀ u', me_RY (me_rest (tcap, ncap, lvs, t, len, cur, mks, kd, sz, st, cnt, now, par, rd, nt, nl, nc, nm, reg, k1, op, k2, wt, ss, cp, rr, cr, cc, fr, kl, tk) k) u' → post u') : wpY_restore post u (nI k) := by
  refine me_elY (P := fun u => wpY_restore post u (nI k)) R ?_
  intro q a_text a_marks a_info a_held a_strips a_size a_kind a_dueKey a_dueLevel hT hG hN hQ
  obtain ⟨⟨a1, a2, a3, a4, a5, a6⟩, hIT, hIG, ⟨n1, n2, n3, n4⟩, hIK, hIS, hIF⟩ := I
  obtain ⟨h1, h2, h3, h4, h5, h6⟩ := hN k hk
  have nb := (n4 k hk).1.1
  refine ye_restore (by omega) (by omega) h3 h4 (H _ (me_inY ⟨fun i hi => ?_, fun m hm => ?_⟩ hG hN hQ))
  · have := me_cp_in (dst := a_text) (b := 0) (g := fun i => a_held (k * 32 + i)) hi
    rw [Nat.zero_add] at this
    rw [this]; exact h6 i hi
  · have := me_cp_in (dst := a_marks) (b := 0) (g := fun i => a_info (k * 7 + 4 + i)) hm
    rw [Nat.zero_add] at this
    rw [this]; exact h5 m hm
end
end
section
/-! the change record -/
def me_k3 (a b d : Int32) : Nat → Int32 := fun i => if i = 0 then a else if i = 1 then b else d
def me_k3n (b d : Int32) : Nat := if b = 0 then 1 else if d = 0 then 2 else 3
def me_ncc (k1 k2 : Nat) : Nat := if k1 = 0 ∧ k2 = 0 then 0 else me_nt k1 k2
theorem me_k3n_b (b d : Int32) : 1 ≤ me_k3n b d ∧ me_k3n b d ≤ 3 := by
  unfold me_k3n
  split
  · omega
  · split <;> omega
theorem me_ncc_b (k1 k2 : Nat) : me_ncc k1 k2 ≤ 32 := by
  have := me_nt_b k1 k2
  unfold me_ncc
  split <;> omega
def me_note (c : me_CC) (a b d : Int32) : me_CC := match c with
  | (tcap, ncap, lvs, t, len, cur, mks, kd, sz, st, cnt, now, par, rd, nt, nl, nc, nm, reg, k1, op, k2, wt, ss, cp, rr, cr, cc, fr, kl, tk) => (tcap, ncap, lvs, t, len, cur, mks, kd, me_set (me_set sz 5 (me_k3n b d)) 6 0, me_set st 5 (me_k3 a b d), cnt, now, par, rd, nt, nl, nc, nm, reg, k1, op, k2, wt, ss, cp, rr, reg, me_ncc k1 k2, fr, kl, tk)
theorem me_set_set {α : Type} (f : Nat → α) (k : Nat) (v w : α) : me_set (me_set f k v) k w = me_set f k w := by
  funext j
  unfold me_set
  split <;> rfl
theorem me_GX_note {kd sz : Nat → Nat} {st : Nat → Nat → Int32} {K L C RC HK HT : Nat → Int32} {a b d : Int32} (h : me_GX kd sz st K L C RC HK HT) :
    me_GX kd (me_set (me_set sz 5 (me_k3n b d)) 6 0) (me_set st 5 (me_k3 a b d)) K L C RC (upd (upd (upd HK 0 a) 1 b) 2 d) HT := by
  refine ⟨fun q hq => ?_, ?_, ?_, ?_⟩
  · rw [me_set_n (by omega), me_set_n (by omega), me_set_n (by omega)]; exact h.1 q hq
  · rw [me_set_n (by omega), me_set_n (by omega), me_set_n (by omega)]; exact h.2.1
  · rw [me_set_n (by omega), me_set_s, me_set_s]
    intro i hi
    have := me_k3n_b b d
    have : i = 0 ∨ i = 1 ∨ i = 2 := by omega
    rcases this with rfl | rfl | rfl
    · rw [pk_un (by omega), pk_un (by omega), pk_us]; rfl
    · rw [pk_un (by omega), pk_us]; rfl
    · rw [pk_us]; rfl
  · rw [me_set_s]; intro i hi; omega
section
variable {f_textCap f_nodeCap f_levels f_len f_cur f_nodeCount f_node f_reg f_c1 f_op f_c2 f_waiting f_sessionStart f_copies f_recReg f_recLen f_chKeyLen f_chTextLen f_chReg f_chCount f_depth f_keyLevel f_spanFrom f_spanTo f_spanTextEnd f_spanKind : Int32} {a_text a_marks a_regKinds a_regLens a_regCodes a_nodeParent a_nodeRedo a_nodeLen a_nodeCur a_nodeMarks a_nodeText a_recCodes a_chKeys a_chText a_frameCodes a_frameLen a_framePos a_frameTimes a_frameLevel : Nat → Int32}
theorem xe_setChange {post : SX → Prop} {k1 k2 : Nat} {a b d : Int32} (h1 : k1 ≤ 32) (h2 : k2 ≤ 32)
    (H : post (f_textCap, f_nodeCap, f_levels, f_len, f_cur, f_nodeCount, f_node, f_reg, nI k1, f_op, nI k2, f_waiting, f_sessionStart, f_copies, f_recReg, f_recLen, nI (me_k3n b d), 0, f_reg, nI (me_ncc k1 k2), f_depth, f_keyLevel, f_spanFrom, f_spanTo, f_spanTextEnd, f_spanKind, a_text, a_marks, a_regKinds, a_regLens, a_regCodes, a_nodeParent, a_nodeRedo, a_nodeLen, a_nodeCur, a_nodeMarks, a_nodeText, a_recCodes, upd (upd (upd a_chKeys 0 a) 1 b) 2 d, a_chText, a_frameCodes, a_frameLen, a_framePos, a_frameTimes, a_frameLevel)) :
    wpX_setChange post (f_textCap, f_nodeCap, f_levels, f_len, f_cur, f_nodeCount, f_node, f_reg, nI k1, f_op, nI k2, f_waiting, f_sessionStart, f_copies, f_recReg, f_recLen, f_chKeyLen, f_chTextLen, f_chReg, f_chCount, f_depth, f_keyLevel, f_spanFrom, f_spanTo, f_spanTextEnd, f_spanKind, a_text, a_marks, a_regKinds, a_regLens, a_regCodes, a_nodeParent, a_nodeRedo, a_nodeLen, a_nodeCur, a_nodeMarks, a_nodeText, a_recCodes, a_chKeys, a_chText, a_frameCodes, a_frameLen, a_framePos, a_frameTimes, a_frameLevel) a b d := by
  have k31 : wX_setChange_31 post a b d (nI (me_ncc k1 k2)) f_textCap f_nodeCap f_levels f_len f_cur f_nodeCount f_node f_reg (nI k1) f_op (nI k2) f_waiting f_sessionStart f_copies f_recReg f_recLen f_chKeyLen f_chTextLen f_reg f_chCount f_depth f_keyLevel f_spanFrom f_spanTo f_spanTextEnd f_spanKind a_text a_marks a_regKinds a_regLens a_regCodes a_nodeParent a_nodeRedo a_nodeLen a_nodeCur a_nodeMarks a_nodeText a_recCodes a_chKeys a_chText a_frameCodes a_frameLen a_framePos a_frameTimes a_frameLevel := by
    refine nm_e (nm_e (nm_e ?_))
    refine br_c (fun e => ?_) (fun e => br_c (fun e2 => ?_) (fun e2 => ?_))
    · rw [me_k3n, if_pos e] at H; exact H
    · rw [me_k3n, if_neg e, if_pos e2] at H; exact H
    · rw [me_k3n, if_neg e, if_neg e2] at H; exact H
  have k23 : ¬ (k1 = 0 ∧ k2 = 0) → wX_setChange_23 post a b d f_textCap f_nodeCap f_levels f_len f_cur f_nodeCount f_node f_reg (nI k1) f_op (nI k2) f_waiting f_sessionStart f_copies f_recReg f_recLen f_chKeyLen f_chTextLen f_reg f_chCount f_depth f_keyLevel f_spanFrom f_spanTo f_spanTextEnd f_spanKind a_text a_marks a_regKinds a_regLens a_regCodes a_nodeParent a_nodeRedo a_nodeLen a_nodeCur a_nodeMarks a_nodeText a_recCodes a_chKeys a_chText a_frameCodes a_frameLen a_framePos a_frameTimes a_frameLevel := by
    intro e
    rw [me_ncc, if_neg e] at k31
    exact xe_times h1 h2 k31
  refine pk_eq k1 0 (fun e => pk_eq k2 0 (fun e2 => ?_) (fun e2 => k23 (fun z => e2 z.2))) (fun e => k23 (fun z => e z.1))
  rw [me_ncc, if_pos ⟨e, e2⟩] at k31
  exact k31
end
theorem me_GY_note {kd sz : Nat → Nat} {st : Nat → Nat → Int32} {S Z K S' Z' : Nat → Int32} {n : Nat} {g : Nat → Int32} (h : me_GY kd sz st S Z K) (hz : ∀ r, r < 7 → sz r ≤ 32) (hs : ∀ j, j < 160 ∨ 192 ≤ j → S' j = S j) (hg : ∀ i, i < n → S' (160 + i) = g i) (h5 : Z' 5 = nI n) (h6 : Z' 6 = nI 0) (hZ : ∀ r, r < 5 → Z' r = Z r) :
    me_GY kd (me_set (me_set sz 5 n) 6 0) (me_set st 5 g) S' Z' K := by
  refine ⟨fun q hq => ?_, h.2⟩
  by_cases e6 : q = 6
  · subst e6
    rw [me_set_s]
    exact ⟨h6, fun i hi => by omega⟩
  · rw [me_set_n e6]
    by_cases e5 : q = 5
    · subst e5
      rw [me_set_s, me_set_s]
      exact ⟨h5, hg⟩
    · rw [me_set_n e5, me_set_n e5]
      obtain ⟨a, b⟩ := h.1 q hq
      have := hz q hq
      refine ⟨by rw [hZ q (by omega)]; exact a, fun i hi => ?_⟩
      rw [hs _ (by omega)]
      exact b i hi
section
variable {f_cap f_nodeCap f_levels f_len f_cur f_now f_nodeCount f_queued f_c1 f_op f_c2 f_waits f_copies f_recCount f_reg f_begin f_recording f_recReg : Int32} {a_text a_marks a_info a_held a_strips a_size a_kind a_dueKey a_dueLevel : Nat → Int32}
theorem ye_noteChange {post : SY → Prop} {k1 k2 : Nat} {a b d : Int32} (h1 : k1 ≤ 32) (h2 : k2 ≤ 32) (hbd : b = 0 → d = 0)
    (H : ∀ S' Z' : Nat → Int32, (∀ j, j < 160 ∨ 192 ≤ j → S' j = a_strips j) → (∀ i, i < me_k3n b d → S' (160 + i) = me_k3 a b d i) → Z' 5 = nI (me_k3n b d) → Z' 6 = nI 0 → (∀ r, r < 5 → Z' r = a_size r) → post (f_cap, f_nodeCap, f_levels, f_len, f_cur, f_now, f_nodeCount, f_queued, nI k1, f_op, nI k2, f_waits, f_copies, nI (me_ncc k1 k2), f_reg, f_begin, f_recording, f_reg, a_text, a_marks, a_info, a_held, S', Z', a_kind, a_dueKey, a_dueLevel)) :
    wpY_noteChange post (f_cap, f_nodeCap, f_levels, f_len, f_cur, f_now, f_nodeCount, f_queued, nI k1, f_op, nI k2, f_waits, f_copies, f_recCount, f_reg, f_begin, f_recording, f_recReg, a_text, a_marks, a_info, a_held, a_strips, a_size, a_kind, a_dueKey, a_dueLevel) a b d := by
  have k31 : wY_noteChange_31 post a b d (nI (me_ncc k1 k2)) f_cap f_nodeCap f_levels f_len f_cur f_now f_nodeCount f_queued (nI k1) f_op (nI k2) f_waits f_copies f_recCount f_reg f_begin f_recording f_reg a_text a_marks a_info a_held a_strips a_size a_kind a_dueKey a_dueLevel := by
    refine nm_e (nm_e (ye_append (r := 5) (n := 0) (by omega) ?_ (by omega) ?_))
    · rw [pk_un (by omega), pk_us]; rfl
    by_cases eb : b = 0
    · have ed := hbd eb
      rw [me_k3n, if_pos eb] at H
      refine br_t eb (br_t ed (H _ _ (fun j hj => ?_) (fun i hi => ?_) ?_ ?_ (fun r hr => ?_)))
      · rw [pk_un (by omega)]
      · have : i = 0 := by omega
        subst this; rw [pk_us]; rfl
      · rw [pk_us]
      · rw [pk_un (by omega), pk_us]; rfl
      · rw [pk_un (by omega), pk_un (by omega), pk_un (by omega)]
    · refine br_f eb (ye_append (r := 5) (n := 1) (by omega) pk_us (by omega) ?_)
      by_cases ed : d = 0
      · rw [me_k3n, if_neg eb, if_pos ed] at H
        refine br_t ed (H _ _ (fun j hj => ?_) (fun i hi => ?_) ?_ ?_ (fun r hr => ?_))
        · rw [pk_un (by omega), pk_un (by omega)]
        · have : i = 0 ∨ i = 1 := by omega
          rcases this with rfl | rfl
          · rw [pk_un (by omega), pk_us]; rfl
          · rw [pk_us]; rfl
        · rw [pk_us]
        · rw [pk_un (by omega), pk_un (by omega), pk_us]; rfl
        · rw [pk_un (by omega), pk_un (by omega), pk_un (by omega), pk_un (by omega)]
      · rw [me_k3n, if_neg eb, if_neg ed] at H
        refine br_f ed (ye_append (r := 5) (n := 2) (by omega) pk_us (by omega) ?_)
        refine H _ _ (fun j hj => ?_) (fun i hi => ?_) ?_ ?_ (fun r hr => ?_)
        · rw [pk_un (by omega), pk_un (by omega), pk_un (by omega)]
        · have : i = 0 ∨ i = 1 ∨ i = 2 := by omega
          rcases this with rfl | rfl | rfl
          · rw [pk_un (by omega), pk_un (by omega), pk_us]; rfl
          · rw [pk_un (by omega), pk_us]; rfl
          · rw [pk_us]; rfl
        · rw [pk_us]
        · rw [pk_un (by omega), pk_un (by omega), pk_un (by omega), pk_us]; rfl
        · rw [pk_un (by omega), pk_un (by omega), pk_un (by omega), pk_un (by omega), pk_un (by omega)]
  have k23 : ¬ (k1 = 0 ∧ k2 = 0) → wY_noteChange_23 post a b d f_cap f_nodeCap f_levels f_len f_cur f_now f_nodeCount f_queued (nI k1) f_op (nI k2) f_waits f_copies f_recCount f_reg f_begin f_recording f_reg a_text a_marks a_info a_held a_strips a_size a_kind a_dueKey a_dueLevel := by
    intro e
    rw [me_ncc, if_neg e] at k31
    exact ye_times h1 h2 k31
  refine pk_eq k1 0 (fun e => pk_eq k2 0 (fun e2 => ?_) (fun e2 => k23 (fun z => e2 z.2))) (fun e => k23 (fun z => e z.1))
  rw [me_ncc, if_pos ⟨e, e2⟩] at k31
  exact k31
end
theorem ye_noteC {tcap : Nat} {ncap : Nat} {lvs : Nat} {t : Nat → Int32} {len : Nat} {cur : Nat} {mks : Nat → Option Nat} {kd : Nat → Nat} {sz : Nat → Nat} {st : Nat → Nat → Int32} {cnt : Nat} {now : Nat} {par : Nat → Option Nat} {rd : Nat → Option Nat} {nt : Nat → Nat → Int32} {nl : Nat → Nat} {nc : Nat → Nat} {nm : Nat → Nat → Option Nat} {reg : Option Nat} {k1 : Nat} {op : Int32} {k2 : Nat} {wt : Int32} {ss : Option Nat} {cp : Nat} {rr : Option Nat} {cr : Option Nat} {cc : Nat} {fr : List (List Int32 × Nat × Nat × Nat)} {kl : Nat} {tk : Nat} {post : SY → Prop} {v : SY} {a b d : Int32} (hz : ∀ r, r < 7 → sz r ≤ 32) (h1 : k1 ≤ 32) (h2 : k2 ≤ 32) (hbd : b = 0 → d = 0) (R : me_RY (tcap, ncap, lvs, t, len, cur, mks, kd, sz, st, cnt, now, par, rd, nt, nl, nc, nm, reg, k1, op, k2, wt, ss, cp, rr, cr, cc, fr, kl, tk) v) (H : ∀ v', me_RY (me_note (tcap, ncap, lvs, t, len, cur, mks, kd, sz, st, cnt, now, par, rd, nt, nl, nc, nm, reg, k1, op, k2, wt, ss, cp, rr, cr, cc, fr, kl, tk) a b d) v' → post v') : wpY_noteChange post v a b d := by
  refine me_elY (P := fun v => wpY_noteChange post v a b d) R ?_
  intro q a_text a_marks a_info a_held a_strips a_size a_kind a_dueKey a_dueLevel hT hG hN hQ
  refine ye_noteChange h1 h2 hbd (fun S' Z' e1 e2 e3 e4 e5 => H _ ?_)
  exact me_inY hT (me_GY_note hG hz e1 e2 e3 e4 e5) hN hQ
end
section
/-! an operator on a span -/
def me_f2 {α : Type} (reg : Option Nat) (f : Nat → α) (v : α) : Nat → α := fun j => if j = 0 ∨ reg = some j then v else f j
theorem me_f2_none {α : Type} (f : Nat → α) (v : α) : me_f2 none f v = me_set f 0 v := by
  funext j
  unfold me_f2 me_set
  by_cases h : j = 0
  · rw [if_pos (Or.inl h), if_pos h]
  · rw [if_neg (fun q => q.elim h (fun q => by cases q)), if_neg h]
theorem me_f2_0 {α : Type} (f : Nat → α) (v : α) : me_f2 (some 0) f v = me_set f 0 v := by
  funext j
  unfold me_f2 me_set
  by_cases h : j = 0
  · rw [if_pos (Or.inl h), if_pos h]
  · rw [if_neg (fun q => q.elim h (fun q => by cases q; exact h rfl)), if_neg h]
theorem me_f2_s {α : Type} (f : Nat → α) (v : α) (r : Nat) : me_f2 (some r) f v = me_set (me_set f 0 v) r v := by
  funext j
  unfold me_f2 me_set
  by_cases h : j = r
  · subst h; rw [if_pos (Or.inr rfl), if_pos rfl]
  · rw [if_neg h]
    by_cases h0 : j = 0
    · rw [if_pos (Or.inl h0), if_pos h0]
    · rw [if_neg (fun q => q.elim h0 (fun q => by cases q; exact h rfl)), if_neg h0]
theorem me_f2_hi {α : Type} {reg : Option Nat} (hr : ∀ r, reg = some r → r < 4) (f : Nat → α) (v : α) {j : Nat} (hj : 4 ≤ j) : me_f2 reg f v j = f j := by
  unfold me_f2
  rw [if_neg]
  intro q
  rcases q with q | q
  · omega
  · have := hr j q; omega
theorem me_f2_P {α : Type} {reg : Option Nat} {f : Nat → α} {v : α} {P : α → Prop} {j : Nat} (hv : P v) (hf : P (f j)) : P (me_f2 reg f v j) := by
  unfold me_f2
  split
  · exact hv
  · exact hf
/-- the state behind the deletion, with the change record made -/
def me_dd (c : me_CC) (a b d : Int32) (kk s e e2 : Nat) : me_CC := match c with
  | (tcap, ncap, lvs, t, len, cur, mks, kd, sz, st, cnt, now, par, rd, nt, nl, nc, nm, reg, k1, op, k2, wt, ss, cp, rr, cr, cc, fr, kl, tk) => (tcap, ncap, lvs, me_cut t s e, len - (e - s), s, me_cutm mks s e, me_f2 reg kd kk, me_set (me_set (me_f2 reg sz (e2 - s)) 5 (me_k3n b d)) 6 0, me_set (me_f2 reg st (fun i => t (s + i))) 5 (me_k3 a b d), cnt, now, par, rd, nt, nl, nc, nm, reg, k1, op, k2, wt, ss, cp, rr, reg, me_ncc k1 k2, fr, kl, tk)
def me_yy (c : me_CC) (kk s e2 : Nat) : me_CC := match c with
  | (tcap, ncap, lvs, t, len, cur, mks, kd, sz, st, cnt, now, par, rd, nt, nl, nc, nm, reg, k1, op, k2, wt, ss, cp, rr, cr, cc, fr, kl, tk) => (tcap, ncap, lvs, t, len, s, mks, me_f2 reg kd kk, me_f2 reg sz (e2 - s), me_f2 reg st (fun i => t (s + i)), cnt, now, par, rd, nt, nl, nc, nm, reg, k1, op, k2, wt, ss, cp, rr, cr, cc, fr, kl, tk)
def me_sn (c : me_CC) (s n : Nat) : me_CC := match c with
  | (tcap, ncap, lvs, t, len, cur, mks, kd, sz, st, cnt, now, par, rd, nt, nl, nc, nm, reg, k1, op, k2, wt, ss, cp, rr, cr, cc, fr, kl, tk) => (tcap, ncap, lvs, t, len, cur, mks, kd, sz, st, cnt, now, par, rd, nt, nl, nc, nm, reg, k1, op, k2, wt, some s, n, rr, cr, cc, fr, kl, tk)
def me_app (c : me_CC) (oper a b d : Int32) (kk s e e2 : Nat) : me_CC :=
  if oper = 121 then me_yy c kk s e2 else if oper = 100 then me_cm (me_dd c a b d kk s e e2) else me_sn (me_dd c a b d kk s e e2) s 1
theorem me_cm_drop (c : me_CC) : me_cm (me_drop c) = me_drop (me_cm c) := by
  refine me_tupC (P := fun c => me_cm (me_drop c) = me_drop (me_cm c)) ?_ c
  intro tcap ncap lvs t len cur mks kd sz st cnt now par rd nt nl nc nm reg k1 op k2 wt ss cp rr cr cc fr kl tk
  by_cases h : ncap ≤ cnt ∨ (len = nl now ∧ ∀ i, i < len → t i = nt now i)
  · rw [me_cm_t h]
    exact me_cm_t h
  · rw [me_cm_f h]
    exact me_cm_f h
section
variable {tcap : Nat} {ncap : Nat} {lvs : Nat} {t : Nat → Int32} {len : Nat} {cur : Nat} {mks : Nat → Option Nat} {kd : Nat → Nat} {sz : Nat → Nat} {st : Nat → Nat → Int32} {cnt : Nat} {now : Nat} {par : Nat → Option Nat} {rd : Nat → Option Nat} {nt : Nat → Nat → Int32} {nl : Nat → Nat} {nc : Nat → Nat} {nm : Nat → Nat → Option Nat} {reg : Option Nat} {k1 : Nat} {op : Int32} {k2 : Nat} {wt : Int32} {ss : Option Nat} {cp : Nat} {rr : Option Nat} {cr : Option Nat} {cc : Nat} {fr : List (List Int32 × Nat × Nat × Nat)} {kl : Nat} {tk : Nat}
theorem me_inv_yy {kk s e2 : Nat} (I : me_Inv (tcap, ncap, lvs, t, len, cur, mks, kd, sz, st, cnt, now, par, rd, nt, nl, nc, nm, reg, k1, op, k2, wt, ss, cp, rr, cr, cc, fr, kl, tk)) (hss : ss = none) (h1 : s ≤ e2) (h2 : e2 ≤ len) (hk : kk ≤ 2) (hk1 : kk = 1 → s < e2) : me_Inv (me_yy (tcap, ncap, lvs, t, len, cur, mks, kd, sz, st, cnt, now, par, rd, nt, nl, nc, nm, reg, k1, op, k2, wt, ss, cp, rr, cr, cc, fr, kl, tk) kk s e2) := by
  obtain ⟨hA, ⟨t1, t2, t3, t4⟩, ⟨g1, g2, g3, g4⟩, hN, hK, ⟨s1, s2⟩, hF⟩ := I
  have hr := hK.1
  refine ⟨hA, ⟨t1, by omega, t3, t4⟩, ⟨fun r hr' => ⟨me_f2_P (P := fun x => x ≤ 2) hk (g1 r hr').1, ?_⟩, fun r hr' => ⟨me_f2_P (P := fun x => x ≤ 32) (by have := hA.2.1; omega) (g2 r hr').1, ?_⟩, ?_, ?_⟩, hN, hK, ⟨fun s h => (by rw [hss] at h; cases h), s2⟩, hF⟩
  · unfold me_f2
    split
    · intro e; have := hk1 e; omega
    · exact (g1 r hr').2
  · unfold me_f2
    split
    · intro i hi; exact t3 _ (by omega)
    · exact (g2 r hr').2
  · rw [me_f2_hi hr _ _ (by omega), me_f2_hi hr _ _ (by omega)]; exact g3
  · rw [me_f2_hi hr _ _ (by omega), me_f2_hi hr _ _ (by omega)]; exact g4
theorem me_inv_dd {a b d : Int32} {kk s e e2 : Nat} (I : me_Inv (tcap, ncap, lvs, t, len, cur, mks, kd, sz, st, cnt, now, par, rd, nt, nl, nc, nm, reg, k1, op, k2, wt, ss, cp, rr, cr, cc, fr, kl, tk)) (hss : ss = none) (hs : s ≤ e) (he : e ≤ len) (h1 : s ≤ e2) (h2 : e2 ≤ len) (hk : kk ≤ 2) (hk1 : kk = 1 → s < e2) (hCH : me_CH (me_k3n b d) (me_k3 a b d)) (hv : ∀ i, i < me_k3n b d → me_vk (me_k3 a b d i)) : me_Inv (me_dd (tcap, ncap, lvs, t, len, cur, mks, kd, sz, st, cnt, now, par, rd, nt, nl, nc, nm, reg, k1, op, k2, wt, ss, cp, rr, cr, cc, fr, kl, tk) a b d kk s e e2) := by
  obtain ⟨hA, ⟨t1, t2, t3, t4⟩, ⟨g1, g2, g3, g4⟩, hN, hK, ⟨s1, s2, s3, s4, s5⟩, hF⟩ := I
  have hr := hK.1
  have hb3 := me_k3n_b b d
  refine ⟨hA, ⟨by omega, by omega, fun i hi => ?_, fun m hm j hj => me_cutm_b hs he (t4 m hm) hj⟩, ⟨fun r hr' => ?_, fun r hr' => ?_, ?_, ?_⟩, hN, hK, ⟨fun s h => (by rw [hss] at h; cases h), s2, s3, hr, me_ncc_b _ _⟩, hF⟩
  · unfold me_cut
    split
    · exact t3 _ (by omega)
    · exact t3 _ (by omega)
  · rw [me_set_n (by omega), me_set_n (by omega)]
    refine ⟨me_f2_P (P := fun x => x ≤ 2) hk (g1 r hr').1, ?_⟩
    unfold me_f2
    split
    · intro e; have := hk1 e; omega
    · exact (g1 r hr').2
  · by_cases e6 : r = 6
    · subst e6; rw [me_set_s]; exact ⟨by omega, fun i hi => by omega⟩
    · rw [me_set_n e6]
      by_cases e5 : r = 5
      · subst e5; rw [me_set_s, me_set_s]; exact ⟨by omega, hv⟩
      · rw [me_set_n e5, me_set_n e5]
        refine ⟨me_f2_P (P := fun x => x ≤ 32) (by have := hA.2.1; omega) (g2 r hr').1, ?_⟩
        unfold me_f2
        split
        · intro i hi; exact t3 _ (by omega)
        · exact (g2 r hr').2
  · rw [me_set_s]; intro i hi; omega
  · rw [me_set_n (by omega), me_set_s, me_set_s]; exact hCH
theorem me_inv_sn {s n : Nat} (hs : s = cur) (hn : n ≤ 32) (I : me_Inv (tcap, ncap, lvs, t, len, cur, mks, kd, sz, st, cnt, now, par, rd, nt, nl, nc, nm, reg, k1, op, k2, wt, ss, cp, rr, cr, cc, fr, kl, tk)) : me_Inv (me_sn (tcap, ncap, lvs, t, len, cur, mks, kd, sz, st, cnt, now, par, rd, nt, nl, nc, nm, reg, k1, op, k2, wt, ss, cp, rr, cr, cc, fr, kl, tk) s n) := by
  obtain ⟨hA, hT, hG, hN, hK, ⟨s1, s2, s3, s4, s5⟩, hF⟩ := I
  exact ⟨hA, hT, hG, hN, hK, ⟨fun q h => (by cases h; exact ⟨by omega, fun i h1 h2 => by omega⟩), hn, s3, s4, s5⟩, hF⟩
theorem me_inv_app {oper a b d : Int32} {kk s e e2 : Nat} (I : me_Inv (tcap, ncap, lvs, t, len, cur, mks, kd, sz, st, cnt, now, par, rd, nt, nl, nc, nm, reg, k1, op, k2, wt, ss, cp, rr, cr, cc, fr, kl, tk)) (hss : ss = none) (hs : s ≤ e) (he : e ≤ len) (h1 : s ≤ e2) (h2 : e2 ≤ len) (hk : kk ≤ 2) (hk1 : kk = 1 → s < e2) (hCH : oper ≠ 121 → me_CH (me_k3n b d) (me_k3 a b d)) (hv : oper ≠ 121 → ∀ i, i < me_k3n b d → me_vk (me_k3 a b d i)) : me_Inv (me_app (tcap, ncap, lvs, t, len, cur, mks, kd, sz, st, cnt, now, par, rd, nt, nl, nc, nm, reg, k1, op, k2, wt, ss, cp, rr, cr, cc, fr, kl, tk) oper a b d kk s e e2) := by
  unfold me_app
  by_cases e1 : oper = 121
  · rw [if_pos e1]; exact me_inv_yy I hss h1 h2 hk hk1
  · rw [if_neg e1]
    have hD := me_inv_dd I hss hs he h1 h2 hk hk1 (hCH e1) (hv e1)
    split
    · exact me_inv_cm hD
    · exact me_inv_sn rfl (by omega) hD
theorem xe_apply {post : Int32 → SX → Prop} {a_text a_marks a_regKinds a_regLens a_regCodes a_nodeParent a_nodeRedo a_nodeLen a_nodeCur a_nodeMarks a_nodeText a_recCodes a_chKeys a_chText a_frameCodes a_frameLen a_framePos a_frameTimes a_frameLevel : Nat → Int32} {oper a b d : Int32} {kk s e e2 : Nat} (I : me_Inv (tcap, ncap, lvs, t, len, cur, mks, kd, sz, st, cnt, now, par, rd, nt, nl, nc, nm, reg, k1, op, k2, wt, ss, cp, rr, cr, cc, fr, kl, tk)) (hT : me_TX t len mks a_text a_marks) (hG : me_GX kd sz st a_regKinds a_regLens a_regCodes a_recCodes a_chKeys a_chText) (hN : me_NX cnt par rd nt nl nc nm a_nodeParent a_nodeRedo a_nodeLen a_nodeCur a_nodeMarks a_nodeText) (hF : me_FX fr a_frameCodes a_frameLen a_framePos a_frameTimes a_frameLevel)
    (hs : s < e) (he : e ≤ len) (h1 : s ≤ e2) (h2 : e2 ≤ len) (ho : oper = 121 ∨ ((oper = 100 ∨ oper = 99) ∧ cnt < ncap)) (hD : oper ≠ 121 → me_Inv (me_dd (tcap, ncap, lvs, t, len, cur, mks, kd, sz, st, cnt, now, par, rd, nt, nl, nc, nm, reg, k1, op, k2, wt, ss, cp, rr, cr, cc, fr, kl, tk) a b d kk s e e2))
    (H : ∀ u', me_RX (me_drop (me_app (tcap, ncap, lvs, t, len, cur, mks, kd, sz, st, cnt, now, par, rd, nt, nl, nc, nm, reg, k1, op, k2, wt, ss, cp, rr, cr, cc, fr, kl, tk) oper a b d kk s e e2)) u' → post 0 u') : wpX_applyOperator post (nI tcap, nI ncap, nI lvs, nI len, nI cur, nI cnt, nI now, me_o reg, nI k1, op, nI k2, wt, me_o ss, nI cp, me_o rr, nI (sz 4), nI (sz 5), nI (sz 6), me_o cr, nI cc, nI fr.length, nI kl, nI s, nI e, nI e2, nI kk, a_text, a_marks, a_regKinds, a_regLens, a_regCodes, a_nodeParent, a_nodeRedo, a_nodeLen, a_nodeCur, a_nodeMarks, a_nodeText, a_recCodes, a_chKeys, a_chText, a_frameCodes, a_frameLen, a_framePos, a_frameTimes, a_frameLevel) oper a b d := by
  obtain ⟨⟨a1, a2, a3, a4, a5, a6⟩, ⟨t1, t2, t3, t4⟩, ⟨g1, g2, g3, g4⟩, ⟨n1, n2, n3, n4⟩, ⟨hr, hk1, hk2, _⟩, hIS, hIF⟩ := I
  have hz : ∀ r, r < 7 → sz r ≤ 32 := fun r h => (g2 r h).1
  have k52 : ∀ K L C : Nat → Int32, me_GX (me_f2 reg kd kk) (me_f2 reg sz (e2 - s)) (me_f2 reg st (fun i => t (s + i))) K L C a_recCodes a_chKeys a_chText → wX_applyOperator_52 post oper a b d (nI tcap) (nI ncap) (nI lvs) (nI len) (nI cur) (nI cnt) (nI now) (me_o reg) (nI k1) op (nI k2) wt (me_o ss) (nI cp) (me_o rr) (nI (sz 4)) (nI (sz 5)) (nI (sz 6)) (me_o cr) (nI cc) (nI fr.length) (nI kl) (nI s) (nI e) (nI e2) (nI kk) a_text a_marks K L C a_nodeParent a_nodeRedo a_nodeLen a_nodeCur a_nodeMarks a_nodeText a_recCodes a_chKeys a_chText a_frameCodes a_frameLen a_framePos a_frameTimes a_frameLevel := by
    intro K L C hG'
    have e4 : nI (sz 4) = nI (me_set (me_set (me_f2 reg sz (e2 - s)) 5 (me_k3n b d)) 6 0 4) := by rw [me_set_n (by omega), me_set_n (by omega), me_f2_hi hr _ _ (by omega)]
    have e5 : nI (me_k3n b d) = nI (me_set (me_set (me_f2 reg sz (e2 - s)) 5 (me_k3n b d)) 6 0 5) := by rw [me_set_n (by omega), me_set_s]
    have e6 : (0 : Int32) = nI (me_set (me_set (me_f2 reg sz (e2 - s)) 5 (me_k3n b d)) 6 0 6) := by rw [me_set_s]; rfl
    rcases ho with rfl | ⟨rfl | rfl, hc⟩
    · refine br_t rfl (br_f (by decide) (br_f (by decide) (H _ ?_)))
      rw [me_app, if_pos rfl]
      exact me_inX' (by rw [me_f2_hi hr _ _ (by omega)]) (by rw [me_f2_hi hr _ _ (by omega)]) (by rw [me_f2_hi hr _ _ (by omega)]) hT hG' hN hF
    · refine br_f (by decide) (xe_setChange hk1 hk2 (xe_deleteCells (mks := mks) (t := t) (by omega) he (by omega) hT.1 (fun m hm j hj => by have := t4 m hm j hj; omega) hT.2 (fun a' m' q1 q2 => ?_)))
      refine br_f (by decide) (br_t rfl (xe_commit (me_inv_drop (hD (by decide))) (me_inX' e4 e5 e6 ⟨q1, q2⟩ (me_GX_note hG') hN hF) (me_allX fun _ _ _ _ _ _ _ _ _ _ _ _ _ _ _ _ _ _ _ _ _ _ _ _ _ _ _ _ _ _ _ _ _ _ _ _ _ _ _ _ _ _ _ _ _ R' => H _ ?_)))
      rw [me_app, if_neg (by decide), if_pos rfl, ← me_cm_drop]
      exact R'
    · refine br_f (by decide) (xe_setChange hk1 hk2 (xe_deleteCells (mks := mks) (t := t) (by omega) he (by omega) hT.1 (fun m hm j hj => by have := t4 m hm j hj; omega) hT.2 (fun a' m' q1 q2 => ?_)))
      refine br_t rfl (br_f (by decide) (H _ ?_))
      rw [me_app, if_neg (by decide), if_neg (by decide)]
      exact me_inX' e4 e5 e6 ⟨q1, q2⟩ (me_GX_note hG') hN hF
  have k32 : wX_applyOperator_32 post oper a b d (nI tcap) (nI ncap) (nI lvs) (nI len) (nI cur) (nI cnt) (nI now) (me_o reg) (nI k1) op (nI k2) wt (me_o ss) (nI cp) (me_o rr) (nI (sz 4)) (nI (sz 5)) (nI (sz 6)) (me_o cr) (nI cc) (nI fr.length) (nI kl) (nI s) (nI e) (nI e2) (nI kk) a_text a_marks a_regKinds a_regLens a_regCodes a_nodeParent a_nodeRedo a_nodeLen a_nodeCur a_nodeMarks a_nodeText a_recCodes a_chKeys a_chText a_frameCodes a_frameLen a_framePos a_frameTimes a_frameLevel := by
    refine xe_fillRegister (r := 0) (by omega) h1 (by omega) ?_
    have hG0 : me_GX (me_set kd 0 kk) (me_set sz 0 (e2 - s)) (me_set st 0 (fun i => t (s + i))) (upd a_regKinds 0 (nI kk)) (upd a_regLens 0 (nI (e2 - s))) (me_cp a_regCodes (0 * 32) (e2 - s) (fun i => a_text (s + i))) a_recCodes a_chKeys a_chText :=
      me_GX_fill hG hz (by omega) (by omega) (fun i hi => hT.1 _ (by omega))
    cases reg with
    | none =>
      refine br_t (by decide) (k52 _ _ _ ?_)
      rw [me_f2_none, me_f2_none, me_f2_none]; exact hG0
    | some r =>
      cases r with
      | zero =>
        refine br_t (by decide) (k52 _ _ _ ?_)
        rw [me_f2_0, me_f2_0, me_f2_0]; exact hG0
      | succ r =>
        have hr4 := hr (r + 1) rfl
        refine br_f (nI_nle (by omega) (by omega)) (xe_fillRegister (r := r + 1) hr4 h1 (by omega) (k52 _ _ _ ?_))
        rw [me_f2_s, me_f2_s, me_f2_s]
        refine me_GX_fill hG0 (fun q hq => ?_) hr4 (by omega) (fun i hi => hT.1 _ (by omega))
        by_cases e0 : q = 0
        · subst e0; rw [me_set_s]; omega
        · rw [me_set_n e0]; exact hz q hq
  refine br_f (fun q => ?_) ?_
  · rw [nI_eq (by omega) (by omega)] at q; omega
  · rcases ho with rfl | ⟨ho, hc⟩
    · exact br_t rfl k32
    · refine br_f (fun q => ?_) (br_t (nI_lt hc (by omega)) k32)
      rcases ho with rfl | rfl
      · exact absurd q (by decide)
      · exact absurd q (by decide)
section
variable {a_text a_marks a_info a_held a_strips a_size a_kind a_dueKey a_dueLevel : Nat → Int32}
theorem ye_move_294 {post : Int32 → SY → Prop} {q s e : Nat} (hse : s ≤ e) (he : e ≤ len) (hl : len ≤ 32) (hb : ∀ m, m < 3 → ∀ j, mks m = some j → j ≤ len)
    (H : ∀ a_text a_marks, me_TX (me_cut t s e) (len - (e - s)) (me_cutm mks s e) a_text a_marks → wY_move_294 post (nI s) (nI e) 1 (nI e) (nI tcap) (nI ncap) (nI lvs) (nI (len - (e - s))) (nI cur) (nI now) (nI cnt) (nI q) (nI k1) op (nI k2) wt (nI cp) (nI cc) (me_o reg) (me_o ss) (me_o rr) (me_o cr) a_text a_marks a_info a_held a_strips a_size a_kind a_dueKey a_dueLevel) :
    ∀ (d j : Nat) (a_text a_marks : Nat → Int32), s + j + d = e → me_TX (me_cut t s (s + j)) (len - j) (me_cutm mks s (s + j)) a_text a_marks → wY_move_294 post (nI s) (nI e) (d + 1) (nI (s + j)) (nI tcap) (nI ncap) (nI lvs) (nI (len - j)) (nI cur) (nI now) (nI cnt) (nI q) (nI k1) op (nI k2) wt (nI cp) (nI cc) (me_o reg) (me_o ss) (me_o rr) (me_o cr) a_text a_marks a_info a_held a_strips a_size a_kind a_dueKey a_dueLevel
  | 0, j, a_text, a_marks, hd, hT => by
    have : e = s + j := by omega
    subst this
    have h := H a_text a_marks
    rw [show s + j - s = j by omega] at h
    exact h hT
  | d + 1, j, a_text, a_marks, hd, hT => by
    refine br_f (nI_ge (by omega) (by omega)) (ye_del (mks := me_cutm mks s (s + j)) (t := me_cut t s (s + j)) (by omega) (by omega) hT.1 (fun m hm i hi => ?_) hT.2 (fun a' m' q1 q2 => nm_r (nI_1 _) ?_))
    · have := me_cutm_b (show s ≤ s + j by omega) (show s + j ≤ len by omega) (hb m hm) hi
      omega
    · rw [me_cut_s] at q1
      rw [me_cutm_s] at q2
      rw [show len - j - 1 = len - (j + 1) by omega] at q1 ⊢
      exact ye_move_294 hse he hl hb H d (j + 1) a' m' (by omega) ⟨q1, q2⟩
end
theorem ye_apply {post : Int32 → SY → Prop} {a_text a_marks a_info a_held a_strips a_size a_kind a_dueKey a_dueLevel : Nat → Int32} {q : Nat} {b d z : Int32} {kk s e e2 : Nat} (I : me_Inv (tcap, ncap, lvs, t, len, cur, mks, kd, sz, st, cnt, now, par, rd, nt, nl, nc, nm, reg, k1, op, k2, wt, ss, cp, rr, cr, cc, fr, kl, tk)) (hT : me_TX t len mks a_text a_marks) (hG : me_GY kd sz st a_strips a_size a_kind) (hN : me_NY cnt par rd nt nl nc nm a_info a_held) (hQ : me_QY (me_pend fr) tk q a_dueKey a_dueLevel)
    (hs : s < e) (he : e ≤ len) (h1 : s ≤ e2) (h2 : e2 ≤ len) (ho : op = 121 ∨ ((op = 100 ∨ op = 99) ∧ cnt < ncap)) (hz : (z = 0 ∧ kk = 1) ∨ (z = 1 ∧ kk = 2)) (hbd : b = 0 → d = 0) (hD : op ≠ 121 → me_Inv (me_dd (tcap, ncap, lvs, t, len, cur, mks, kd, sz, st, cnt, now, par, rd, nt, nl, nc, nm, reg, k1, op, k2, wt, ss, cp, rr, cr, cc, fr, kl, tk) op b d kk s e e2))
    (H : ∀ v', me_RY (me_app (tcap, ncap, lvs, t, len, cur, mks, kd, sz, st, cnt, now, par, rd, nt, nl, nc, nm, reg, k1, op, k2, wt, ss, cp, rr, cr, cc, fr, kl, tk) op op b d kk s e e2) v' → post 0 v') : wY_move_170 post b d z (nI s) (nI e) (nI e2) (nI tcap) (nI ncap) (nI lvs) (nI len) (nI cur) (nI now) (nI cnt) (nI q) (nI k1) op (nI k2) wt (nI cp) (nI cc) (me_o reg) (me_o ss) (me_o rr) (me_o cr) a_text a_marks a_info a_held a_strips a_size a_kind a_dueKey a_dueLevel := by
  obtain ⟨⟨a1, a2, a3, a4, a5, a6⟩, ⟨t1, t2, t3, t4⟩, ⟨g1, g2, g3, g4⟩, ⟨n1, n2, n3, n4⟩, ⟨hr, hk1, hk2, _⟩, hIS, hIF⟩ := I
  have hz7 : ∀ r, r < 7 → sz r ≤ 32 := fun r h => (g2 r h).1
  have k263 : ∀ S Z K : Nat → Int32, me_GY (me_f2 reg kd kk) (me_f2 reg sz (e2 - s)) (me_f2 reg st (fun i => t (s + i))) S Z K → wY_move_263 post b d (nI s) (nI e) (nI tcap) (nI ncap) (nI lvs) (nI len) (nI cur) (nI now) (nI cnt) (nI q) (nI k1) op (nI k2) wt (nI cp) (nI cc) (me_o reg) (me_o ss) (me_o rr) (me_o cr) a_text a_marks a_info a_held S Z K a_dueKey a_dueLevel := by
    intro S Z K hG'
    have hz7' : ∀ r, r < 7 → me_f2 reg sz (e2 - s) r ≤ 32 := fun r h => me_f2_P (P := fun x => x ≤ 32) (by omega) (hz7 r h)
    rcases ho with rfl | ⟨ho, hc⟩
    · refine br_t rfl (H _ ?_)
      rw [me_app, if_pos rfl]
      exact me_inY hT hG' hN hQ
    · have hne : ¬ op = 121 := fun e => by rcases ho with rfl | rfl <;> exact absurd e (by decide)
      refine br_f hne (ye_noteChange hk1 hk2 hbd (fun S' Z' e1 e2' e3 e4 e5 => ⟨e - s + 1, ?_⟩))
      have hG2 := me_GY_note hG' hz7' e1 e2' e3 e4 e5
      refine ye_move_294 (mks := mks) (t := t) (by omega) he (by omega) t4 (fun a' m' hT' => ?_) (e - s) 0 a_text a_marks (by omega) ?_
      · refine br_t (nI_le (by omega) (by omega)) ?_
        rcases ho with rfl | rfl
        · refine br_t rfl (ye_commit (hD hne) (me_inY hT' hG2 hN hQ) (me_allY fun _ _ _ _ _ _ _ _ _ _ _ _ _ _ _ _ _ _ _ _ _ _ _ _ _ _ _ R' => H _ ?_))
          rw [me_app, if_neg (by decide), if_pos rfl]
          exact R'
        · refine br_f (by decide) (H _ ?_)
          rw [me_app, if_neg (by decide), if_neg (by decide)]
          exact me_inY hT' hG2 hN hQ
      · rw [Nat.add_zero, me_cut_0, me_cutm_0]
        exact hT
  have k228 : ∀ S Z : Nat → Int32, me_GY kd (me_set sz 0 (e2 - s)) (me_set st 0 (fun i => t (s + i))) S Z a_kind → wY_move_228 post b d (nI s) (nI e) (nI e2) (nI kk) 0 (nI tcap) (nI ncap) (nI lvs) (nI len) (nI cur) (nI now) (nI cnt) (nI q) (nI k1) op (nI k2) wt (nI cp) (nI cc) (me_o reg) (me_o ss) (me_o rr) (me_o cr) a_text a_marks a_info a_held S Z a_kind a_dueKey a_dueLevel := by
    intro S Z hG'
    have hG1 : me_GY (me_set kd 0 kk) (me_set sz 0 (e2 - s)) (me_set st 0 (fun i => t (s + i))) S Z (upd a_kind 0 (nI kk)) := me_GY_kind hG'
    refine ⟨vp_in_nI (n := 0) (by omega) (by omega), nm_r (e' := upd a_kind 0 (nI kk)) rfl ?_⟩
    refine me_olt reg (fun r h => by have := hr r h; omega) (fun e0 => ?_) (fun r er => ?_)
    · subst e0
      refine k263 _ _ _ ?_
      rw [me_f2_none, me_f2_none, me_f2_none]; exact hG1
    · subst er
      have hr4 := hr r rfl
      refine ye_copy (by omega) h1 (by omega) ⟨vp_in_nI hr4 (by omega), nm_r (by rw [me_o_some, nI_clamp (by omega), pk_us]) (k263 _ _ _ ?_)⟩
      rw [me_f2_s, me_f2_s, me_f2_s]
      refine me_GY_kind (me_GY_copy hG1 (fun q hq => ?_) (by omega) (by omega) (fun i hi => hT.1 _ (by omega)))
      by_cases e0 : q = 0
      · subst e0; rw [me_set_s]; omega
      · rw [me_set_n e0]; exact hz7 q hq
  have k204 : wY_move_204 post b d z (nI s) (nI e) (nI e2) (nI tcap) (nI ncap) (nI lvs) (nI len) (nI cur) (nI now) (nI cnt) (nI q) (nI k1) op (nI k2) wt (nI cp) (nI cc) (me_o reg) (me_o ss) (me_o rr) (me_o cr) a_text a_marks a_info a_held a_strips a_size a_kind a_dueKey a_dueLevel := by
    refine ye_copy (r := 0) (by omega) h1 (by omega) ?_
    have hG0 := me_GY_copy (r := 0) (n := e2 - s) (g := fun i => t (s + i)) (g' := fun i => a_text (s + i)) hG hz7 (by omega) (by omega) (fun i hi => hT.1 _ (by omega))
    rcases hz with ⟨rfl, rfl⟩ | ⟨rfl, rfl⟩
    · exact br_t rfl (k228 _ _ hG0)
    · exact br_f (by decide) (k228 _ _ hG0)
  refine br_f (nI_pos (by omega)) (br_f (fun q => ?_) ?_)
  · rw [nI_eq (by omega) (by omega)] at q; omega
  · rcases ho with rfl | ⟨ho, hc⟩
    · exact br_t rfl k204
    · refine br_f (fun q => ?_) (br_t (nI_lt hc (by omega)) k204)
      rcases ho with rfl | rfl
      · exact absurd q (by decide)
      · exact absurd q (by decide)
end
end
section
/-! the target of a motion -/
theorem pk_sub_toInt {a b : Nat} (ha : a < 2 ^ 30) (hb : b < 2 ^ 30) : (nI a - nI b).toInt = (a : Int) - b := by
  rw [Int32.toInt_sub, nI_toInt (by omega), nI_toInt (by omega)]
  exact Int.bmod_eq_of_le (by omega) (by omega)
theorem me_subLe {A B : Prop} (a b s : Nat) (ha : a ≤ 32) (hb : b ≤ 32) (hs : s ≤ 32) (f : a - b ≤ s → A) (g : s < a - b → B) : (nI a - nI b ≤ nI s → A) ∧ (¬ nI a - nI b ≤ nI s → B) := by
  have e : nI a - nI b ≤ nI s ↔ a - b ≤ s := by
    rw [Int32.le_iff_toInt_le, pk_sub_toInt (by omega) (by omega), nI_toInt (by omega)]
    omega
  rw [e]
  exact ⟨f, fun z => g (by omega)⟩
theorem me_sub97 {n : Nat} (h : 97 ≤ n) : nI n - 97 = nI (n - 97) := pk_sub (b := 97) h
theorem me_neg97 {n : Nat} (h : n < 97) : nI n - 97 < 0 := by
  rw [Int32.lt_iff_toInt_lt, show (97 : Int32) = nI 97 from rfl, pk_sub_toInt (by omega) (by omega), show (0 : Int32).toInt = 0 from by decide]
  omega
/-- what a motion's answer o has to be for both sides -/
def me_Tg (c : me_CC) (key operand : Int32) (o : Option Nat) : Prop := match c with
  | (tcap, ncap, lvs, t, len, cur, mks, kd, sz, st, cnt, now, par, rd, nt, nl, nc, nm, reg, k1, op, k2, wt, ss, cp, rr, cr, cc, fr, kl, tk) => (∀ p, o = some p → p ≤ len) ∧ (key = 102 → ∀ p, o = some p → cur < p ∧ p < len) ∧
    (∀ (f_spanFrom f_spanTo f_spanTextEnd f_spanKind : Int32) (a_text a_marks a_regKinds a_regLens a_regCodes a_nodeParent a_nodeRedo a_nodeLen a_nodeCur a_nodeMarks a_nodeText a_recCodes a_chKeys a_chText a_frameCodes a_frameLen a_framePos a_frameTimes a_frameLevel : Nat → Int32) (post : Int32 → Prop), me_TX t len mks a_text a_marks → post (me_o o) → wpX_motionTarget post (nI tcap, nI ncap, nI lvs, nI len, nI cur, nI cnt, nI now, me_o reg, nI k1, op, nI k2, wt, me_o ss, nI cp, me_o rr, nI (sz 4), nI (sz 5), nI (sz 6), me_o cr, nI cc, nI fr.length, nI kl, f_spanFrom, f_spanTo, f_spanTextEnd, f_spanKind, a_text, a_marks, a_regKinds, a_regLens, a_regCodes, a_nodeParent, a_nodeRedo, a_nodeLen, a_nodeCur, a_nodeMarks, a_nodeText, a_recCodes, a_chKeys, a_chText, a_frameCodes, a_frameLen, a_framePos, a_frameTimes, a_frameLevel) key operand) ∧
    (∀ (q : Nat) (a_text a_marks a_info a_held a_strips a_size a_kind a_dueKey a_dueLevel : Nat → Int32) (post : Int32 → Prop), me_TX t len mks a_text a_marks → post (me_o o) → wpY_target post (nI tcap, nI ncap, nI lvs, nI len, nI cur, nI now, nI cnt, nI q, nI k1, op, nI k2, wt, nI cp, nI cc, me_o reg, me_o ss, me_o rr, me_o cr, a_text, a_marks, a_info, a_held, a_strips, a_size, a_kind, a_dueKey, a_dueLevel) key operand)
theorem me_it_le {f : Nat → Nat} (h : ∀ p, f p ≤ p) : ∀ n p, me_it f n p ≤ p
  | 0, p => Nat.le_refl _
  | n + 1, p => Nat.le_trans (me_it_le h n (f p)) (h p)
section
variable {f_cap f_nodeCap f_levels f_len f_cur f_now f_nodeCount f_queued f_c1 f_op f_c2 f_waits f_copies f_recCount f_reg f_begin f_recording f_recReg : Int32} {a_text a_marks a_info a_held a_strips a_size a_kind a_dueKey a_dueLevel : Nat → Int32}
theorem ye_target_165z {post : Int32 → Prop} {t : Nat → Int32} {len : Nat} {key : Int32} {e n : Nat} (he : e ≤ len) (hl : len ≤ 32) (hn : n ≤ 32) (ht : ∀ i, i < len → a_text i = t i) (d i : Nat) (hd : i + d = e ∨ (d = 0 ∧ e ≤ i ∧ i ≤ 33)) (h1 : 1 ≤ n) (H : post (me_o (me_fnA t key d i n))) : wY_target_165 post key (nI n) (nI e) f_cap f_nodeCap f_levels f_len f_cur f_now f_nodeCount f_queued f_c1 f_op f_c2 f_waits f_copies f_recCount f_reg f_begin f_recording f_recReg a_text a_marks a_info a_held a_strips a_size a_kind a_dueKey a_dueLevel (d + 1) 0 (nI i) := by
  have e0 : nI 0 = nI (n - n) := by rw [Nat.sub_self]
  show wY_target_165 post key (nI n) (nI e) f_cap f_nodeCap f_levels f_len f_cur f_now f_nodeCount f_queued f_c1 f_op f_c2 f_waits f_copies f_recCount f_reg f_begin f_recording f_recReg a_text a_marks a_info a_held a_strips a_size a_kind a_dueKey a_dueLevel (d + 1) (nI 0) (nI i)
  rw [e0]
  exact ye_target_165 he hl hn ht d i n hd h1 (Nat.le_refl _) H
end
section
variable {tcap : Nat} {ncap : Nat} {lvs : Nat} {t : Nat → Int32} {len : Nat} {cur : Nat} {mks : Nat → Option Nat} {kd : Nat → Nat} {sz : Nat → Nat} {st : Nat → Nat → Int32} {cnt : Nat} {now : Nat} {par : Nat → Option Nat} {rd : Nat → Option Nat} {nt : Nat → Nat → Int32} {nl : Nat → Nat} {nc : Nat → Nat} {nm : Nat → Nat → Option Nat} {reg : Option Nat} {k1 : Nat} {op : Int32} {k2 : Nat} {wt : Int32} {ss : Option Nat} {cp : Nat} {rr : Option Nat} {cr : Option Nat} {cc : Nat} {fr : List (List Int32 × Nat × Nat × Nat)} {kl : Nat} {tk : Nat}
theorem me_tg_h (I : me_Inv (tcap, ncap, lvs, t, len, cur, mks, kd, sz, st, cnt, now, par, rd, nt, nl, nc, nm, reg, k1, op, k2, wt, ss, cp, rr, cr, cc, fr, kl, tk)) {operand : Int32} : me_Tg (tcap, ncap, lvs, t, len, cur, mks, kd, sz, st, cnt, now, par, rd, nt, nl, nc, nm, reg, k1, op, k2, wt, ss, cp, rr, cr, cc, fr, kl, tk) 104 operand (some (if cur - me_nt k1 k2 ≤ me_ls t cur then me_ls t cur else cur - me_nt k1 k2)) := by
  obtain ⟨⟨a1, a2, a3, a4, a5, a6⟩, ⟨t1, t2, t3, t4⟩, hIG, hIN, ⟨hr, hk1, hk2, hop, hwt, hwo⟩, hIS, hIF⟩ := I
  have hn := me_nt_b k1 k2
  have hls := me_ls_le t cur
  have hle := me_le_b (t := t) t2
  refine ⟨fun p hp => ?_, fun h => absurd h (by decide), ?_, ?_⟩
  · cases hp; split <;> omega
  · intro f_spanFrom f_spanTo f_spanTextEnd f_spanKind a_text a_marks a_regKinds a_regLens a_regCodes a_nodeParent a_nodeRedo a_nodeLen a_nodeCur a_nodeMarks a_nodeText a_recCodes a_chKeys a_chText a_frameCodes a_frameLen a_framePos a_frameTimes a_frameLevel post hT H
    refine xe_times hk1 hk2 (xe_lineStart (t := t) (by omega) (fun i hi => hT.1 i (by omega)) (xe_lineEnd (t := t) t2 (by omega) hT.1 ?_))
    refine br_f (by decide) (br_f (by decide) (br_f (by decide) (br_f (by decide) (br_f (by decide) (br_t rfl (me_subLe cur _ _ (by omega) (by omega) (by omega) (fun h => ?_) (fun h => ?_)))))))
    · rw [if_pos h] at H; exact H
    · rw [if_neg (by omega)] at H; rw [pk_sub (by omega)]; exact H
  · intro q a_text a_marks a_info a_held a_strips a_size a_kind a_dueKey a_dueLevel post hT H
    refine ye_times hk1 hk2 (ye_startOf (t := t) (by omega) (fun i hi => hT.1 i (by omega)) (ye_endOf (t := t) t2 (by omega) hT.1 (nm_r (pk_sub hls) ?_)))
    refine br_t rfl (me_subLe cur _ _ (by omega) (by omega) (by omega) (fun h => ?_) (fun h => ?_))
    · rw [if_pos h] at H; exact H
    · rw [if_neg (by omega)] at H; rw [pk_sub (by omega)]; exact H
theorem me_tg_l (I : me_Inv (tcap, ncap, lvs, t, len, cur, mks, kd, sz, st, cnt, now, par, rd, nt, nl, nc, nm, reg, k1, op, k2, wt, ss, cp, rr, cr, cc, fr, kl, tk)) {operand : Int32} : me_Tg (tcap, ncap, lvs, t, len, cur, mks, kd, sz, st, cnt, now, par, rd, nt, nl, nc, nm, reg, k1, op, k2, wt, ss, cp, rr, cr, cc, fr, kl, tk) 108 operand (some (if me_le t len cur ≤ cur + me_nt k1 k2 then me_le t len cur else cur + me_nt k1 k2)) := by
  obtain ⟨⟨a1, a2, a3, a4, a5, a6⟩, ⟨t1, t2, t3, t4⟩, hIG, hIN, ⟨hr, hk1, hk2, hop, hwt, hwo⟩, hIS, hIF⟩ := I
  have hn := me_nt_b k1 k2
  have hls := me_ls_le t cur
  have hle := me_le_b (t := t) t2
  refine ⟨fun p hp => ?_, fun h => absurd h (by decide), ?_, ?_⟩
  · cases hp; split <;> omega
  · intro f_spanFrom f_spanTo f_spanTextEnd f_spanKind a_text a_marks a_regKinds a_regLens a_regCodes a_nodeParent a_nodeRedo a_nodeLen a_nodeCur a_nodeMarks a_nodeText a_recCodes a_chKeys a_chText a_frameCodes a_frameLen a_framePos a_frameTimes a_frameLevel post hT H
    refine xe_times hk1 hk2 (xe_lineStart (t := t) (by omega) (fun i hi => hT.1 i (by omega)) (xe_lineEnd (t := t) t2 (by omega) hT.1 ?_))
    rw [nI_add]
    refine br_f (by decide) (br_f (by decide) (br_f (by decide) (br_f (by decide) (br_f (by decide) (br_f (by decide) (br_f (by decide) (br_f (by decide) (br_t rfl (pk_le (me_le t len cur) (cur + me_nt k1 k2) (fun h => ?_) (fun h => ?_))))))))))
    · rw [if_pos h] at H; exact H
    · rw [if_neg (by omega)] at H; exact H
  · intro q a_text a_marks a_info a_held a_strips a_size a_kind a_dueKey a_dueLevel post hT H
    refine ye_times hk1 hk2 (ye_startOf (t := t) (by omega) (fun i hi => hT.1 i (by omega)) (ye_endOf (t := t) t2 (by omega) hT.1 (nm_r (pk_sub hls) ?_)))
    rw [nI_add]
    refine br_f (by decide) (br_t rfl (pk_le (me_le t len cur) (cur + me_nt k1 k2) (fun h => ?_) (fun h => ?_)))
    · rw [if_pos h] at H; exact H
    · rw [if_neg (by omega)] at H; exact H
theorem me_tg_0 (I : me_Inv (tcap, ncap, lvs, t, len, cur, mks, kd, sz, st, cnt, now, par, rd, nt, nl, nc, nm, reg, k1, op, k2, wt, ss, cp, rr, cr, cc, fr, kl, tk)) {operand : Int32} : me_Tg (tcap, ncap, lvs, t, len, cur, mks, kd, sz, st, cnt, now, par, rd, nt, nl, nc, nm, reg, k1, op, k2, wt, ss, cp, rr, cr, cc, fr, kl, tk) 48 operand (some (me_ls t cur)) := by
  obtain ⟨⟨a1, a2, a3, a4, a5, a6⟩, ⟨t1, t2, t3, t4⟩, hIG, hIN, ⟨hr, hk1, hk2, hop, hwt, hwo⟩, hIS, hIF⟩ := I
  have hn := me_nt_b k1 k2
  have hls := me_ls_le t cur
  have hle := me_le_b (t := t) t2
  refine ⟨fun p hp => ?_, fun h => absurd h (by decide), ?_, ?_⟩
  · cases hp; omega
  · intro f_spanFrom f_spanTo f_spanTextEnd f_spanKind a_text a_marks a_regKinds a_regLens a_regCodes a_nodeParent a_nodeRedo a_nodeLen a_nodeCur a_nodeMarks a_nodeText a_recCodes a_chKeys a_chText a_frameCodes a_frameLen a_framePos a_frameTimes a_frameLevel post hT H
    refine xe_times hk1 hk2 (xe_lineStart (t := t) (by omega) (fun i hi => hT.1 i (by omega)) (xe_lineEnd (t := t) t2 (by omega) hT.1 ?_))
    exact br_f (by decide) (br_t rfl (H))
  · intro q a_text a_marks a_info a_held a_strips a_size a_kind a_dueKey a_dueLevel post hT H
    refine ye_times hk1 hk2 (ye_startOf (t := t) (by omega) (fun i hi => hT.1 i (by omega)) (ye_endOf (t := t) t2 (by omega) hT.1 (nm_r (pk_sub hls) ?_)))
    exact br_f (by decide) (br_f (by decide) (br_t rfl (H)))
theorem me_tg_e (I : me_Inv (tcap, ncap, lvs, t, len, cur, mks, kd, sz, st, cnt, now, par, rd, nt, nl, nc, nm, reg, k1, op, k2, wt, ss, cp, rr, cr, cc, fr, kl, tk)) {operand : Int32} : me_Tg (tcap, ncap, lvs, t, len, cur, mks, kd, sz, st, cnt, now, par, rd, nt, nl, nc, nm, reg, k1, op, k2, wt, ss, cp, rr, cr, cc, fr, kl, tk) 36 operand (some (me_le t len cur)) := by
  obtain ⟨⟨a1, a2, a3, a4, a5, a6⟩, ⟨t1, t2, t3, t4⟩, hIG, hIN, ⟨hr, hk1, hk2, hop, hwt, hwo⟩, hIS, hIF⟩ := I
  have hn := me_nt_b k1 k2
  have hls := me_ls_le t cur
  have hle := me_le_b (t := t) t2
  refine ⟨fun p hp => ?_, fun h => absurd h (by decide), ?_, ?_⟩
  · cases hp; omega
  · intro f_spanFrom f_spanTo f_spanTextEnd f_spanKind a_text a_marks a_regKinds a_regLens a_regCodes a_nodeParent a_nodeRedo a_nodeLen a_nodeCur a_nodeMarks a_nodeText a_recCodes a_chKeys a_chText a_frameCodes a_frameLen a_framePos a_frameTimes a_frameLevel post hT H
    refine xe_times hk1 hk2 (xe_lineStart (t := t) (by omega) (fun i hi => hT.1 i (by omega)) (xe_lineEnd (t := t) t2 (by omega) hT.1 ?_))
    exact br_t rfl (H)
  · intro q a_text a_marks a_info a_held a_strips a_size a_kind a_dueKey a_dueLevel post hT H
    refine ye_times hk1 hk2 (ye_startOf (t := t) (by omega) (fun i hi => hT.1 i (by omega)) (ye_endOf (t := t) t2 (by omega) hT.1 (nm_r (pk_sub hls) ?_)))
    exact br_f (by decide) (br_f (by decide) (br_f (by decide) (br_t rfl (H))))
theorem me_tg_w (I : me_Inv (tcap, ncap, lvs, t, len, cur, mks, kd, sz, st, cnt, now, par, rd, nt, nl, nc, nm, reg, k1, op, k2, wt, ss, cp, rr, cr, cc, fr, kl, tk)) {operand : Int32} : me_Tg (tcap, ncap, lvs, t, len, cur, mks, kd, sz, st, cnt, now, par, rd, nt, nl, nc, nm, reg, k1, op, k2, wt, ss, cp, rr, cr, cc, fr, kl, tk) 119 operand (some (me_it (me_wr t len) (me_nt k1 k2) cur)) := by
  obtain ⟨⟨a1, a2, a3, a4, a5, a6⟩, ⟨t1, t2, t3, t4⟩, hIG, hIN, ⟨hr, hk1, hk2, hop, hwt, hwo⟩, hIS, hIF⟩ := I
  have hn := me_nt_b k1 k2
  have hls := me_ls_le t cur
  have hle := me_le_b (t := t) t2
  refine ⟨fun p hp => ?_, fun h => absurd h (by decide), ?_, ?_⟩
  · cases hp; exact me_it_b (fun p hp => me_wr_b hp) _ _ t2
  · intro f_spanFrom f_spanTo f_spanTextEnd f_spanKind a_text a_marks a_regKinds a_regLens a_regCodes a_nodeParent a_nodeRedo a_nodeLen a_nodeCur a_nodeMarks a_nodeText a_recCodes a_chKeys a_chText a_frameCodes a_frameLen a_framePos a_frameTimes a_frameLevel post hT H
    refine xe_times hk1 hk2 (xe_lineStart (t := t) (by omega) (fun i hi => hT.1 i (by omega)) (xe_lineEnd (t := t) t2 (by omega) hT.1 ?_))
    exact br_f (by decide) (br_f (by decide) (br_f (by decide) (br_f (by decide) (br_f (by decide) (br_f (by decide) (br_f (by decide) (br_f (by decide) (br_f (by decide) (br_t rfl (xe_wordRight (t := t) (by omega) (by omega) hT.1 t2 H))))))))))
  · intro q a_text a_marks a_info a_held a_strips a_size a_kind a_dueKey a_dueLevel post hT H
    refine ye_times hk1 hk2 (ye_startOf (t := t) (by omega) (fun i hi => hT.1 i (by omega)) (ye_endOf (t := t) t2 (by omega) hT.1 (nm_r (pk_sub hls) ?_)))
    exact br_f (by decide) (br_f (by decide) (br_f (by decide) (br_f (by decide) (br_f (by decide) (br_f (by decide) (br_f (by decide) (br_t rfl (⟨_, ye_target_218r (t := t) (by omega) hT.1 (by omega) (me_nt k1 k2) 0 cur (by omega) t2 H⟩))))))))
theorem me_tg_b (I : me_Inv (tcap, ncap, lvs, t, len, cur, mks, kd, sz, st, cnt, now, par, rd, nt, nl, nc, nm, reg, k1, op, k2, wt, ss, cp, rr, cr, cc, fr, kl, tk)) {operand : Int32} : me_Tg (tcap, ncap, lvs, t, len, cur, mks, kd, sz, st, cnt, now, par, rd, nt, nl, nc, nm, reg, k1, op, k2, wt, ss, cp, rr, cr, cc, fr, kl, tk) 98 operand (some (me_it (me_wl t) (me_nt k1 k2) cur)) := by
  obtain ⟨⟨a1, a2, a3, a4, a5, a6⟩, ⟨t1, t2, t3, t4⟩, hIG, hIN, ⟨hr, hk1, hk2, hop, hwt, hwo⟩, hIS, hIF⟩ := I
  have hn := me_nt_b k1 k2
  have hls := me_ls_le t cur
  have hle := me_le_b (t := t) t2
  refine ⟨fun p hp => ?_, fun h => absurd h (by decide), ?_, ?_⟩
  · cases hp; exact Nat.le_trans (me_it_le (me_wl_b t) _ _) t2
  · intro f_spanFrom f_spanTo f_spanTextEnd f_spanKind a_text a_marks a_regKinds a_regLens a_regCodes a_nodeParent a_nodeRedo a_nodeLen a_nodeCur a_nodeMarks a_nodeText a_recCodes a_chKeys a_chText a_frameCodes a_frameLen a_framePos a_frameTimes a_frameLevel post hT H
    refine xe_times hk1 hk2 (xe_lineStart (t := t) (by omega) (fun i hi => hT.1 i (by omega)) (xe_lineEnd (t := t) t2 (by omega) hT.1 ?_))
    exact br_f (by decide) (br_f (by decide) (br_f (by decide) (br_t rfl (xe_wordLeft (t := t) (by omega) (by omega) hT.1 t2 H))))
  · intro q a_text a_marks a_info a_held a_strips a_size a_kind a_dueKey a_dueLevel post hT H
    refine ye_times hk1 hk2 (ye_startOf (t := t) (by omega) (fun i hi => hT.1 i (by omega)) (ye_endOf (t := t) t2 (by omega) hT.1 (nm_r (pk_sub hls) ?_)))
    exact br_f (by decide) (br_f (by decide) (br_f (by decide) (br_f (by decide) (br_f (by decide) (br_f (by decide) (br_f (by decide) (br_f (by decide) (br_t rfl (⟨_, ye_target_218l (t := t) (by omega) hT.1 (by omega) (me_nt k1 k2) 0 cur (by omega) t2 H⟩)))))))))
theorem me_tg_f (I : me_Inv (tcap, ncap, lvs, t, len, cur, mks, kd, sz, st, cnt, now, par, rd, nt, nl, nc, nm, reg, k1, op, k2, wt, ss, cp, rr, cr, cc, fr, kl, tk)) {operand : Int32} : me_Tg (tcap, ncap, lvs, t, len, cur, mks, kd, sz, st, cnt, now, par, rd, nt, nl, nc, nm, reg, k1, op, k2, wt, ss, cp, rr, cr, cc, fr, kl, tk) 102 operand (me_fnA t operand (me_le t len cur - (cur + 1)) (cur + 1) (me_nt k1 k2)) := by
  obtain ⟨⟨a1, a2, a3, a4, a5, a6⟩, ⟨t1, t2, t3, t4⟩, hIG, hIN, ⟨hr, hk1, hk2, hop, hwt, hwo⟩, hIS, hIF⟩ := I
  have hn := me_nt_b k1 k2
  have hls := me_ls_le t cur
  have hle := me_le_b (t := t) t2
  refine ⟨fun p hp => ?_, fun _ p hp => by have := me_fnA_b _ _ _ _ hp; omega, ?_, ?_⟩
  · have := me_fnA_b _ _ _ _ hp; omega
  · intro f_spanFrom f_spanTo f_spanTextEnd f_spanKind a_text a_marks a_regKinds a_regLens a_regCodes a_nodeParent a_nodeRedo a_nodeLen a_nodeCur a_nodeMarks a_nodeText a_recCodes a_chKeys a_chText a_frameCodes a_frameLen a_framePos a_frameTimes a_frameLevel post hT H
    refine xe_times hk1 hk2 (xe_lineStart (t := t) (by omega) (fun i hi => hT.1 i (by omega)) (xe_lineEnd (t := t) t2 (by omega) hT.1 ?_))
    exact br_f (by decide) (br_f (by decide) (br_f (by decide) (br_f (by decide) (br_t rfl (xe_findOnLine (t := t) hn.1 hn.2 (by omega) hT.1 t2 H)))))
  · intro q a_text a_marks a_info a_held a_strips a_size a_kind a_dueKey a_dueLevel post hT H
    refine ye_times hk1 hk2 (ye_startOf (t := t) (by omega) (fun i hi => hT.1 i (by omega)) (ye_endOf (t := t) t2 (by omega) hT.1 (nm_r (pk_sub hls) ?_)))
    exact br_f (by decide) (br_f (by decide) (br_f (by decide) (br_f (by decide) (br_f (by decide) (br_f (by decide) (br_t rfl (nm_r (nI_1 cur) ⟨_, ye_target_165z (t := t) (len := len) hle.2 (by omega) hn.2 hT.1 (me_le t len cur - (cur + 1)) (cur + 1) (by omega) hn.1 H⟩)))))))
theorem me_tg_j (I : me_Inv (tcap, ncap, lvs, t, len, cur, mks, kd, sz, st, cnt, now, par, rd, nt, nl, nc, nm, reg, k1, op, k2, wt, ss, cp, rr, cr, cc, fr, kl, tk)) {operand : Int32} : me_Tg (tcap, ncap, lvs, t, len, cur, mks, kd, sz, st, cnt, now, par, rd, nt, nl, nc, nm, reg, k1, op, k2, wt, ss, cp, rr, cr, cc, fr, kl, tk) 106 operand (some (me_il t len (me_it (me_lb t len) (me_nt k1 k2) (me_ls t cur)) (cur - me_ls t cur))) := by
  obtain ⟨⟨a1, a2, a3, a4, a5, a6⟩, ⟨t1, t2, t3, t4⟩, hIG, hIN, ⟨hr, hk1, hk2, hop, hwt, hwo⟩, hIS, hIF⟩ := I
  have hn := me_nt_b k1 k2
  have hls := me_ls_le t cur
  have hle := me_le_b (t := t) t2
  have hne : ¬ (106 : Int32) = op := fun e => by subst e; exact absurd hop (by decide)
  refine ⟨fun p hp => ?_, fun h => absurd h (by decide), ?_, ?_⟩
  · cases hp; exact me_il_b (me_it_b (fun p hp => me_lb_b hp) _ _ (by omega))
  · intro f_spanFrom f_spanTo f_spanTextEnd f_spanKind a_text a_marks a_regKinds a_regLens a_regCodes a_nodeParent a_nodeRedo a_nodeLen a_nodeCur a_nodeMarks a_nodeText a_recCodes a_chKeys a_chText a_frameCodes a_frameLen a_framePos a_frameTimes a_frameLevel post hT H
    refine xe_times hk1 hk2 (xe_lineStart (t := t) (by omega) (fun i hi => hT.1 i (by omega)) (xe_lineEnd (t := t) t2 (by omega) hT.1 ?_))
    exact br_f (by decide) (br_f (by decide) (br_f (by decide) (br_f (by decide) (br_f (by decide) (br_f (by decide) (br_t rfl (xe_linesBelow (t := t) (by omega) (by omega) hT.1 t2 H)))))))
  · intro q a_text a_marks a_info a_held a_strips a_size a_kind a_dueKey a_dueLevel post hT H
    refine ye_times hk1 hk2 (ye_startOf (t := t) (by omega) (fun i hi => hT.1 i (by omega)) (ye_endOf (t := t) t2 (by omega) hT.1 (nm_r (pk_sub hls) ?_)))
    exact br_f (by decide) (br_f (by decide) (br_f (by decide) (br_f (by decide) (br_f (by decide) (br_f (by decide) (br_f (by decide) (br_f (by decide) (br_f (by decide) (br_f hne ⟨_, ye_target_276b (t := t) (by omega) hT.1 (by decide) (by omega) (by omega) (me_nt k1 k2) 0 _ (by omega) (by omega) H⟩)))))))))
theorem me_tg_k (I : me_Inv (tcap, ncap, lvs, t, len, cur, mks, kd, sz, st, cnt, now, par, rd, nt, nl, nc, nm, reg, k1, op, k2, wt, ss, cp, rr, cr, cc, fr, kl, tk)) {operand : Int32} : me_Tg (tcap, ncap, lvs, t, len, cur, mks, kd, sz, st, cnt, now, par, rd, nt, nl, nc, nm, reg, k1, op, k2, wt, ss, cp, rr, cr, cc, fr, kl, tk) 107 operand (some (me_il t len (me_it (me_la t) (me_nt k1 k2) (me_ls t cur)) (cur - me_ls t cur))) := by
  obtain ⟨⟨a1, a2, a3, a4, a5, a6⟩, ⟨t1, t2, t3, t4⟩, hIG, hIN, ⟨hr, hk1, hk2, hop, hwt, hwo⟩, hIS, hIF⟩ := I
  have hn := me_nt_b k1 k2
  have hls := me_ls_le t cur
  have hle := me_le_b (t := t) t2
  have hne : ¬ (107 : Int32) = op := fun e => by subst e; exact absurd hop (by decide)
  refine ⟨fun p hp => ?_, fun h => absurd h (by decide), ?_, ?_⟩
  · cases hp; exact me_il_b (me_it_b (fun p hp => me_la_b hp) _ _ (by omega))
  · intro f_spanFrom f_spanTo f_spanTextEnd f_spanKind a_text a_marks a_regKinds a_regLens a_regCodes a_nodeParent a_nodeRedo a_nodeLen a_nodeCur a_nodeMarks a_nodeText a_recCodes a_chKeys a_chText a_frameCodes a_frameLen a_framePos a_frameTimes a_frameLevel post hT H
    refine xe_times hk1 hk2 (xe_lineStart (t := t) (by omega) (fun i hi => hT.1 i (by omega)) (xe_lineEnd (t := t) t2 (by omega) hT.1 ?_))
    exact br_f (by decide) (br_f (by decide) (br_f (by decide) (br_f (by decide) (br_f (by decide) (br_f (by decide) (br_f (by decide) (br_t rfl (xe_linesAbove (t := t) (by omega) (by omega) hT.1 t2 H))))))))
  · intro q a_text a_marks a_info a_held a_strips a_size a_kind a_dueKey a_dueLevel post hT H
    refine ye_times hk1 hk2 (ye_startOf (t := t) (by omega) (fun i hi => hT.1 i (by omega)) (ye_endOf (t := t) t2 (by omega) hT.1 (nm_r (pk_sub hls) ?_)))
    exact br_f (by decide) (br_f (by decide) (br_f (by decide) (br_f (by decide) (br_f (by decide) (br_f (by decide) (br_f (by decide) (br_f (by decide) (br_f (by decide) (br_f hne ⟨_, ye_target_276a (t := t) (by omega) hT.1 (by omega) (by omega) (me_nt k1 k2) 0 _ (by omega) (by omega) H⟩)))))))))
theorem me_tg_d99 (I : me_Inv (tcap, ncap, lvs, t, len, cur, mks, kd, sz, st, cnt, now, par, rd, nt, nl, nc, nm, reg, k1, op, k2, wt, ss, cp, rr, cr, cc, fr, kl, tk)) {operand : Int32} (ho : op = 99) : me_Tg (tcap, ncap, lvs, t, len, cur, mks, kd, sz, st, cnt, now, par, rd, nt, nl, nc, nm, reg, k1, op, k2, wt, ss, cp, rr, cr, cc, fr, kl, tk) 99 operand (some (me_il t len (me_it (me_lb t len) (me_nt k1 k2 - 1) (me_ls t cur)) (cur - me_ls t cur))) := by
  obtain ⟨⟨a1, a2, a3, a4, a5, a6⟩, ⟨t1, t2, t3, t4⟩, hIG, hIN, ⟨hr, hk1, hk2, hop, hwt, hwo⟩, hIS, hIF⟩ := I
  have hn := me_nt_b k1 k2
  have hls := me_ls_le t cur
  have hle := me_le_b (t := t) t2
  refine ⟨fun p hp => ?_, fun h => absurd h (by decide), ?_, ?_⟩
  · cases hp; exact me_il_b (me_it_b (fun p hp => me_lb_b hp) _ _ (by omega))
  · intro f_spanFrom f_spanTo f_spanTextEnd f_spanKind a_text a_marks a_regKinds a_regLens a_regCodes a_nodeParent a_nodeRedo a_nodeLen a_nodeCur a_nodeMarks a_nodeText a_recCodes a_chKeys a_chText a_frameCodes a_frameLen a_framePos a_frameTimes a_frameLevel post hT H
    refine xe_times hk1 hk2 (xe_lineStart (t := t) (by omega) (fun i hi => hT.1 i (by omega)) (xe_lineEnd (t := t) t2 (by omega) hT.1 ?_))
    rw [me_sub1 hn.1]
    exact br_f (by decide) (br_f (by decide) (br_f (by decide) (br_f (by decide) (br_f (by decide) (br_f (by decide) (br_f (by decide) (br_f (by decide) (br_f (by decide) (br_f (by decide) (xe_linesBelow (t := t) (by omega) (by omega) hT.1 t2 H))))))))))
  · intro q a_text a_marks a_info a_held a_strips a_size a_kind a_dueKey a_dueLevel post hT H
    refine ye_times hk1 hk2 (ye_startOf (t := t) (by omega) (fun i hi => hT.1 i (by omega)) (ye_endOf (t := t) t2 (by omega) hT.1 (nm_r (pk_sub hls) ?_)))
    exact br_f (by decide) (br_f (by decide) (br_f (by decide) (br_f (by decide) (br_f (by decide) (br_f (by decide) (br_f (by decide) (br_f (by decide) (br_f (by decide) (br_t ho.symm (nm_r (me_sub1 hn.1) ⟨_, ye_target_276b (t := t) (by omega) hT.1 (by decide) (by omega) (by omega) (me_nt k1 k2 - 1) 0 _ (by omega) (by omega) H⟩))))))))))
theorem me_tg_d100 (I : me_Inv (tcap, ncap, lvs, t, len, cur, mks, kd, sz, st, cnt, now, par, rd, nt, nl, nc, nm, reg, k1, op, k2, wt, ss, cp, rr, cr, cc, fr, kl, tk)) {operand : Int32} (ho : op = 100) : me_Tg (tcap, ncap, lvs, t, len, cur, mks, kd, sz, st, cnt, now, par, rd, nt, nl, nc, nm, reg, k1, op, k2, wt, ss, cp, rr, cr, cc, fr, kl, tk) 100 operand (some (me_il t len (me_it (me_lb t len) (me_nt k1 k2 - 1) (me_ls t cur)) (cur - me_ls t cur))) := by
  obtain ⟨⟨a1, a2, a3, a4, a5, a6⟩, ⟨t1, t2, t3, t4⟩, hIG, hIN, ⟨hr, hk1, hk2, hop, hwt, hwo⟩, hIS, hIF⟩ := I
  have hn := me_nt_b k1 k2
  have hls := me_ls_le t cur
  have hle := me_le_b (t := t) t2
  refine ⟨fun p hp => ?_, fun h => absurd h (by decide), ?_, ?_⟩
  · cases hp; exact me_il_b (me_it_b (fun p hp => me_lb_b hp) _ _ (by omega))
  · intro f_spanFrom f_spanTo f_spanTextEnd f_spanKind a_text a_marks a_regKinds a_regLens a_regCodes a_nodeParent a_nodeRedo a_nodeLen a_nodeCur a_nodeMarks a_nodeText a_recCodes a_chKeys a_chText a_frameCodes a_frameLen a_framePos a_frameTimes a_frameLevel post hT H
    refine xe_times hk1 hk2 (xe_lineStart (t := t) (by omega) (fun i hi => hT.1 i (by omega)) (xe_lineEnd (t := t) t2 (by omega) hT.1 ?_))
    rw [me_sub1 hn.1]
    exact br_f (by decide) (br_f (by decide) (br_f (by decide) (br_f (by decide) (br_f (by decide) (br_f (by decide) (br_f (by decide) (br_f (by decide) (br_f (by decide) (br_f (by decide) (xe_linesBelow (t := t) (by omega) (by omega) hT.1 t2 H))))))))))
  · intro q a_text a_marks a_info a_held a_strips a_size a_kind a_dueKey a_dueLevel post hT H
    refine ye_times hk1 hk2 (ye_startOf (t := t) (by omega) (fun i hi => hT.1 i (by omega)) (ye_endOf (t := t) t2 (by omega) hT.1 (nm_r (pk_sub hls) ?_)))
    exact br_f (by decide) (br_f (by decide) (br_f (by decide) (br_f (by decide) (br_f (by decide) (br_f (by decide) (br_f (by decide) (br_f (by decide) (br_f (by decide) (br_t ho.symm (nm_r (me_sub1 hn.1) ⟨_, ye_target_276b (t := t) (by omega) hT.1 (by decide) (by omega) (by omega) (me_nt k1 k2 - 1) 0 _ (by omega) (by omega) H⟩))))))))))
theorem me_tg_d121 (I : me_Inv (tcap, ncap, lvs, t, len, cur, mks, kd, sz, st, cnt, now, par, rd, nt, nl, nc, nm, reg, k1, op, k2, wt, ss, cp, rr, cr, cc, fr, kl, tk)) {operand : Int32} (ho : op = 121) : me_Tg (tcap, ncap, lvs, t, len, cur, mks, kd, sz, st, cnt, now, par, rd, nt, nl, nc, nm, reg, k1, op, k2, wt, ss, cp, rr, cr, cc, fr, kl, tk) 121 operand (some (me_il t len (me_it (me_lb t len) (me_nt k1 k2 - 1) (me_ls t cur)) (cur - me_ls t cur))) := by
  obtain ⟨⟨a1, a2, a3, a4, a5, a6⟩, ⟨t1, t2, t3, t4⟩, hIG, hIN, ⟨hr, hk1, hk2, hop, hwt, hwo⟩, hIS, hIF⟩ := I
  have hn := me_nt_b k1 k2
  have hls := me_ls_le t cur
  have hle := me_le_b (t := t) t2
  refine ⟨fun p hp => ?_, fun h => absurd h (by decide), ?_, ?_⟩
  · cases hp; exact me_il_b (me_it_b (fun p hp => me_lb_b hp) _ _ (by omega))
  · intro f_spanFrom f_spanTo f_spanTextEnd f_spanKind a_text a_marks a_regKinds a_regLens a_regCodes a_nodeParent a_nodeRedo a_nodeLen a_nodeCur a_nodeMarks a_nodeText a_recCodes a_chKeys a_chText a_frameCodes a_frameLen a_framePos a_frameTimes a_frameLevel post hT H
    refine xe_times hk1 hk2 (xe_lineStart (t := t) (by omega) (fun i hi => hT.1 i (by omega)) (xe_lineEnd (t := t) t2 (by omega) hT.1 ?_))
    rw [me_sub1 hn.1]
    exact br_f (by decide) (br_f (by decide) (br_f (by decide) (br_f (by decide) (br_f (by decide) (br_f (by decide) (br_f (by decide) (br_f (by decide) (br_f (by decide) (br_f (by decide) (xe_linesBelow (t := t) (by omega) (by omega) hT.1 t2 H))))))))))
  · intro q a_text a_marks a_info a_held a_strips a_size a_kind a_dueKey a_dueLevel post hT H
    refine ye_times hk1 hk2 (ye_startOf (t := t) (by omega) (fun i hi => hT.1 i (by omega)) (ye_endOf (t := t) t2 (by omega) hT.1 (nm_r (pk_sub hls) ?_)))
    exact br_f (by decide) (br_f (by decide) (br_f (by decide) (br_f (by decide) (br_f (by decide) (br_f (by decide) (br_f (by decide) (br_f (by decide) (br_f (by decide) (br_t ho.symm (nm_r (me_sub1 hn.1) ⟨_, ye_target_276b (t := t) (by omega) hT.1 (by decide) (by omega) (by omega) (me_nt k1 k2 - 1) 0 _ (by omega) (by omega) H⟩))))))))))
theorem me_tg_m (I : me_Inv (tcap, ncap, lvs, t, len, cur, mks, kd, sz, st, cnt, now, par, rd, nt, nl, nc, nm, reg, k1, op, k2, wt, ss, cp, rr, cr, cc, fr, kl, tk)) {operand : Int32} (hv : me_vk operand) : me_Tg (tcap, ncap, lvs, t, len, cur, mks, kd, sz, st, cnt, now, par, rd, nt, nl, nc, nm, reg, k1, op, k2, wt, ss, cp, rr, cr, cc, fr, kl, tk) 96 operand (if 97 ≤ operand.toNatClampNeg ∧ operand.toNatClampNeg ≤ 99 then mks (operand.toNatClampNeg - 97) else none) := by
  obtain ⟨⟨a1, a2, a3, a4, a5, a6⟩, ⟨t1, t2, t3, t4⟩, hIG, hIN, ⟨hr, hk1, hk2, hop, hwt, hwo⟩, hIS, hIF⟩ := I
  have hn := me_nt_b k1 k2
  have hls := me_ls_le t cur
  have hle := me_le_b (t := t) t2
  refine ⟨fun p hp => ?_, fun h => absurd h (by decide), ?_, ?_⟩
  · obtain ⟨n, rfl, n1, n2⟩ := hv
    rw [nI_clamp (by omega)] at hp
    split at hp
    · exact t4 _ (by omega) p hp
    · cases hp
  · intro f_spanFrom f_spanTo f_spanTextEnd f_spanKind a_text a_marks a_regKinds a_regLens a_regCodes a_nodeParent a_nodeRedo a_nodeLen a_nodeCur a_nodeMarks a_nodeText a_recCodes a_chKeys a_chText a_frameCodes a_frameLen a_framePos a_frameTimes a_frameLevel post hT H
    refine xe_times hk1 hk2 (xe_lineStart (t := t) (by omega) (fun i hi => hT.1 i (by omega)) (xe_lineEnd (t := t) t2 (by omega) hT.1 ?_))
    obtain ⟨n, rfl, n1, n2⟩ := hv
    rw [nI_clamp (by omega)] at H
    refine br_f (by decide) (br_f (by decide) (br_t rfl (?_)))
    by_cases h1 : n < 97
    · rw [if_neg (by omega)] at H
      exact br_t (me_neg97 h1) H
    · rw [me_sub97 (by omega)]
      refine br_f (nI_pos (by omega)) (pk_le 3 (n - 97) (fun h => ?_) (fun h => ⟨vp_in_nI (by omega) (by omega), ?_⟩))
      · rw [if_neg (by omega)] at H; exact H
      · rw [if_pos (by omega), ← hT.2 (n - 97) (by omega)] at H
        rw [nI_clamp (by omega)]; exact H
  · intro q a_text a_marks a_info a_held a_strips a_size a_kind a_dueKey a_dueLevel post hT H
    refine ye_times hk1 hk2 (ye_startOf (t := t) (by omega) (fun i hi => hT.1 i (by omega)) (ye_endOf (t := t) t2 (by omega) hT.1 (nm_r (pk_sub hls) ?_)))
    obtain ⟨n, rfl, n1, n2⟩ := hv
    rw [nI_clamp (by omega)] at H
    refine br_f (by decide) (br_f (by decide) (br_f (by decide) (br_f (by decide) (br_t rfl (?_)))))
    refine pk_lt n 97 (fun h => ?_) (fun h => pk_lt 99 n (fun h2 => ?_) (fun h2 => ?_))
    · rw [if_neg (by omega)] at H; exact H
    · rw [if_neg (by omega)] at H; exact H
    · rw [me_sub97 (by omega)]
      rw [if_pos (by omega), ← hT.2 (n - 97) (by omega)] at H
      refine ⟨vp_in_nI (by omega) (by omega), ?_⟩
      rw [nI_clamp (by omega)]; exact H
theorem me_tg {key operand : Int32} (I : me_Inv (tcap, ncap, lvs, t, len, cur, mks, kd, sz, st, cnt, now, par, rd, nt, nl, nc, nm, reg, k1, op, k2, wt, ss, cp, rr, cr, cc, fr, kl, tk)) (hk : me_mo key ∨ (key = op ∧ op ≠ 0) ∨ key = 102 ∨ (key = 96 ∧ me_vk operand)) : ∃ o, me_Tg (tcap, ncap, lvs, t, len, cur, mks, kd, sz, st, cnt, now, par, rd, nt, nl, nc, nm, reg, k1, op, k2, wt, ss, cp, rr, cr, cc, fr, kl, tk) key operand o := by
  rcases hk with (rfl | rfl | rfl | rfl | rfl | rfl | rfl | rfl) | ⟨rfl, h0⟩ | rfl | ⟨rfl, hv⟩
  · exact ⟨_, me_tg_h I⟩
  · exact ⟨_, me_tg_l I⟩
  · exact ⟨_, me_tg_w I⟩
  · exact ⟨_, me_tg_b I⟩
  · exact ⟨_, me_tg_0 I⟩
  · exact ⟨_, me_tg_e I⟩
  · exact ⟨_, me_tg_j I⟩
  · exact ⟨_, me_tg_k I⟩
  · have ho := I.2.2.2.2.1.2.2.2.1
    rcases ho with rfl | rfl | rfl | rfl
    · exact absurd rfl h0
    · exact ⟨_, me_tg_d99 I rfl⟩
    · exact ⟨_, me_tg_d100 I rfl⟩
    · exact ⟨_, me_tg_d121 I rfl⟩
  · exact ⟨_, me_tg_f I⟩
  · exact ⟨_, me_tg_m I hv⟩
end
end
section
/-! outcomes of a command, for both sides at once -/
def me_oX (c c' : me_CC) (r : Int32) (w : (Int32 → SX → Prop) → SX → Prop) : Prop := ∀ (post : Int32 → SX → Prop) (u : SX), me_RX c u → (∀ u', me_RX c' u' → post r u') → w post u
def me_oY (c c' : me_CC) (r : Int32) (w : (Int32 → SY → Prop) → SY → Prop) : Prop := ∀ (post : Int32 → SY → Prop) (v : SY), me_RY c v → (∀ v', me_RY c' v' → post r v') → w post v
/-- a command goes on (3), is done (0), or fails (1) -/
def me_Cmd (c : me_CC) (P : me_CC → Prop) (wx : (Int32 → SX → Prop) → SX → Prop) (wy : (Int32 → SY → Prop) → SY → Prop) : Prop :=
  (∃ c', me_Inv c' ∧ P c' ∧ me_oX c c' 0 wx ∧ me_oY c c' 3 wy) ∨
  (∃ c', me_Inv c' ∧ P (me_drop c') ∧ me_oX c (me_drop c') 0 wx ∧ me_oY c c' 0 wy) ∨
  (me_oX c c 1 wx ∧ ∃ cy, me_drop cy = me_drop c ∧ me_oY c cy 1 wy)
def me_fr (c : me_CC) : List me_Fr := match c with
  | (tcap, ncap, lvs, t, len, cur, mks, kd, sz, st, cnt, now, par, rd, nt, nl, nc, nm, reg, k1, op, k2, wt, ss, cp, rr, cr, cc, fr, kl, tk) => fr
def me_tk (c : me_CC) : Nat := match c with
  | (tcap, ncap, lvs, t, len, cur, mks, kd, sz, st, cnt, now, par, rd, nt, nl, nc, nm, reg, k1, op, k2, wt, ss, cp, rr, cr, cc, fr, kl, tk) => tk
def me_kl' (c : me_CC) : Nat := match c with
  | (tcap, ncap, lvs, t, len, cur, mks, kd, sz, st, cnt, now, par, rd, nt, nl, nc, nm, reg, k1, op, k2, wt, ss, cp, rr, cr, cc, fr, kl, tk) => kl
def me_ss (c : me_CC) : Option Nat := match c with
  | (tcap, ncap, lvs, t, len, cur, mks, kd, sz, st, cnt, now, par, rd, nt, nl, nc, nm, reg, k1, op, k2, wt, ss, cp, rr, cr, cc, fr, kl, tk) => ss
/-- frames and ghost are kept -/
def me_keep (c c' : me_CC) : Prop := me_fr c' = me_fr c ∧ me_tk c' = me_tk c
theorem me_keepI {tcap : Nat} {ncap : Nat} {lvs : Nat} {t : Nat → Int32} {len : Nat} {cur : Nat} {mks : Nat → Option Nat} {kd : Nat → Nat} {sz : Nat → Nat} {st : Nat → Nat → Int32} {cnt : Nat} {now : Nat} {par : Nat → Option Nat} {rd : Nat → Option Nat} {nt : Nat → Nat → Int32} {nl : Nat → Nat} {nc : Nat → Nat} {nm : Nat → Nat → Option Nat} {reg : Option Nat} {k1 : Nat} {op : Int32} {k2 : Nat} {wt : Int32} {ss : Option Nat} {cp : Nat} {rr : Option Nat} {cr : Option Nat} {cc : Nat} {fr : List (List Int32 × Nat × Nat × Nat)} {kl : Nat} {tk : Nat} {tcap2 : Nat} {ncap2 : Nat} {lvs2 : Nat} {t2 : Nat → Int32} {len2 : Nat} {cur2 : Nat} {mks2 : Nat → Option Nat} {kd2 : Nat → Nat} {sz2 : Nat → Nat} {st2 : Nat → Nat → Int32} {cnt2 : Nat} {now2 : Nat} {par2 : Nat → Option Nat} {rd2 : Nat → Option Nat} {nt2 : Nat → Nat → Int32} {nl2 : Nat → Nat} {nc2 : Nat → Nat} {nm2 : Nat → Nat → Option Nat} {reg2 : Option Nat} {k12 : Nat} {op2 : Int32} {k22 : Nat} {wt2 : Int32} {ss2 : Option Nat} {cp2 : Nat} {rr2 : Option Nat} {cr2 : Option Nat} {cc2 : Nat} {fr2 : List (List Int32 × Nat × Nat × Nat)} {kl2 : Nat} {tk2 : Nat} (h1 : fr2 = fr) (h2 : tk2 = tk) : me_keep (tcap, ncap, lvs, t, len, cur, mks, kd, sz, st, cnt, now, par, rd, nt, nl, nc, nm, reg, k1, op, k2, wt, ss, cp, rr, cr, cc, fr, kl, tk) (tcap2, ncap2, lvs2, t2, len2, cur2, mks2, kd2, sz2, st2, cnt2, now2, par2, rd2, nt2, nl2, nc2, nm2, reg2, k12, op2, k22, wt2, ss2, cp2, rr2, cr2, cc2, fr2, kl2, tk2) := ⟨h1, h2⟩
theorem me_Cmd_P {c : me_CC} {P Q : me_CC → Prop} {wx : (Int32 → SX → Prop) → SX → Prop} {wy : (Int32 → SY → Prop) → SY → Prop} (h : me_Cmd c P wx wy) (hPQ : ∀ c', P c' → Q c') : me_Cmd c Q wx wy := by
  rcases h with ⟨c', i, p, x, y⟩ | ⟨c', i, p, x, y⟩ | h
  · exact Or.inl ⟨c', i, hPQ _ p, x, y⟩
  · exact Or.inr (Or.inl ⟨c', i, hPQ _ p, x, y⟩)
  · exact Or.inr (Or.inr h)
theorem me_impX {post post' : Int32 → SX → Prop} (h : ∀ (r : Int32) f_textCap f_nodeCap f_levels f_len f_cur f_nodeCount f_node f_reg f_c1 f_op f_c2 f_waiting f_sessionStart f_copies f_recReg f_recLen f_chKeyLen f_chTextLen f_chReg f_chCount f_depth f_keyLevel f_spanFrom f_spanTo f_spanTextEnd f_spanKind a_text a_marks a_regKinds a_regLens a_regCodes a_nodeParent a_nodeRedo a_nodeLen a_nodeCur a_nodeMarks a_nodeText a_recCodes a_chKeys a_chText a_frameCodes a_frameLen a_framePos a_frameTimes a_frameLevel, post r (f_textCap, f_nodeCap, f_levels, f_len, f_cur, f_nodeCount, f_node, f_reg, f_c1, f_op, f_c2, f_waiting, f_sessionStart, f_copies, f_recReg, f_recLen, f_chKeyLen, f_chTextLen, f_chReg, f_chCount, f_depth, f_keyLevel, f_spanFrom, f_spanTo, f_spanTextEnd, f_spanKind, a_text, a_marks, a_regKinds, a_regLens, a_regCodes, a_nodeParent, a_nodeRedo, a_nodeLen, a_nodeCur, a_nodeMarks, a_nodeText, a_recCodes, a_chKeys, a_chText, a_frameCodes, a_frameLen, a_framePos, a_frameTimes, a_frameLevel) → post' r (f_textCap, f_nodeCap, f_levels, f_len, f_cur, f_nodeCount, f_node, f_reg, f_c1, f_op, f_c2, f_waiting, f_sessionStart, f_copies, f_recReg, f_recLen, f_chKeyLen, f_chTextLen, f_chReg, f_chCount, f_depth, f_keyLevel, f_spanFrom, f_spanTo, f_spanTextEnd, f_spanKind, a_text, a_marks, a_regKinds, a_regLens, a_regCodes, a_nodeParent, a_nodeRedo, a_nodeLen, a_nodeCur, a_nodeMarks, a_nodeText, a_recCodes, a_chKeys, a_chText, a_frameCodes, a_frameLen, a_framePos, a_frameTimes, a_frameLevel)) (r : Int32) (u : SX) : post r u → post' r u := me_tupX (P := fun u => post r u → post' r u) (h r) u
theorem me_impY {post post' : Int32 → SY → Prop} (h : ∀ (r : Int32) f_cap f_nodeCap f_levels f_len f_cur f_now f_nodeCount f_queued f_c1 f_op f_c2 f_waits f_copies f_recCount f_reg f_begin f_recording f_recReg a_text a_marks a_info a_held a_strips a_size a_kind a_dueKey a_dueLevel, post r (f_cap, f_nodeCap, f_levels, f_len, f_cur, f_now, f_nodeCount, f_queued, f_c1, f_op, f_c2, f_waits, f_copies, f_recCount, f_reg, f_begin, f_recording, f_recReg, a_text, a_marks, a_info, a_held, a_strips, a_size, a_kind, a_dueKey, a_dueLevel) → post' r (f_cap, f_nodeCap, f_levels, f_len, f_cur, f_now, f_nodeCount, f_queued, f_c1, f_op, f_c2, f_waits, f_copies, f_recCount, f_reg, f_begin, f_recording, f_recReg, a_text, a_marks, a_info, a_held, a_strips, a_size, a_kind, a_dueKey, a_dueLevel)) (r : Int32) (u : SY) : post r u → post' r u := me_tupY (P := fun u => post r u → post' r u) (h r) u
/-- the walks may be exchanged for walks that they give (behind a weaker post) -/
theorem me_Cmd_W {c : me_CC} {P : me_CC → Prop} {wx wx' : (Int32 → SX → Prop) → SX → Prop} {wy wy' : (Int32 → SY → Prop) → SY → Prop} (h : me_Cmd c P wx wy) (hx : ∀ post u, me_RX c u → (∀ post' : Int32 → SX → Prop, (∀ r u, post r u → post' r u) → wx post' u) → wx' post u) (hy : ∀ post v, me_RY c v → (∀ post' : Int32 → SY → Prop, (∀ r u, post r u → post' r u) → wy post' v) → wy' post v) : me_Cmd c P wx' wy' := by
  have kx : ∀ c' r, me_oX c c' r wx → me_oX c c' r wx' := fun c' r q post u R H => hx post u R (fun post' imp => q post' u R (fun u' R' => imp _ _ (H u' R')))
  have ky : ∀ c' r, me_oY c c' r wy → me_oY c c' r wy' := fun c' r q post u R H => hy post u R (fun post' imp => q post' u R (fun u' R' => imp _ _ (H u' R')))
  rcases h with ⟨c', i, p, x, y⟩ | ⟨c', i, p, x, y⟩ | ⟨x, cy, e, y⟩
  · exact Or.inl ⟨c', i, p, kx _ _ x, ky _ _ y⟩
  · exact Or.inr (Or.inl ⟨c', i, p, kx _ _ x, ky _ _ y⟩)
  · exact Or.inr (Or.inr ⟨kx _ _ x, cy, e, ky _ _ y⟩)
/-- how a walk's goal at a told state is met -/
theorem me_mkX {tcap : Nat} {ncap : Nat} {lvs : Nat} {t : Nat → Int32} {len : Nat} {cur : Nat} {mks : Nat → Option Nat} {kd : Nat → Nat} {sz : Nat → Nat} {st : Nat → Nat → Int32} {cnt : Nat} {now : Nat} {par : Nat → Option Nat} {rd : Nat → Option Nat} {nt : Nat → Nat → Int32} {nl : Nat → Nat} {nc : Nat → Nat} {nm : Nat → Nat → Option Nat} {reg : Option Nat} {k1 : Nat} {op : Int32} {k2 : Nat} {wt : Int32} {ss : Option Nat} {cp : Nat} {rr : Option Nat} {cr : Option Nat} {cc : Nat} {fr : List (List Int32 × Nat × Nat × Nat)} {kl : Nat} {tk : Nat} {c' : me_CC} {r : Int32} {w : (Int32 → SX → Prop) → SX → Prop} (h : ∀ (post : Int32 → SX → Prop) (f_spanFrom f_spanTo f_spanTextEnd f_spanKind : Int32) (a_text a_marks a_regKinds a_regLens a_regCodes a_nodeParent a_nodeRedo a_nodeLen a_nodeCur a_nodeMarks a_nodeText a_recCodes a_chKeys a_chText a_frameCodes a_frameLen a_framePos a_frameTimes a_frameLevel : Nat → Int32), me_TX t len mks a_text a_marks → me_GX kd sz st a_regKinds a_regLens a_regCodes a_recCodes a_chKeys a_chText → me_NX cnt par rd nt nl nc nm a_nodeParent a_nodeRedo a_nodeLen a_nodeCur a_nodeMarks a_nodeText → me_FX fr a_frameCodes a_frameLen a_framePos a_frameTimes a_frameLevel → (∀ u', me_RX c' u' → post r u') → w post (nI tcap, nI ncap, nI lvs, nI len, nI cur, nI cnt, nI now, me_o reg, nI k1, op, nI k2, wt, me_o ss, nI cp, me_o rr, nI (sz 4), nI (sz 5), nI (sz 6), me_o cr, nI cc, nI fr.length, nI kl, f_spanFrom, f_spanTo, f_spanTextEnd, f_spanKind, a_text, a_marks, a_regKinds, a_regLens, a_regCodes, a_nodeParent, a_nodeRedo, a_nodeLen, a_nodeCur, a_nodeMarks, a_nodeText, a_recCodes, a_chKeys, a_chText, a_frameCodes, a_frameLen, a_framePos, a_frameTimes, a_frameLevel)) : me_oX (tcap, ncap, lvs, t, len, cur, mks, kd, sz, st, cnt, now, par, rd, nt, nl, nc, nm, reg, k1, op, k2, wt, ss, cp, rr, cr, cc, fr, kl, tk) c' r w := by
  intro post u R H
  refine me_elX (P := fun u => w post u) R ?_
  intro f_spanFrom f_spanTo f_spanTextEnd f_spanKind a_text a_marks a_regKinds a_regLens a_regCodes a_nodeParent a_nodeRedo a_nodeLen a_nodeCur a_nodeMarks a_nodeText a_recCodes a_chKeys a_chText a_frameCodes a_frameLen a_framePos a_frameTimes a_frameLevel hT hG hN hF
  exact h post _ _ _ _ a_text a_marks a_regKinds a_regLens a_regCodes a_nodeParent a_nodeRedo a_nodeLen a_nodeCur a_nodeMarks a_nodeText a_recCodes a_chKeys a_chText a_frameCodes a_frameLen a_framePos a_frameTimes a_frameLevel hT hG hN hF H
theorem me_mkY {tcap : Nat} {ncap : Nat} {lvs : Nat} {t : Nat → Int32} {len : Nat} {cur : Nat} {mks : Nat → Option Nat} {kd : Nat → Nat} {sz : Nat → Nat} {st : Nat → Nat → Int32} {cnt : Nat} {now : Nat} {par : Nat → Option Nat} {rd : Nat → Option Nat} {nt : Nat → Nat → Int32} {nl : Nat → Nat} {nc : Nat → Nat} {nm : Nat → Nat → Option Nat} {reg : Option Nat} {k1 : Nat} {op : Int32} {k2 : Nat} {wt : Int32} {ss : Option Nat} {cp : Nat} {rr : Option Nat} {cr : Option Nat} {cc : Nat} {fr : List (List Int32 × Nat × Nat × Nat)} {kl : Nat} {tk : Nat} {c' : me_CC} {r : Int32} {w : (Int32 → SY → Prop) → SY → Prop} (h : ∀ (post : Int32 → SY → Prop) (q : Nat) (a_text a_marks a_info a_held a_strips a_size a_kind a_dueKey a_dueLevel : Nat → Int32), me_TX t len mks a_text a_marks → me_GY kd sz st a_strips a_size a_kind → me_NY cnt par rd nt nl nc nm a_info a_held → me_QY (me_pend fr) tk q a_dueKey a_dueLevel → (∀ v', me_RY c' v' → post r v') → w post (nI tcap, nI ncap, nI lvs, nI len, nI cur, nI now, nI cnt, nI q, nI k1, op, nI k2, wt, nI cp, nI cc, me_o reg, me_o ss, me_o rr, me_o cr, a_text, a_marks, a_info, a_held, a_strips, a_size, a_kind, a_dueKey, a_dueLevel)) : me_oY (tcap, ncap, lvs, t, len, cur, mks, kd, sz, st, cnt, now, par, rd, nt, nl, nc, nm, reg, k1, op, k2, wt, ss, cp, rr, cr, cc, fr, kl, tk) c' r w := by
  intro post v R H
  refine me_elY (P := fun v => w post v) R ?_
  intro q a_text a_marks a_info a_held a_strips a_size a_kind a_dueKey a_dueLevel hT hG hN hQ
  exact h post q a_text a_marks a_info a_held a_strips a_size a_kind a_dueKey a_dueLevel hT hG hN hQ H
theorem me_ss_cm (c : me_CC) : me_ss (me_cm c) = me_ss c := by
  refine me_tupC (P := fun c => me_ss (me_cm c) = me_ss c) ?_ c
  intro tcap ncap lvs t len cur mks kd sz st cnt now par rd nt nl nc nm reg k1 op k2 wt ss cp rr cr cc fr kl tk
  by_cases h : ncap ≤ cnt ∨ (len = nl now ∧ ∀ i, i < len → t i = nt now i)
  · rw [me_cm_t h]
  · rw [me_cm_f h]; rfl
theorem me_fr_cm (c : me_CC) : me_fr (me_cm c) = me_fr c := by
  refine me_tupC (P := fun c => me_fr (me_cm c) = me_fr c) ?_ c
  intro tcap ncap lvs t len cur mks kd sz st cnt now par rd nt nl nc nm reg k1 op k2 wt ss cp rr cr cc fr kl tk
  by_cases h : ncap ≤ cnt ∨ (len = nl now ∧ ∀ i, i < len → t i = nt now i)
  · rw [me_cm_t h]
  · rw [me_cm_f h]; rfl
theorem me_tk_cm (c : me_CC) : me_tk (me_cm c) = me_tk c := by
  refine me_tupC (P := fun c => me_tk (me_cm c) = me_tk c) ?_ c
  intro tcap ncap lvs t len cur mks kd sz st cnt now par rd nt nl nc nm reg k1 op k2 wt ss cp rr cr cc fr kl tk
  by_cases h : ncap ≤ cnt ∨ (len = nl now ∧ ∀ i, i < len → t i = nt now i)
  · rw [me_cm_t h]
  · rw [me_cm_f h]; rfl
theorem me_fr_drop (c : me_CC) : me_fr (me_drop c) = me_fr c := rfl
theorem me_tk_drop (c : me_CC) : me_tk (me_drop c) = me_tk c := rfl
theorem me_ss_drop (c : me_CC) : me_ss (me_drop c) = me_ss c := rfl
theorem me_keep_cm {c c' : me_CC} (h : me_keep c c') : me_keep c (me_drop (me_cm c')) := by
  unfold me_keep
  rw [me_fr_drop, me_tk_drop, me_fr_cm, me_tk_cm]
  exact h
section
variable {tcap : Nat} {ncap : Nat} {lvs : Nat} {t : Nat → Int32} {len : Nat} {cur : Nat} {mks : Nat → Option Nat} {kd : Nat → Nat} {sz : Nat → Nat} {st : Nat → Nat → Int32} {cnt : Nat} {now : Nat} {par : Nat → Option Nat} {rd : Nat → Option Nat} {nt : Nat → Nat → Int32} {nl : Nat → Nat} {nc : Nat → Nat} {nm : Nat → Nat → Option Nat} {reg : Option Nat} {k1 : Nat} {op : Int32} {k2 : Nat} {wt : Int32} {ss : Option Nat} {cp : Nat} {rr : Option Nat} {cr : Option Nat} {cc : Nat} {fr : List (List Int32 × Nat × Nat × Nat)} {kl : Nat} {tk : Nat}
theorem me_keep_app {oper a b d : Int32} {kk s e e2 : Nat} : me_keep (tcap, ncap, lvs, t, len, cur, mks, kd, sz, st, cnt, now, par, rd, nt, nl, nc, nm, reg, k1, op, k2, wt, ss, cp, rr, cr, cc, fr, kl, tk) (me_drop (me_app (tcap, ncap, lvs, t, len, cur, mks, kd, sz, st, cnt, now, par, rd, nt, nl, nc, nm, reg, k1, op, k2, wt, ss, cp, rr, cr, cc, fr, kl, tk) oper a b d kk s e e2)) := by
  unfold me_keep
  rw [me_fr_drop, me_tk_drop]
  unfold me_app
  split
  · exact ⟨rfl, rfl⟩
  · split
    · rw [me_fr_cm, me_tk_cm]; exact ⟨rfl, rfl⟩
    · exact ⟨rfl, rfl⟩
theorem me_ss_app {a b d : Int32} {kk s e e2 : Nat} : me_ss (me_drop (me_app (tcap, ncap, lvs, t, len, cur, mks, kd, sz, st, cnt, now, par, rd, nt, nl, nc, nm, reg, k1, op, k2, wt, ss, cp, rr, cr, cc, fr, kl, tk) 99 a b d kk s e e2)) ≠ none := by
  rw [me_ss_drop]
  intro h
  rw [me_app, if_neg (by decide), if_neg (by decide)] at h
  cases h
/-- an operator on a span, for both sides -/
theorem me_fin {b d z : Int32} {kk s e e2 : Nat} {wx : (Int32 → SX → Prop) → SX → Prop} {wy : (Int32 → SY → Prop) → SY → Prop} (I : me_Inv (tcap, ncap, lvs, t, len, cur, mks, kd, sz, st, cnt, now, par, rd, nt, nl, nc, nm, reg, k1, op, k2, wt, ss, cp, rr, cr, cc, fr, kl, tk)) (hss : ss = none) (hs : s ≤ e) (he : e ≤ len) (h1 : s ≤ e2) (h2 : e2 ≤ len) (ho : op ≠ 0) (hz : (z = 0 ∧ kk = 1 ∧ e2 = e) ∨ (z = 1 ∧ kk = 2)) (hbd : b = 0 → d = 0) (hCH : op ≠ 121 → me_CH (me_k3n b d) (me_k3 op b d)) (hv : ∀ i, i < me_k3n b d → me_vk (me_k3 op b d i))
    (hx : ∀ (post : Int32 → SX → Prop) (f_spanFrom f_spanTo f_spanTextEnd f_spanKind : Int32) (a_text a_marks a_regKinds a_regLens a_regCodes a_nodeParent a_nodeRedo a_nodeLen a_nodeCur a_nodeMarks a_nodeText a_recCodes a_chKeys a_chText a_frameCodes a_frameLen a_framePos a_frameTimes a_frameLevel : Nat → Int32), me_TX t len mks a_text a_marks → (∀ post' : Int32 → SX → Prop, (∀ r u, post r u → post' r u) → wpX_applyOperator post' (nI tcap, nI ncap, nI lvs, nI len, nI cur, nI cnt, nI now, me_o reg, nI k1, op, nI k2, wt, me_o ss, nI cp, me_o rr, nI (sz 4), nI (sz 5), nI (sz 6), me_o cr, nI cc, nI fr.length, nI kl, nI s, nI e, nI e2, nI kk, a_text, a_marks, a_regKinds, a_regLens, a_regCodes, a_nodeParent, a_nodeRedo, a_nodeLen, a_nodeCur, a_nodeMarks, a_nodeText, a_recCodes, a_chKeys, a_chText, a_frameCodes, a_frameLen, a_framePos, a_frameTimes, a_frameLevel) op op b d) → wx post (nI tcap, nI ncap, nI lvs, nI len, nI cur, nI cnt, nI now, me_o reg, nI k1, op, nI k2, wt, me_o ss, nI cp, me_o rr, nI (sz 4), nI (sz 5), nI (sz 6), me_o cr, nI cc, nI fr.length, nI kl, f_spanFrom, f_spanTo, f_spanTextEnd, f_spanKind, a_text, a_marks, a_regKinds, a_regLens, a_regCodes, a_nodeParent, a_nodeRedo, a_nodeLen, a_nodeCur, a_nodeMarks, a_nodeText, a_recCodes, a_chKeys, a_chText, a_frameCodes, a_frameLen, a_framePos, a_frameTimes, a_frameLevel))
    (hy : ∀ (post : Int32 → SY → Prop) (q : Nat) (a_text a_marks a_info a_held a_strips a_size a_kind a_dueKey a_dueLevel : Nat → Int32), me_TX t len mks a_text a_marks → wY_move_170 post b d z (nI s) (nI e) (nI e2) (nI tcap) (nI ncap) (nI lvs) (nI len) (nI cur) (nI now) (nI cnt) (nI q) (nI k1) op (nI k2) wt (nI cp) (nI cc) (me_o reg) (me_o ss) (me_o rr) (me_o cr) a_text a_marks a_info a_held a_strips a_size a_kind a_dueKey a_dueLevel → wy post (nI tcap, nI ncap, nI lvs, nI len, nI cur, nI now, nI cnt, nI q, nI k1, op, nI k2, wt, nI cp, nI cc, me_o reg, me_o ss, me_o rr, me_o cr, a_text, a_marks, a_info, a_held, a_strips, a_size, a_kind, a_dueKey, a_dueLevel)) :
    me_Cmd (tcap, ncap, lvs, t, len, cur, mks, kd, sz, st, cnt, now, par, rd, nt, nl, nc, nm, reg, k1, op, k2, wt, ss, cp, rr, cr, cc, fr, kl, tk) (fun c' => me_keep (tcap, ncap, lvs, t, len, cur, mks, kd, sz, st, cnt, now, par, rd, nt, nl, nc, nm, reg, k1, op, k2, wt, ss, cp, rr, cr, cc, fr, kl, tk) c' ∧ (op = 99 → me_ss c' ≠ none)) wx wy := by
  have a2 := I.1.2.1
  have t1 := I.2.1.1
  have n2 := I.2.2.2.1.2.1
  have a4 := I.1.2.2.2.1
  by_cases hf : s = e ∨ (op ≠ 121 ∧ ncap ≤ cnt)
  · refine Or.inr (Or.inr ⟨me_mkX fun post f_spanFrom f_spanTo f_spanTextEnd f_spanKind a_text a_marks a_regKinds a_regLens a_regCodes a_nodeParent a_nodeRedo a_nodeLen a_nodeCur a_nodeMarks a_nodeText a_recCodes a_chKeys a_chText a_frameCodes a_frameLen a_framePos a_frameTimes a_frameLevel hT hG hN hF H => hx post f_spanFrom f_spanTo f_spanTextEnd f_spanKind a_text a_marks a_regKinds a_regLens a_regCodes a_nodeParent a_nodeRedo a_nodeLen a_nodeCur a_nodeMarks a_nodeText a_recCodes a_chKeys a_chText a_frameCodes a_frameLen a_framePos a_frameTimes a_frameLevel hT (fun post' imp => ?_), (tcap, ncap, lvs, t, len, cur, mks, kd, sz, st, cnt, now, par, rd, nt, nl, nc, nm, reg, k1, op, k2, wt, ss, cp, rr, cr, cc, fr, kl, tk), rfl, me_mkY fun post q a_text a_marks a_info a_held a_strips a_size a_kind a_dueKey a_dueLevel hT hG hN hQ H => hy post q a_text a_marks a_info a_held a_strips a_size a_kind a_dueKey a_dueLevel hT ?_⟩)
    · have R := imp _ _ (H _ (me_inX (f_spanFrom := nI s) (f_spanTo := nI e) (f_spanTextEnd := nI e2) (f_spanKind := nI kk) hT hG hN hF))
      by_cases e1 : s = e
      · subst e1; exact br_t rfl R
      · have e3 := hf.resolve_left e1
        exact br_f (fun q => e1 ((nI_eq (by omega) (by omega)).mp q)) (br_f e3.1 (br_f (nI_nlt e3.2 (by omega)) R))
    · have R := H _ (me_inY hT hG hN hQ)
      refine br_f (nI_pos (by omega)) ?_
      by_cases e1 : s = e
      · subst e1; exact br_t rfl R
      · have e3 := hf.resolve_left e1
        exact br_f (fun q => e1 ((nI_eq (by omega) (by omega)).mp q)) (br_f e3.1 (br_f (nI_nlt e3.2 (by omega)) R))
  · have hse : s < e := by
      have : s ≠ e := fun q => hf (Or.inl q)
      omega
    have ho' : op = 121 ∨ ((op = 100 ∨ op = 99) ∧ cnt < ncap) := by
      rcases I.2.2.2.2.1.2.2.2.1 with q | q | q | q
      · exact absurd q ho
      · exact Or.inr ⟨Or.inr q, by by_cases w : cnt < ncap; exact w; exact absurd (Or.inr ⟨by rw [q]; decide, by omega⟩) hf⟩
      · exact Or.inr ⟨Or.inl q, by by_cases w : cnt < ncap; exact w; exact absurd (Or.inr ⟨by rw [q]; decide, by omega⟩) hf⟩
      · exact Or.inl q
    have hk : kk ≤ 2 := by rcases hz with q | q <;> omega
    have hk1 : kk = 1 → s < e2 := fun q => by rcases hz with w | w <;> omega
    have hD : op ≠ 121 → me_Inv (me_dd (tcap, ncap, lvs, t, len, cur, mks, kd, sz, st, cnt, now, par, rd, nt, nl, nc, nm, reg, k1, op, k2, wt, ss, cp, rr, cr, cc, fr, kl, tk) op b d kk s e e2) := fun q => me_inv_dd I hss hs he h1 h2 hk hk1 (hCH q) hv
    refine Or.inr (Or.inl ⟨me_app (tcap, ncap, lvs, t, len, cur, mks, kd, sz, st, cnt, now, par, rd, nt, nl, nc, nm, reg, k1, op, k2, wt, ss, cp, rr, cr, cc, fr, kl, tk) op op b d kk s e e2, me_inv_app I hss hs he h1 h2 hk hk1 hCH (fun _ => hv), ⟨me_keep_app, fun q => ?_⟩, me_mkX fun post f_spanFrom f_spanTo f_spanTextEnd f_spanKind a_text a_marks a_regKinds a_regLens a_regCodes a_nodeParent a_nodeRedo a_nodeLen a_nodeCur a_nodeMarks a_nodeText a_recCodes a_chKeys a_chText a_frameCodes a_frameLen a_framePos a_frameTimes a_frameLevel hT hG hN hF H => hx post f_spanFrom f_spanTo f_spanTextEnd f_spanKind a_text a_marks a_regKinds a_regLens a_regCodes a_nodeParent a_nodeRedo a_nodeLen a_nodeCur a_nodeMarks a_nodeText a_recCodes a_chKeys a_chText a_frameCodes a_frameLen a_framePos a_frameTimes a_frameLevel hT (fun post' imp => xe_apply I hT hG hN hF hse he h1 h2 ho' hD (fun u' R' => imp _ _ (H u' R'))), me_mkY fun post q a_text a_marks a_info a_held a_strips a_size a_kind a_dueKey a_dueLevel hT hG hN hQ H => hy post q a_text a_marks a_info a_held a_strips a_size a_kind a_dueKey a_dueLevel hT (ye_apply I hT hG hN hQ hse he h1 h2 ho' ?_ hbd hD H)⟩)
    · subst q; exact me_ss_app
    · rcases hz with w | w
      · exact Or.inl ⟨w.1, w.2.1⟩
      · exact Or.inr w
end
end
section
/-! a motion, with or without an operator -/
section
variable {f_textCap f_nodeCap f_levels f_len f_cur f_nodeCount f_node f_reg f_c1 f_op f_c2 f_waiting f_sessionStart f_copies f_recReg f_recLen f_chKeyLen f_chTextLen f_chReg f_chCount f_depth f_keyLevel f_spanFrom f_spanTo f_spanTextEnd f_spanKind : Int32} {a_text a_marks a_regKinds a_regLens a_regCodes a_nodeParent a_nodeRedo a_nodeLen a_nodeCur a_nodeMarks a_nodeText a_recCodes a_chKeys a_chText a_frameCodes a_frameLen a_framePos a_frameTimes a_frameLevel : Nat → Int32}
theorem xe_setCharSpan {post : SX → Prop} {a b : Nat} (ha : a ≤ 64) (hb : b ≤ 64) (H : post (f_textCap, f_nodeCap, f_levels, f_len, f_cur, f_nodeCount, f_node, f_reg, f_c1, f_op, f_c2, f_waiting, f_sessionStart, f_copies, f_recReg, f_recLen, f_chKeyLen, f_chTextLen, f_chReg, f_chCount, f_depth, f_keyLevel, nI (if b ≤ a then b else a), nI (if b ≤ a then a else b), nI (if b ≤ a then a else b), 1, a_text, a_marks, a_regKinds, a_regLens, a_regCodes, a_nodeParent, a_nodeRedo, a_nodeLen, a_nodeCur, a_nodeMarks, a_nodeText, a_recCodes, a_chKeys, a_chText, a_frameCodes, a_frameLen, a_framePos, a_frameTimes, a_frameLevel)) : wpX_setCharSpan post (f_textCap, f_nodeCap, f_levels, f_len, f_cur, f_nodeCount, f_node, f_reg, f_c1, f_op, f_c2, f_waiting, f_sessionStart, f_copies, f_recReg, f_recLen, f_chKeyLen, f_chTextLen, f_chReg, f_chCount, f_depth, f_keyLevel, f_spanFrom, f_spanTo, f_spanTextEnd, f_spanKind, a_text, a_marks, a_regKinds, a_regLens, a_regCodes, a_nodeParent, a_nodeRedo, a_nodeLen, a_nodeCur, a_nodeMarks, a_nodeText, a_recCodes, a_chKeys, a_chText, a_frameCodes, a_frameLen, a_framePos, a_frameTimes, a_frameLevel) (nI a) (nI b) := by
  refine pk_le b a (fun h => ?_) (fun h => ?_)
  · rw [if_pos h, if_pos h] at H
    exact br_t (nI_le h (by omega)) H
  · rw [if_neg (by omega), if_neg (by omega)] at H
    exact br_f (nI_ge h (by omega)) H
theorem xe_setLineSpan {post : SX → Prop} {t : Nat → Int32} {len cur p m1 m2 e : Nat} (hl : len ≤ 32) (ht : ∀ i, i < len → a_text i = t i) (hc : cur ≤ len) (hp : p ≤ len) (hm1 : p ≤ cur → m1 = p ∧ m2 = cur) (hm2 : cur < p → m1 = cur ∧ m2 = p) (he1 : f_op = 99 → e = me_le t len m2) (he2 : ¬ f_op = 99 → len ≤ me_le t len m2 → e = me_le t len m2) (he3 : ¬ f_op = 99 → me_le t len m2 < len → e = me_le t len m2 + 1)
    (H : post (f_textCap, f_nodeCap, f_levels, nI len, nI cur, f_nodeCount, f_node, f_reg, f_c1, f_op, f_c2, f_waiting, f_sessionStart, f_copies, f_recReg, f_recLen, f_chKeyLen, f_chTextLen, f_chReg, f_chCount, f_depth, f_keyLevel, nI (me_ls t m1), nI e, nI (me_le t len m2), 2, a_text, a_marks, a_regKinds, a_regLens, a_regCodes, a_nodeParent, a_nodeRedo, a_nodeLen, a_nodeCur, a_nodeMarks, a_nodeText, a_recCodes, a_chKeys, a_chText, a_frameCodes, a_frameLen, a_framePos, a_frameTimes, a_frameLevel)) :
    wpX_setLineSpan post (f_textCap, f_nodeCap, f_levels, nI len, nI cur, f_nodeCount, f_node, f_reg, f_c1, f_op, f_c2, f_waiting, f_sessionStart, f_copies, f_recReg, f_recLen, f_chKeyLen, f_chTextLen, f_chReg, f_chCount, f_depth, f_keyLevel, f_spanFrom, f_spanTo, f_spanTextEnd, f_spanKind, a_text, a_marks, a_regKinds, a_regLens, a_regCodes, a_nodeParent, a_nodeRedo, a_nodeLen, a_nodeCur, a_nodeMarks, a_nodeText, a_recCodes, a_chKeys, a_chText, a_frameCodes, a_frameLen, a_framePos, a_frameTimes, a_frameLevel) (nI p) := by
  have k42 : ∀ m, m ≤ len → m2 = m → wX_setLineSpan_42 post (nI m) f_textCap f_nodeCap f_levels (nI len) (nI cur) f_nodeCount f_node f_reg f_c1 f_op f_c2 f_waiting f_sessionStart f_copies f_recReg f_recLen f_chKeyLen f_chTextLen f_chReg f_chCount f_depth f_keyLevel (nI (me_ls t m1)) f_spanTo f_spanTextEnd f_spanKind a_text a_marks a_regKinds a_regLens a_regCodes a_nodeParent a_nodeRedo a_nodeLen a_nodeCur a_nodeMarks a_nodeText a_recCodes a_chKeys a_chText a_frameCodes a_frameLen a_framePos a_frameTimes a_frameLevel := by
    intro m hm e'
    subst e'
    have hb := me_le_b (t := t) hm
    refine xe_lineEnd hm hl ht (br_c (fun h => ?_) (fun h => pk_le len (me_le t len m2) (fun h2 => ?_) (fun h2 => nm_r (nI_1 _) ?_)))
    · rw [he1 h] at H; exact H
    · rw [he2 h h2] at H; exact H
    · rw [he3 h h2] at H; exact H
  have k18 : ∀ m, m ≤ len → m1 = m → wX_setLineSpan_18 post (nI p) (nI m) f_textCap f_nodeCap f_levels (nI len) (nI cur) f_nodeCount f_node f_reg f_c1 f_op f_c2 f_waiting f_sessionStart f_copies f_recReg f_recLen f_chKeyLen f_chTextLen f_chReg f_chCount f_depth f_keyLevel f_spanFrom f_spanTo f_spanTextEnd f_spanKind a_text a_marks a_regKinds a_regLens a_regCodes a_nodeParent a_nodeRedo a_nodeLen a_nodeCur a_nodeMarks a_nodeText a_recCodes a_chKeys a_chText a_frameCodes a_frameLen a_framePos a_frameTimes a_frameLevel := by
    intro m hm e'
    subst e'
    refine xe_lineStart (t := t) (by omega) (fun i hi => ht i (by omega)) ?_
    exact pk_le p cur (fun h => k42 cur hc (hm1 h).2) (fun h => k42 p hp (hm2 h).2)
  exact pk_le p cur (fun h => k18 p hp (hm1 h).1) (fun h => k18 cur hc (hm2 h).1)
end
section
variable {tcap : Nat} {ncap : Nat} {lvs : Nat} {t : Nat → Int32} {len : Nat} {cur : Nat} {mks : Nat → Option Nat} {kd : Nat → Nat} {sz : Nat → Nat} {st : Nat → Nat → Int32} {cnt : Nat} {now : Nat} {par : Nat → Option Nat} {rd : Nat → Option Nat} {nt : Nat → Nat → Int32} {nl : Nat → Nat} {nc : Nat → Nat} {nm : Nat → Nat → Option Nat} {reg : Option Nat} {k1 : Nat} {op : Int32} {k2 : Nat} {wt : Int32} {ss : Option Nat} {cp : Nat} {rr : Option Nat} {cr : Option Nat} {cc : Nat} {fr : List (List Int32 × Nat × Nat × Nat)} {kl : Nat} {tk : Nat}
theorem me_inv_cur {p : Nat} (I : me_Inv (tcap, ncap, lvs, t, len, cur, mks, kd, sz, st, cnt, now, par, rd, nt, nl, nc, nm, reg, k1, op, k2, wt, ss, cp, rr, cr, cc, fr, kl, tk)) (hss : ss = none) (hp : p ≤ len) : me_Inv (tcap, ncap, lvs, t, len, p, mks, kd, sz, st, cnt, now, par, rd, nt, nl, nc, nm, reg, k1, op, k2, wt, ss, cp, rr, cr, cc, fr, kl, tk) := by
  obtain ⟨hA, ⟨t1, t2, t3, t4⟩, hG, hN, hK, ⟨s1, s2⟩, hF⟩ := I
  exact ⟨hA, ⟨t1, hp, t3, t4⟩, hG, hN, hK, ⟨fun s h => (by rw [hss] at h; cases h), s2⟩, hF⟩
theorem me_move {key operand : Int32} (I : me_Inv (tcap, ncap, lvs, t, len, cur, mks, kd, sz, st, cnt, now, par, rd, nt, nl, nc, nm, reg, k1, op, k2, wt, ss, cp, rr, cr, cc, fr, kl, tk)) (hss : ss = none) (hk : me_mo key ∨ (key = op ∧ op ≠ 0) ∨ key = 102 ∨ (key = 96 ∧ me_vk operand)) (hvk : me_vk key) (hvo : operand = 0 ∨ me_vk operand) (hCH : op ≠ 0 → op ≠ 121 → me_CH (me_k3n key operand) (me_k3 op key operand)) :
    me_Cmd (tcap, ncap, lvs, t, len, cur, mks, kd, sz, st, cnt, now, par, rd, nt, nl, nc, nm, reg, k1, op, k2, wt, ss, cp, rr, cr, cc, fr, kl, tk) (fun c' => me_keep (tcap, ncap, lvs, t, len, cur, mks, kd, sz, st, cnt, now, par, rd, nt, nl, nc, nm, reg, k1, op, k2, wt, ss, cp, rr, cr, cc, fr, kl, tk) c' ∧ (op = 99 → me_ss c' ≠ none)) (fun post u => wpX_finishMotion post u key operand) (fun post v => wpY_move post v key operand) := by
  obtain ⟨o, o1, o2, oX, oY⟩ := me_tg I hk
  have a2 := I.1.2.1
  have t1 := I.2.1.1
  have t2 := I.2.1.2.1
  have hv : op ≠ 0 → ∀ i, i < me_k3n key operand → me_vk (me_k3 op key operand i) := by
    intro h0 i hi
    have := me_k3n_b key operand
    have hi3 : i = 0 ∨ i = 1 ∨ i = 2 := by omega
    rcases hi3 with rfl | rfl | rfl
    · rcases I.2.2.2.2.1.2.2.2.1 with q | q | q | q
      · exact absurd q h0
      · exact ⟨99, q, by omega, by omega⟩
      · exact ⟨100, q, by omega, by omega⟩
      · exact ⟨121, q, by omega, by omega⟩
    · exact hvk
    · rcases hvo with rfl | h
      · rw [me_k3n, if_neg (me_vk_0 hvk), if_pos rfl] at hi; omega
      · exact h
  have hbd : key = 0 → operand = 0 := fun q => absurd q (me_vk_0 hvk)
  cases o with
  | none =>
    refine Or.inr (Or.inr ⟨me_mkX fun post f_spanFrom f_spanTo f_spanTextEnd f_spanKind a_text a_marks a_regKinds a_regLens a_regCodes a_nodeParent a_nodeRedo a_nodeLen a_nodeCur a_nodeMarks a_nodeText a_recCodes a_chKeys a_chText a_frameCodes a_frameLen a_framePos a_frameTimes a_frameLevel hT hG hN hF H => oX _ _ _ _ a_text a_marks a_regKinds a_regLens a_regCodes a_nodeParent a_nodeRedo a_nodeLen a_nodeCur a_nodeMarks a_nodeText a_recCodes a_chKeys a_chText a_frameCodes a_frameLen a_framePos a_frameTimes a_frameLevel _ hT (br_f (by decide) (H _ (me_inX hT hG hN hF))), (tcap, ncap, lvs, t, len, cur, mks, kd, sz, st, cnt, now, par, rd, nt, nl, nc, nm, reg, k1, op, k2, wt, ss, cp, rr, cr, cc, fr, kl, tk), rfl, me_mkY fun post q a_text a_marks a_info a_held a_strips a_size a_kind a_dueKey a_dueLevel hT hG hN hQ H => oY _ a_text a_marks a_info a_held a_strips a_size a_kind a_dueKey a_dueLevel _ hT (br_f (by decide) (H _ (me_inY hT hG hN hQ)))⟩)
  | some p =>
    have hp := o1 p rfl
    have hpos : (0 : Int32) ≤ me_o (some p) := nI_pos' (by omega)
    by_cases h0 : op = 0
    · refine Or.inr (Or.inl ⟨(tcap, ncap, lvs, t, len, p, mks, kd, sz, st, cnt, now, par, rd, nt, nl, nc, nm, reg, k1, op, k2, wt, ss, cp, rr, cr, cc, fr, kl, tk), me_inv_cur I hss hp, ⟨⟨rfl, rfl⟩, fun q => by rw [h0] at q; exact absurd q (by decide)⟩, me_mkX fun post f_spanFrom f_spanTo f_spanTextEnd f_spanKind a_text a_marks a_regKinds a_regLens a_regCodes a_nodeParent a_nodeRedo a_nodeLen a_nodeCur a_nodeMarks a_nodeText a_recCodes a_chKeys a_chText a_frameCodes a_frameLen a_framePos a_frameTimes a_frameLevel hT hG hN hF H => oX _ _ _ _ a_text a_marks a_regKinds a_regLens a_regCodes a_nodeParent a_nodeRedo a_nodeLen a_nodeCur a_nodeMarks a_nodeText a_recCodes a_chKeys a_chText a_frameCodes a_frameLen a_framePos a_frameTimes a_frameLevel _ hT (br_t hpos (br_t h0 (H _ (me_inX hT hG hN hF)))), me_mkY fun post q a_text a_marks a_info a_held a_strips a_size a_kind a_dueKey a_dueLevel hT hG hN hQ H => oY _ a_text a_marks a_info a_held a_strips a_size a_kind a_dueKey a_dueLevel _ hT (br_t hpos (br_t h0 (H _ (me_inY hT hG hN hQ))))⟩)
    · by_cases hl : key = 106 ∨ key = 107 ∨ key = op
      · have n102 : ¬ key = 102 := by
          intro q
          rcases hl with w | w | w
          · rw [q] at w; exact absurd w (by decide)
          · rw [q] at w; exact absurd w (by decide)
          · rcases I.2.2.2.2.1.2.2.2.1 with z | z | z | z <;> (rw [q, z] at w; exact absurd w (by decide))
        have n105 : ¬ key = 105 := by
          intro q
          rcases hl with w | w | w
          · rw [q] at w; exact absurd w (by decide)
          · rw [q] at w; exact absurd w (by decide)
          · rcases I.2.2.2.2.1.2.2.2.1 with z | z | z | z <;> (rw [q, z] at w; exact absurd w (by decide))
        obtain ⟨m1, m2, hm1, hm2⟩ : ∃ m1 m2 : Nat, (p ≤ cur → m1 = p ∧ m2 = cur) ∧ (cur < p → m1 = cur ∧ m2 = p) := by
          by_cases q : p ≤ cur
          · exact ⟨p, cur, fun _ => ⟨rfl, rfl⟩, fun w => by omega⟩
          · exact ⟨cur, p, fun w => by omega, fun _ => ⟨rfl, rfl⟩⟩
        have m12 : m1 ≤ m2 ∧ m2 ≤ len := by
          by_cases q : p ≤ cur
          · have := hm1 q; omega
          · have := hm2 (by omega); omega
        have b1 := me_ls_le t m1
        have b2 := me_le_b (t := t) m12.2
        obtain ⟨e, he1, he2, he3⟩ : ∃ e : Nat, (op = 99 → e = me_le t len m2) ∧ (¬ op = 99 → len ≤ me_le t len m2 → e = me_le t len m2) ∧ (¬ op = 99 → me_le t len m2 < len → e = me_le t len m2 + 1) := by
          by_cases q : op = 99
          · exact ⟨_, fun _ => rfl, fun w => absurd q w, fun w => absurd q w⟩
          · by_cases q2 : len ≤ me_le t len m2
            · exact ⟨_, fun w => absurd w q, fun _ _ => rfl, fun _ w => by omega⟩
            · exact ⟨_, fun w => absurd w q, fun _ w => by omega, fun _ _ => rfl⟩
        have b3 : me_le t len m2 ≤ e ∧ e ≤ len := by
          by_cases q : op = 99
          · have := he1 q; omega
          · by_cases q2 : len ≤ me_le t len m2
            · have := he2 q q2; omega
            · have := he3 q (by omega); omega
        refine me_fin (b := key) (d := operand) (z := 1) (kk := 2) (s := me_ls t m1) (e := e) (e2 := me_le t len m2) I hss (by omega) (by omega) (by omega) (by omega) h0 (Or.inr ⟨rfl, rfl⟩) hbd (hCH h0) (hv h0) ?_ ?_
        · intro post f_spanFrom f_spanTo f_spanTextEnd f_spanKind a_text a_marks a_regKinds a_regLens a_regCodes a_nodeParent a_nodeRedo a_nodeLen a_nodeCur a_nodeMarks a_nodeText a_recCodes a_chKeys a_chText a_frameCodes a_frameLen a_framePos a_frameTimes a_frameLevel hT H
          refine oX _ _ _ _ a_text a_marks a_regKinds a_regLens a_regCodes a_nodeParent a_nodeRedo a_nodeLen a_nodeCur a_nodeMarks a_nodeText a_recCodes a_chKeys a_chText a_frameCodes a_frameLen a_framePos a_frameTimes a_frameLevel _ hT (br_t hpos (br_f h0 ?_))
          have k50 : wX_finishMotion_50 post key operand (nI p) (nI tcap) (nI ncap) (nI lvs) (nI len) (nI cur) (nI cnt) (nI now) (me_o reg) (nI k1) op (nI k2) wt (me_o ss) (nI cp) (me_o rr) (nI (sz 4)) (nI (sz 5)) (nI (sz 6)) (me_o cr) (nI cc) (nI fr.length) (nI kl) f_spanFrom f_spanTo f_spanTextEnd f_spanKind a_text a_marks a_regKinds a_regLens a_regCodes a_nodeParent a_nodeRedo a_nodeLen a_nodeCur a_nodeMarks a_nodeText a_recCodes a_chKeys a_chText a_frameCodes a_frameLen a_framePos a_frameTimes a_frameLevel := xe_setLineSpan (t := t) (by omega) hT.1 t2 hp hm1 hm2 he1 he2 he3 (H _ (me_impX fun _ _ _ _ _ _ _ _ _ _ _ _ _ _ _ _ _ _ _ _ _ _ _ _ _ _ _ _ _ _ _ _ _ _ _ _ _ _ _ _ _ _ _ _ _ _ h => h))
          exact br_c (fun _ => k50) (fun q1 => br_c (fun _ => k50) (fun q2 => br_t ((hl.resolve_left q1).resolve_left q2) k50))
        · intro post q a_text a_marks a_info a_held a_strips a_size a_kind a_dueKey a_dueLevel hT H
          refine oY _ a_text a_marks a_info a_held a_strips a_size a_kind a_dueKey a_dueLevel _ hT (br_t hpos (br_f h0 ?_))
          have k119 : ∀ m m', m1 = m → m2 = m' → wY_move_119 post key operand 1 (nI m) (nI m') (nI tcap) (nI ncap) (nI lvs) (nI len) (nI cur) (nI now) (nI cnt) (nI q) (nI k1) op (nI k2) wt (nI cp) (nI cc) (me_o reg) (me_o ss) (me_o rr) (me_o cr) a_text a_marks a_info a_held a_strips a_size a_kind a_dueKey a_dueLevel := by
            intro m m' e1 e2
            subst e1 e2
            refine br_f (by decide) (ye_startOf (t := t) (by omega) (fun i hi => hT.1 i (by omega)) (ye_endOf (t := t) m12.2 (by omega) hT.1 (br_f (by decide) (br_c (fun h => ?_) (fun h => pk_le len (me_le t len m2) (fun h2 => ?_) (fun h2 => nm_r (nI_1 _) ?_))))))
            · rw [he1 h] at H; exact H
            · rw [he2 h h2] at H; exact H
            · rw [he3 h h2] at H; exact H
          have k70 : ∀ m, m1 = m → wY_move_70 post key operand (nI p) 1 (nI m) (nI tcap) (nI ncap) (nI lvs) (nI len) (nI cur) (nI now) (nI cnt) (nI q) (nI k1) op (nI k2) wt (nI cp) (nI cc) (me_o reg) (me_o ss) (me_o rr) (me_o cr) a_text a_marks a_info a_held a_strips a_size a_kind a_dueKey a_dueLevel := fun m e1 =>
            pk_le p cur (fun h => br_f n102 (br_f n105 (k119 _ _ e1 (hm1 h).2))) (fun h => br_f n102 (br_f n105 (k119 _ _ e1 (hm2 h).2)))
          have k47 : wY_move_47 post key operand (nI p) (nI tcap) (nI ncap) (nI lvs) (nI len) (nI cur) (nI now) (nI cnt) (nI q) (nI k1) op (nI k2) wt (nI cp) (nI cc) (me_o reg) (me_o ss) (me_o rr) (me_o cr) a_text a_marks a_info a_held a_strips a_size a_kind a_dueKey a_dueLevel := pk_le p cur (fun h => k70 _ (hm1 h).1) (fun h => k70 _ (hm2 h).1)
          exact br_c (fun _ => k47) (fun q1 => br_c (fun _ => k47) (fun q2 => br_t ((hl.resolve_left q1).resolve_left q2) k47))
      · have n1 : ¬ key = 106 := fun q => hl (Or.inl q)
        have n2 : ¬ key = 107 := fun q => hl (Or.inr (Or.inl q))
        have n3 : ¬ key = op := fun q => hl (Or.inr (Or.inr q))
        have n105 : ¬ key = 105 := by
          intro q
          rcases hk with w | w | w | w
          · rw [q] at w; exact absurd w (by unfold me_mo; decide)
          · exact n3 w.1
          · rw [q] at w; exact absurd w (by decide)
          · rw [q] at w; exact absurd w.1 (by decide)
        by_cases hf : key = 102
        · have hcp := o2 hf p rfl
          refine me_fin (b := key) (d := operand) (z := 0) (kk := 1) (s := cur) (e := p + 1) (e2 := p + 1) I hss (by omega) (by omega) (by omega) (by omega) h0 (Or.inl ⟨rfl, rfl, rfl⟩) hbd (hCH h0) (hv h0) ?_ ?_
          · intro post f_spanFrom f_spanTo f_spanTextEnd f_spanKind a_text a_marks a_regKinds a_regLens a_regCodes a_nodeParent a_nodeRedo a_nodeLen a_nodeCur a_nodeMarks a_nodeText a_recCodes a_chKeys a_chText a_frameCodes a_frameLen a_framePos a_frameTimes a_frameLevel hT H
            refine oX _ _ _ _ a_text a_marks a_regKinds a_regLens a_regCodes a_nodeParent a_nodeRedo a_nodeLen a_nodeCur a_nodeMarks a_nodeText a_recCodes a_chKeys a_chText a_frameCodes a_frameLen a_framePos a_frameTimes a_frameLevel _ hT (br_t hpos (br_f h0 (br_f n1 (br_f n2 (br_f n3 (br_t hf ?_))))))
            rw [me_o_some, nI_1]
            refine xe_setCharSpan (by omega) (by omega) ?_
            rw [if_neg (by omega), if_neg (by omega)]
            exact H _ (me_impX fun _ _ _ _ _ _ _ _ _ _ _ _ _ _ _ _ _ _ _ _ _ _ _ _ _ _ _ _ _ _ _ _ _ _ _ _ _ _ _ _ _ _ _ _ _ _ h => h)
          · intro post q a_text a_marks a_info a_held a_strips a_size a_kind a_dueKey a_dueLevel hT H
            refine oY _ a_text a_marks a_info a_held a_strips a_size a_kind a_dueKey a_dueLevel _ hT (br_t hpos (br_f h0 (br_f n1 (br_f n2 (br_f n3 ?_)))))
            exact br_f (nI_ge (by omega) (by omega)) (br_f (nI_ge (by omega) (by omega)) (br_t hf (nm_r (nI_1 p) (br_f n105 (br_t rfl (br_t rfl H))))))
        · refine me_fin (b := key) (d := operand) (z := 0) (kk := 1) (s := if p ≤ cur then p else cur) (e := if p ≤ cur then cur else p) (e2 := if p ≤ cur then cur else p) I hss ?_ ?_ ?_ ?_ h0 (Or.inl ⟨rfl, rfl, rfl⟩) hbd (hCH h0) (hv h0) ?_ ?_
          · split <;> omega
          · split <;> omega
          · split <;> omega
          · split <;> omega
          · intro post f_spanFrom f_spanTo f_spanTextEnd f_spanKind a_text a_marks a_regKinds a_regLens a_regCodes a_nodeParent a_nodeRedo a_nodeLen a_nodeCur a_nodeMarks a_nodeText a_recCodes a_chKeys a_chText a_frameCodes a_frameLen a_framePos a_frameTimes a_frameLevel hT H
            refine oX _ _ _ _ a_text a_marks a_regKinds a_regLens a_regCodes a_nodeParent a_nodeRedo a_nodeLen a_nodeCur a_nodeMarks a_nodeText a_recCodes a_chKeys a_chText a_frameCodes a_frameLen a_framePos a_frameTimes a_frameLevel _ hT (br_t hpos (br_f h0 (br_f n1 (br_f n2 (br_f n3 (br_f hf ?_))))))
            exact xe_setCharSpan (by omega) (by omega) (H _ (me_impX fun _ _ _ _ _ _ _ _ _ _ _ _ _ _ _ _ _ _ _ _ _ _ _ _ _ _ _ _ _ _ _ _ _ _ _ _ _ _ _ _ _ _ _ _ _ _ h => h))
          · intro post q a_text a_marks a_info a_held a_strips a_size a_kind a_dueKey a_dueLevel hT H
            refine oY _ a_text a_marks a_info a_held a_strips a_size a_kind a_dueKey a_dueLevel _ hT (br_t hpos (br_f h0 (br_f n1 (br_f n2 (br_f n3 ?_)))))
            have k101 : ∀ m m', m = (if p ≤ cur then p else cur) → m' = (if p ≤ cur then cur else p) → wY_move_101 post key operand (nI p) 0 (nI m) (nI m') (nI tcap) (nI ncap) (nI lvs) (nI len) (nI cur) (nI now) (nI cnt) (nI q) (nI k1) op (nI k2) wt (nI cp) (nI cc) (me_o reg) (me_o ss) (me_o rr) (me_o cr) a_text a_marks a_info a_held a_strips a_size a_kind a_dueKey a_dueLevel := by
              intro m m' e1 e2
              subst e1 e2
              exact br_f n105 (br_t rfl (br_t rfl H))
            have k70 : ∀ m, m = (if p ≤ cur then p else cur) → wY_move_70 post key operand (nI p) 0 (nI m) (nI tcap) (nI ncap) (nI lvs) (nI len) (nI cur) (nI now) (nI cnt) (nI q) (nI k1) op (nI k2) wt (nI cp) (nI cc) (me_o reg) (me_o ss) (me_o rr) (me_o cr) a_text a_marks a_info a_held a_strips a_size a_kind a_dueKey a_dueLevel := fun m e1 =>
              pk_le p cur (fun h => br_f hf (k101 _ _ e1 (by rw [if_pos h]))) (fun h => br_f hf (k101 _ _ e1 (by rw [if_neg (by omega)])))
            exact pk_le p cur (fun h => k70 _ (by rw [if_pos h])) (fun h => k70 _ (by rw [if_neg (by omega)]))
end
end
section
/-! text objects -/
theorem me_sr_step {t : Nat → Int32} {len p : Nat} {k : Int32} (hp : p < len) (h : me_cls (t p) = k) : me_sr t len k p = me_sr t len k (p + 1) := by
  unfold me_sr
  rw [show len - p = (len - (p + 1)) + 1 by omega, me_srA, if_pos h]
theorem me_sl_all {t : Nat → Int32} {k : Int32} : ∀ p i : Nat, me_sl t k p ≤ i → i < p → me_cls (t i) = k
  | 0, i, _, h => by omega
  | p + 1, i, h1, h2 => by
    rw [me_sl] at h1
    split at h1
    · by_cases e : i = p
      · subst e; assumption
      · exact me_sl_all p i h1 (by omega)
    · omega
theorem me_sr_back {t : Nat → Int32} {len : Nat} {k : Int32} : ∀ d s : Nat, s + d ≤ len → (∀ i, s ≤ i → i < s + d → me_cls (t i) = k) → me_sr t len k s = me_sr t len k (s + d)
  | 0, s, _, _ => rfl
  | d + 1, s, h1, h2 => by
    rw [me_sr_step (by omega) (h2 s (Nat.le_refl _) (by omega)), me_sr_back d (s + 1) (by omega) (fun i a b => h2 i (by omega) (by omega))]
    exact congrArg _ (by omega)
theorem me_obj {t : Nat → Int32} {len cur : Nat} (hc : cur < len) : me_cls (t (me_sl t (me_cls (t cur)) cur)) = me_cls (t cur) ∧ me_sr t len (me_cls (t cur)) (me_sl t (me_cls (t cur)) cur) = me_sr t len (me_cls (t cur)) cur := by
  have h1 := me_sl_le t (me_cls (t cur)) cur
  have h2 := me_sl_all (t := t) (k := me_cls (t cur)) cur
  generalize me_sl t (me_cls (t cur)) cur = s at h1 h2
  constructor
  · by_cases e : s = cur
    · subst e; rfl
    · exact h2 s (Nat.le_refl _) (by omega)
  · have := me_sr_back (t := t) (len := len) (k := me_cls (t cur)) (cur - s) s (by omega) (fun i a b => h2 i a (by omega))
    rw [show s + (cur - s) = cur by omega] at this
    exact this
section
variable {tcap : Nat} {ncap : Nat} {lvs : Nat} {t : Nat → Int32} {len : Nat} {cur : Nat} {mks : Nat → Option Nat} {kd : Nat → Nat} {sz : Nat → Nat} {st : Nat → Nat → Int32} {cnt : Nat} {now : Nat} {par : Nat → Option Nat} {rd : Nat → Option Nat} {nt : Nat → Nat → Int32} {nl : Nat → Nat} {nc : Nat → Nat} {nm : Nat → Nat → Option Nat} {reg : Option Nat} {k1 : Nat} {op : Int32} {k2 : Nat} {wt : Int32} {ss : Option Nat} {cp : Nat} {rr : Option Nat} {cr : Option Nat} {cc : Nat} {fr : List (List Int32 × Nat × Nat × Nat)} {kl : Nat} {tk : Nat}
theorem ye_target_105 {operand : Int32} {q : Nat} {a_text a_marks a_info a_held a_strips a_size a_kind a_dueKey a_dueLevel : Nat → Int32} {post : Int32 → Prop} (I : me_Inv (tcap, ncap, lvs, t, len, cur, mks, kd, sz, st, cnt, now, par, rd, nt, nl, nc, nm, reg, k1, op, k2, wt, ss, cp, rr, cr, cc, fr, kl, tk)) (hT : me_TX t len mks a_text a_marks) (H : wpY_objectStart (fun r => post r) (nI tcap, nI ncap, nI lvs, nI len, nI cur, nI now, nI cnt, nI q, nI k1, op, nI k2, wt, nI cp, nI cc, me_o reg, me_o ss, me_o rr, me_o cr, a_text, a_marks, a_info, a_held, a_strips, a_size, a_kind, a_dueKey, a_dueLevel) operand) : wpY_target post (nI tcap, nI ncap, nI lvs, nI len, nI cur, nI now, nI cnt, nI q, nI k1, op, nI k2, wt, nI cp, nI cc, me_o reg, me_o ss, me_o rr, me_o cr, a_text, a_marks, a_info, a_held, a_strips, a_size, a_kind, a_dueKey, a_dueLevel) 105 operand := by
  have a2 := I.1.2.1
  have t1 := I.2.1.1
  have t2 := I.2.1.2.1
  have hls := me_ls_le t cur
  refine ye_times I.2.2.2.2.1.2.1 I.2.2.2.2.1.2.2.1 (ye_startOf (t := t) (by omega) (fun i hi => hT.1 i (by omega)) (ye_endOf (t := t) t2 (by omega) hT.1 (nm_r (pk_sub hls) ?_)))
  exact br_f (by decide) (br_f (by decide) (br_f (by decide) (br_f (by decide) (br_f (by decide) (br_t rfl H)))))
theorem ye_move_105 {operand : Int32} {q p : Nat} {oe : Option Nat} {a_text a_marks a_info a_held a_strips a_size a_kind a_dueKey a_dueLevel : Nat → Int32} {post : Int32 → SY → Prop} (hE : ∀ post' : Int32 → Prop, post' (me_o oe) → wpY_objectEnd post' (nI tcap, nI ncap, nI lvs, nI len, nI cur, nI now, nI cnt, nI q, nI k1, op, nI k2, wt, nI cp, nI cc, me_o reg, me_o ss, me_o rr, me_o cr, a_text, a_marks, a_info, a_held, a_strips, a_size, a_kind, a_dueKey, a_dueLevel) operand (nI p)) (H : wY_move_170 post 105 operand 0 (nI p) (me_o oe) (me_o oe) (nI tcap) (nI ncap) (nI lvs) (nI len) (nI cur) (nI now) (nI cnt) (nI q) (nI k1) op (nI k2) wt (nI cp) (nI cc) (me_o reg) (me_o ss) (me_o rr) (me_o cr) a_text a_marks a_info a_held a_strips a_size a_kind a_dueKey a_dueLevel) : wY_move_52 post 105 operand (nI p) 0 (nI tcap) (nI ncap) (nI lvs) (nI len) (nI cur) (nI now) (nI cnt) (nI q) (nI k1) op (nI k2) wt (nI cp) (nI cc) (me_o reg) (me_o ss) (me_o rr) (me_o cr) a_text a_marks a_info a_held a_strips a_size a_kind a_dueKey a_dueLevel := by
  have k101 : ∀ m m' : Int32, wY_move_101 post 105 operand (nI p) 0 m m' (nI tcap) (nI ncap) (nI lvs) (nI len) (nI cur) (nI now) (nI cnt) (nI q) (nI k1) op (nI k2) wt (nI cp) (nI cc) (me_o reg) (me_o ss) (me_o rr) (me_o cr) a_text a_marks a_info a_held a_strips a_size a_kind a_dueKey a_dueLevel := fun m m' => br_t rfl (hE _ (br_t rfl (br_t rfl H)))
  have k70 : ∀ m : Int32, wY_move_70 post 105 operand (nI p) 0 m (nI tcap) (nI ncap) (nI lvs) (nI len) (nI cur) (nI now) (nI cnt) (nI q) (nI k1) op (nI k2) wt (nI cp) (nI cc) (me_o reg) (me_o ss) (me_o rr) (me_o cr) a_text a_marks a_info a_held a_strips a_size a_kind a_dueKey a_dueLevel := fun m => br_c (fun _ => br_f (by decide) (k101 _ _)) (fun _ => br_f (by decide) (k101 _ _))
  exact br_c (fun _ => k70 _) (fun _ => k70 _)
theorem me_tobj {key : Int32} (I : me_Inv (tcap, ncap, lvs, t, len, cur, mks, kd, sz, st, cnt, now, par, rd, nt, nl, nc, nm, reg, k1, op, k2, wt, ss, cp, rr, cr, cc, fr, kl, tk)) (hss : ss = none) (h0 : op ≠ 0) (hvk : me_vk key) (h27 : key ≠ 27) :
    me_Cmd (tcap, ncap, lvs, t, len, cur, mks, kd, sz, st, cnt, now, par, rd, nt, nl, nc, nm, reg, k1, op, k2, wt, ss, cp, rr, cr, cc, fr, kl, tk) (fun c' => me_keep (tcap, ncap, lvs, t, len, cur, mks, kd, sz, st, cnt, now, par, rd, nt, nl, nc, nm, reg, k1, op, k2, wt, ss, cp, rr, cr, cc, fr, kl, tk) c' ∧ (op = 99 → me_ss c' ≠ none)) (fun post u => wpX_textObject post u key) (fun post v => wpY_move post v 105 key) := by
  have a2 := I.1.2.1
  have t1 := I.2.1.1
  have t2 := I.2.1.2.1
  have hop := I.2.2.2.2.1.2.2.2.1
  have n3 : ¬ (105 : Int32) = op := fun e => by subst e; exact absurd hop (by decide)
  have hk0 := me_vk_0 hvk
  have h3 : me_k3n 105 key = 3 := by rw [me_k3n, if_neg (by decide), if_neg hk0]
  have hCH : op ≠ 121 → me_CH (me_k3n 105 key) (me_k3 op 105 key) := by
    intro e
    rw [h3]
    refine Or.inr (Or.inr (Or.inr ⟨rfl, ?_, Or.inr (Or.inr rfl), h27⟩))
    rcases hop with q | q | q | q
    · exact absurd q h0
    · exact Or.inr q
    · exact Or.inl q
    · exact absurd q e
  have hv : ∀ i, i < me_k3n 105 key → me_vk (me_k3 op 105 key i) := by
    intro i hi
    rw [h3] at hi
    have hi3 : i = 0 ∨ i = 1 ∨ i = 2 := by omega
    rcases hi3 with rfl | rfl | rfl
    · rcases hop with q | q | q | q
      · exact absurd q h0
      · exact ⟨99, q, by omega, by omega⟩
      · exact ⟨100, q, by omega, by omega⟩
      · exact ⟨121, q, by omega, by omega⟩
    · exact ⟨105, rfl, by omega, by omega⟩
    · exact hvk
  have hfail : (∀ (post : Int32 → SX → Prop) (f_spanFrom f_spanTo f_spanTextEnd f_spanKind : Int32) (a_text a_marks a_regKinds a_regLens a_regCodes a_nodeParent a_nodeRedo a_nodeLen a_nodeCur a_nodeMarks a_nodeText a_recCodes a_chKeys a_chText a_frameCodes a_frameLen a_framePos a_frameTimes a_frameLevel : Nat → Int32), me_TX t len mks a_text a_marks → post 1 (nI tcap, nI ncap, nI lvs, nI len, nI cur, nI cnt, nI now, me_o reg, nI k1, op, nI k2, wt, me_o ss, nI cp, me_o rr, nI (sz 4), nI (sz 5), nI (sz 6), me_o cr, nI cc, nI fr.length, nI kl, f_spanFrom, f_spanTo, f_spanTextEnd, f_spanKind, a_text, a_marks, a_regKinds, a_regLens, a_regCodes, a_nodeParent, a_nodeRedo, a_nodeLen, a_nodeCur, a_nodeMarks, a_nodeText, a_recCodes, a_chKeys, a_chText, a_frameCodes, a_frameLen, a_framePos, a_frameTimes, a_frameLevel) → wpX_textObject post (nI tcap, nI ncap, nI lvs, nI len, nI cur, nI cnt, nI now, me_o reg, nI k1, op, nI k2, wt, me_o ss, nI cp, me_o rr, nI (sz 4), nI (sz 5), nI (sz 6), me_o cr, nI cc, nI fr.length, nI kl, f_spanFrom, f_spanTo, f_spanTextEnd, f_spanKind, a_text, a_marks, a_regKinds, a_regLens, a_regCodes, a_nodeParent, a_nodeRedo, a_nodeLen, a_nodeCur, a_nodeMarks, a_nodeText, a_recCodes, a_chKeys, a_chText, a_frameCodes, a_frameLen, a_framePos, a_frameTimes, a_frameLevel) key) →
      (∀ (post : Int32 → SY → Prop) (q : Nat) (a_text a_marks a_info a_held a_strips a_size a_kind a_dueKey a_dueLevel : Nat → Int32), me_TX t len mks a_text a_marks → post 1 (nI tcap, nI ncap, nI lvs, nI len, nI cur, nI now, nI cnt, nI q, nI k1, op, nI k2, wt, nI cp, nI cc, me_o reg, me_o ss, me_o rr, me_o cr, a_text, a_marks, a_info, a_held, a_strips, a_size, a_kind, a_dueKey, a_dueLevel) → wpY_move post (nI tcap, nI ncap, nI lvs, nI len, nI cur, nI now, nI cnt, nI q, nI k1, op, nI k2, wt, nI cp, nI cc, me_o reg, me_o ss, me_o rr, me_o cr, a_text, a_marks, a_info, a_held, a_strips, a_size, a_kind, a_dueKey, a_dueLevel) 105 key) → me_Cmd (tcap, ncap, lvs, t, len, cur, mks, kd, sz, st, cnt, now, par, rd, nt, nl, nc, nm, reg, k1, op, k2, wt, ss, cp, rr, cr, cc, fr, kl, tk) (fun c' => me_keep (tcap, ncap, lvs, t, len, cur, mks, kd, sz, st, cnt, now, par, rd, nt, nl, nc, nm, reg, k1, op, k2, wt, ss, cp, rr, cr, cc, fr, kl, tk) c' ∧ (op = 99 → me_ss c' ≠ none)) (fun post u => wpX_textObject post u key) (fun post v => wpY_move post v 105 key) := by
    intro fx fy
    exact Or.inr (Or.inr ⟨me_mkX fun post f_spanFrom f_spanTo f_spanTextEnd f_spanKind a_text a_marks a_regKinds a_regLens a_regCodes a_nodeParent a_nodeRedo a_nodeLen a_nodeCur a_nodeMarks a_nodeText a_recCodes a_chKeys a_chText a_frameCodes a_frameLen a_framePos a_frameTimes a_frameLevel hT hG hN hF H => fx post _ _ _ _ a_text a_marks a_regKinds a_regLens a_regCodes a_nodeParent a_nodeRedo a_nodeLen a_nodeCur a_nodeMarks a_nodeText a_recCodes a_chKeys a_chText a_frameCodes a_frameLen a_framePos a_frameTimes a_frameLevel hT (H _ (me_inX hT hG hN hF)), (tcap, ncap, lvs, t, len, cur, mks, kd, sz, st, cnt, now, par, rd, nt, nl, nc, nm, reg, k1, op, k2, wt, ss, cp, rr, cr, cc, fr, kl, tk), rfl, me_mkY fun post q a_text a_marks a_info a_held a_strips a_size a_kind a_dueKey a_dueLevel hT hG hN hQ H => fy post q a_text a_marks a_info a_held a_strips a_size a_kind a_dueKey a_dueLevel hT (H _ (me_inY hT hG hN hQ))⟩)
  by_cases hw : key = 119
  · subst hw
    by_cases hc : cur < len
    · have ho := me_obj (t := t) hc
      have b1 := me_sl_le t (me_cls (t cur)) cur
      have b2 := me_sr_b (t := t) (k := me_cls (t cur)) t2
      refine me_fin (b := 105) (d := 119) (z := 0) (kk := 1) (s := me_sl t (me_cls (t cur)) cur) (e := me_sr t len (me_cls (t cur)) cur) (e2 := me_sr t len (me_cls (t cur)) cur) I hss (by omega) (by omega) (by omega) (by omega) h0 (Or.inl ⟨rfl, rfl, rfl⟩) (fun e => absurd e (by decide)) hCH hv ?_ ?_
      · intro post f_spanFrom f_spanTo f_spanTextEnd f_spanKind a_text a_marks a_regKinds a_regLens a_regCodes a_nodeParent a_nodeRedo a_nodeLen a_nodeCur a_nodeMarks a_nodeText a_recCodes a_chKeys a_chText a_frameCodes a_frameLen a_framePos a_frameTimes a_frameLevel hT H
        refine br_t rfl (br_t (nI_lt hc (by omega)) (xe_classAt (by omega) ?_))
        rw [hT.1 cur hc]
        refine xe_skipLeft (t := t) (by omega) (fun i hi => hT.1 i (by omega)) (xe_skipRight (t := t) t2 (by omega) hT.1 (xe_setCharSpan (by omega) (by omega) ?_))
        have e1 : (if me_sr t len (me_cls (t cur)) cur ≤ me_sl t (me_cls (t cur)) cur then me_sr t len (me_cls (t cur)) cur else me_sl t (me_cls (t cur)) cur) = me_sl t (me_cls (t cur)) cur := by split <;> omega
        have e2 : (if me_sr t len (me_cls (t cur)) cur ≤ me_sl t (me_cls (t cur)) cur then me_sl t (me_cls (t cur)) cur else me_sr t len (me_cls (t cur)) cur) = me_sr t len (me_cls (t cur)) cur := by split <;> omega
        rw [e1, e2]
        exact br_f (by decide) (H _ (me_impX fun _ _ _ _ _ _ _ _ _ _ _ _ _ _ _ _ _ _ _ _ _ _ _ _ _ _ _ _ _ _ _ _ _ _ _ _ _ _ _ _ _ _ _ _ _ _ h => h))
      · intro post q a_text a_marks a_info a_held a_strips a_size a_kind a_dueKey a_dueLevel hT H
        refine ye_target_105 I hT (br_t rfl (br_f (nI_ge hc (by omega)) ⟨_, ye_objectStart_24 (t := t) (by omega) hT.1 hc cur (Nat.le_refl _) ?_⟩))
        refine br_t (nI_pos' (by omega)) (br_f h0 (br_f (by decide) (br_f (by decide) (br_f n3 ?_))))
        refine ye_move_105 (oe := some (me_sr t len (me_cls (t cur)) cur)) (fun post' h => br_t rfl ⟨_, ye_objectEnd_11 (t := t) (by omega) hT.1 (by omega) (len - me_sl t (me_cls (t cur)) cur) _ (by omega) ?_⟩) H
        rw [ho.1]
        have e3 := ho.2
        unfold me_sr at e3
        rw [e3]
        exact h
    · refine hfail ?_ ?_
      · intro post f_spanFrom f_spanTo f_spanTextEnd f_spanKind a_text a_marks a_regKinds a_regLens a_regCodes a_nodeParent a_nodeRedo a_nodeLen a_nodeCur a_nodeMarks a_nodeText a_recCodes a_chKeys a_chText a_frameCodes a_frameLen a_framePos a_frameTimes a_frameLevel hT H
        exact br_t rfl (br_f (nI_nlt (by omega) (by omega)) (br_t rfl H))
      · intro post q a_text a_marks a_info a_held a_strips a_size a_kind a_dueKey a_dueLevel hT H
        exact ye_target_105 I hT (br_t rfl (br_t (nI_le (by omega) (by omega)) (br_f (by decide) (br_f (by decide) H))))
  · by_cases hp : key = 40
    · subst hp
      -- the place where the search for the opening begins
      have hj : ∃ j, j ≤ len ∧ ((len ≤ cur ∨ t cur = 41) → j = cur) ∧ (¬ (len ≤ cur ∨ t cur = 41) → j = cur + 1) := by
        by_cases h : len ≤ cur ∨ t cur = 41
        · exact ⟨cur, t2, fun _ => rfl, fun q => absurd h q⟩
        · exact ⟨cur + 1, by have : ¬ len ≤ cur := fun q => h (Or.inl q); omega, fun q => absurd q h, fun _ => rfl⟩
      obtain ⟨j, hj1, hj2, hj3⟩ := hj
      have kX : ∀ (post : Int32 → SX → Prop) (f_spanFrom f_spanTo f_spanTextEnd f_spanKind : Int32) (a_text a_marks a_regKinds a_regLens a_regCodes a_nodeParent a_nodeRedo a_nodeLen a_nodeCur a_nodeMarks a_nodeText a_recCodes a_chKeys a_chText a_frameCodes a_frameLen a_framePos a_frameTimes a_frameLevel : Nat → Int32), me_TX t len mks a_text a_marks → (∀ x, x = nI j + (-1) → wX_parenSpan_39 post x (nI tcap) (nI ncap) (nI lvs) (nI len) (nI cur) (nI cnt) (nI now) (me_o reg) (nI k1) op (nI k2) wt (me_o ss) (nI cp) (me_o rr) (nI (sz 4)) (nI (sz 5)) (nI (sz 6)) (me_o cr) (nI cc) (nI fr.length) (nI kl) f_spanFrom f_spanTo f_spanTextEnd f_spanKind a_text a_marks a_regKinds a_regLens a_regCodes a_nodeParent a_nodeRedo a_nodeLen a_nodeCur a_nodeMarks a_nodeText a_recCodes a_chKeys a_chText a_frameCodes a_frameLen a_framePos a_frameTimes a_frameLevel) → wpX_parenSpan post (nI tcap, nI ncap, nI lvs, nI len, nI cur, nI cnt, nI now, me_o reg, nI k1, op, nI k2, wt, me_o ss, nI cp, me_o rr, nI (sz 4), nI (sz 5), nI (sz 6), me_o cr, nI cc, nI fr.length, nI kl, f_spanFrom, f_spanTo, f_spanTextEnd, f_spanKind, a_text, a_marks, a_regKinds, a_regLens, a_regCodes, a_nodeParent, a_nodeRedo, a_nodeLen, a_nodeCur, a_nodeMarks, a_nodeText, a_recCodes, a_chKeys, a_chText, a_frameCodes, a_frameLen, a_framePos, a_frameTimes, a_frameLevel) := by
        intro post f_spanFrom f_spanTo f_spanTextEnd f_spanKind a_text a_marks a_regKinds a_regLens a_regCodes a_nodeParent a_nodeRedo a_nodeLen a_nodeCur a_nodeMarks a_nodeText a_recCodes a_chKeys a_chText a_frameCodes a_frameLen a_framePos a_frameTimes a_frameLevel hT H
        refine pk_le len cur (fun h => H _ ?_) (fun h => ⟨vp_in_nI (by omega) (by omega), ?_⟩)
        · rw [hj2 (Or.inl h), me_subm1]
        · rw [nI_clamp (by omega), hT.1 cur h]
          refine br_c (fun h2 => H _ ?_) (fun h2 => H _ ?_)
          · rw [hj2 (Or.inr h2), me_subm1]
          · rw [hj3 (fun q => q.elim (by omega) h2), pk_m1]
      have kY : ∀ (post : Int32 → Prop) (q : Nat) (a_text a_marks a_info a_held a_strips a_size a_kind a_dueKey a_dueLevel : Nat → Int32), me_TX t len mks a_text a_marks → (∀ x, x = nI j + (-1) → ∃ n, wY_objectStart_97 post (nI tcap) (nI ncap) (nI lvs) (nI len) (nI cur) (nI now) (nI cnt) (nI q) (nI k1) op (nI k2) wt (nI cp) (nI cc) (me_o reg) (me_o ss) (me_o rr) (me_o cr) a_text a_marks a_info a_held a_strips a_size a_kind a_dueKey a_dueLevel n 0 x) → wpY_objectStart post (nI tcap, nI ncap, nI lvs, nI len, nI cur, nI now, nI cnt, nI q, nI k1, op, nI k2, wt, nI cp, nI cc, me_o reg, me_o ss, me_o rr, me_o cr, a_text, a_marks, a_info, a_held, a_strips, a_size, a_kind, a_dueKey, a_dueLevel) 40 := by
        intro post q a_text a_marks a_info a_held a_strips a_size a_kind a_dueKey a_dueLevel hT H
        refine br_f (by decide) (br_t rfl (pk_eq cur len (fun h => nm_e (H _ ?_)) (fun h => ⟨vp_in_nI (by omega) (by omega), ?_⟩)))
        · rw [hj2 (Or.inl (by omega)), me_subm1]
        · rw [nI_clamp (by omega), hT.1 cur (by omega)]
          refine br_c (fun h2 => nm_e (H _ ?_)) (fun h2 => H _ ?_)
          · rw [hj2 (Or.inr h2), me_subm1]
          · rw [hj3 (fun q => q.elim (by omega) h2), pk_m1]
      cases hopn : me_opn t j 0 with
      | none =>
        refine hfail ?_ ?_
        · intro post f_spanFrom f_spanTo f_spanTextEnd f_spanKind a_text a_marks a_regKinds a_regLens a_regCodes a_nodeParent a_nodeRedo a_nodeLen a_nodeCur a_nodeMarks a_nodeText a_recCodes a_chKeys a_chText a_frameCodes a_frameLen a_framePos a_frameTimes a_frameLevel hT H
          refine br_f (by decide) (br_t rfl (kX _ _ _ _ _ a_text a_marks a_regKinds a_regLens a_regCodes a_nodeParent a_nodeRedo a_nodeLen a_nodeCur a_nodeMarks a_nodeText a_recCodes a_chKeys a_chText a_frameCodes a_frameLen a_framePos a_frameTimes a_frameLevel hT (fun x hx => xe_openingFrom (t := t) hx (by omega) (fun i hi => hT.1 i (by omega)) ?_)))
          rw [hopn]
          exact br_f (by decide) (br_t rfl H)
        · intro post q a_text a_marks a_info a_held a_strips a_size a_kind a_dueKey a_dueLevel hT H
          refine ye_target_105 I hT (kY _ q a_text a_marks a_info a_held a_strips a_size a_kind a_dueKey a_dueLevel hT (fun x hx => ⟨_, ye_objectStart_97 (t := t) j 0 x hx (by omega) (by omega) (by omega) (fun i hi => hT.1 i (by omega)) ?_⟩))
          rw [hopn]
          exact br_f (by decide) H
      | some p =>
        have hpj := me_opn_b _ _ _ hopn
        cases hcl : me_cls2 t (len - (p + 1)) (p + 1) 0 with
        | none =>
          refine hfail ?_ ?_
          · intro post f_spanFrom f_spanTo f_spanTextEnd f_spanKind a_text a_marks a_regKinds a_regLens a_regCodes a_nodeParent a_nodeRedo a_nodeLen a_nodeCur a_nodeMarks a_nodeText a_recCodes a_chKeys a_chText a_frameCodes a_frameLen a_framePos a_frameTimes a_frameLevel hT H
            refine br_f (by decide) (br_t rfl (kX _ _ _ _ _ a_text a_marks a_regKinds a_regLens a_regCodes a_nodeParent a_nodeRedo a_nodeLen a_nodeCur a_nodeMarks a_nodeText a_recCodes a_chKeys a_chText a_frameCodes a_frameLen a_framePos a_frameTimes a_frameLevel hT (fun x hx => xe_openingFrom (t := t) hx (by omega) (fun i hi => hT.1 i (by omega)) ?_)))
            rw [hopn]
            refine br_t (nI_pos' (by omega)) ?_
            rw [me_o_some, nI_1]
            refine xe_closingFrom (t := t) (by omega) (by omega) hT.1 ?_
            rw [hcl]
            exact br_f (by decide) (br_t rfl H)
          · intro post q a_text a_marks a_info a_held a_strips a_size a_kind a_dueKey a_dueLevel hT H
            refine ye_target_105 I hT (kY _ q a_text a_marks a_info a_held a_strips a_size a_kind a_dueKey a_dueLevel hT (fun x hx => ⟨_, ye_objectStart_97 (t := t) j 0 x hx (by omega) (by omega) (by omega) (fun i hi => hT.1 i (by omega)) ?_⟩))
            rw [hopn]
            refine br_t (nI_pos' (n := p + 1) (by omega)) (br_f h0 (br_f (by decide) (br_f (by decide) (br_f n3 ?_))))
            refine ye_move_105 (p := p + 1) (oe := none) (fun post' h => br_f (by decide) ⟨_, ye_objectEnd_43 (t := t) (by omega) hT.1 (len - (p + 1)) (p + 1) 0 (by omega) (by omega) ?_⟩) (br_t (by decide) H)
            rw [hcl]; exact h
        | some e =>
          have he := me_cls2_b _ _ _ _ hcl
          refine me_fin (b := 105) (d := 40) (z := 0) (kk := 1) (s := p + 1) (e := e) (e2 := e) I hss (by omega) (by omega) (by omega) (by omega) h0 (Or.inl ⟨rfl, rfl, rfl⟩) (fun e => absurd e (by decide)) hCH hv ?_ ?_
          · intro post f_spanFrom f_spanTo f_spanTextEnd f_spanKind a_text a_marks a_regKinds a_regLens a_regCodes a_nodeParent a_nodeRedo a_nodeLen a_nodeCur a_nodeMarks a_nodeText a_recCodes a_chKeys a_chText a_frameCodes a_frameLen a_framePos a_frameTimes a_frameLevel hT H
            refine br_f (by decide) (br_t rfl (kX _ _ _ _ _ a_text a_marks a_regKinds a_regLens a_regCodes a_nodeParent a_nodeRedo a_nodeLen a_nodeCur a_nodeMarks a_nodeText a_recCodes a_chKeys a_chText a_frameCodes a_frameLen a_framePos a_frameTimes a_frameLevel hT (fun x hx => xe_openingFrom (t := t) hx (by omega) (fun i hi => hT.1 i (by omega)) ?_)))
            rw [hopn]
            refine br_t (nI_pos' (by omega)) ?_
            rw [me_o_some, nI_1]
            refine xe_closingFrom (t := t) (by omega) (by omega) hT.1 ?_
            rw [hcl]
            refine br_t (nI_pos' (by omega)) (xe_setCharSpan (by omega) (by omega) ?_)
            have e1 : (if e ≤ p + 1 then e else p + 1) = p + 1 := by split <;> omega
            have e2 : (if e ≤ p + 1 then p + 1 else e) = e := by split <;> omega
            rw [e1, e2]
            exact br_f (by decide) (H _ (me_impX fun _ _ _ _ _ _ _ _ _ _ _ _ _ _ _ _ _ _ _ _ _ _ _ _ _ _ _ _ _ _ _ _ _ _ _ _ _ _ _ _ _ _ _ _ _ _ h => h))
          · intro post q a_text a_marks a_info a_held a_strips a_size a_kind a_dueKey a_dueLevel hT H
            refine ye_target_105 I hT (kY _ q a_text a_marks a_info a_held a_strips a_size a_kind a_dueKey a_dueLevel hT (fun x hx => ⟨_, ye_objectStart_97 (t := t) j 0 x hx (by omega) (by omega) (by omega) (fun i hi => hT.1 i (by omega)) ?_⟩))
            rw [hopn]
            refine br_t (nI_pos' (n := p + 1) (by omega)) (br_f h0 (br_f (by decide) (br_f (by decide) (br_f n3 ?_))))
            refine ye_move_105 (p := p + 1) (oe := some e) (fun post' h => br_f (by decide) ⟨_, ye_objectEnd_43 (t := t) (by omega) hT.1 (len - (p + 1)) (p + 1) 0 (by omega) (by omega) ?_⟩) H
            rw [hcl]; exact h
    · refine hfail ?_ ?_
      · intro post f_spanFrom f_spanTo f_spanTextEnd f_spanKind a_text a_marks a_regKinds a_regLens a_regCodes a_nodeParent a_nodeRedo a_nodeLen a_nodeCur a_nodeMarks a_nodeText a_recCodes a_chKeys a_chText a_frameCodes a_frameLen a_framePos a_frameTimes a_frameLevel hT H
        exact br_f hw (br_f hp (br_t rfl H))
      · intro post q a_text a_marks a_info a_held a_strips a_size a_kind a_dueKey a_dueLevel hT H
        exact ye_target_105 I hT (br_f hw (br_f hp (br_f (by decide) H)))
end
end
section
/-! putting a register -/
theorem me_modS (i u : Nat) (hu : 0 < u) : (i + 1) % u = if u ≤ i % u + 1 then 0 else i % u + 1 := by
  have h1 := Nat.div_add_mod i u
  have h2 := Nat.mod_lt i hu
  split
  · have e : i + 1 = u * (i / u + 1) := by rw [Nat.mul_add]; omega
    rw [e, Nat.mul_mod_right]
  · have e : i + 1 = u * (i / u) + (i % u + 1) := by omega
    rw [e, Nat.mul_add_mod, Nat.mod_eq_of_lt (by omega)]
theorem me_pmod {u x : Nat} (c : Nat) (h : x < u) : (c * u + x) % u = x := by
  rw [Nat.mul_comm, Nat.mul_add_mod, Nat.mod_eq_of_lt h]
/-- the code at place k of one copy -/
def me_pc (ln : Prop) (key : Int32) (n : Nat) (s : Nat → Int32) (k : Nat) [Decidable ln] : Int32 :=
  if ln ∧ key = 112 then (if k = 0 then 10 else s (k - 1)) else if k < n then s k else 10
def me_un (kk n : Nat) : Nat := if kk = 2 then n + 1 else n
def me_pg (kk : Nat) (key : Int32) (n : Nat) (s : Nat → Int32) (i : Nat) : Int32 := me_pc (kk = 2) key n s (i % me_un kk n)
def me_pq (kk : Nat) (key : Int32) (t : Nat → Int32) (len cur : Nat) : Nat :=
  if kk = 2 then (if key = 112 then me_le t len cur else me_ls t cur) else if key = 112 then (if me_le t len cur ≤ cur then cur else cur + 1) else cur
def me_pcur (kk : Nat) (key : Int32) (q n : Nat) : Nat := if kk = 2 then (if key = 112 then q + 1 else q) else q + n - 1
theorem me_pq_b {kk : Nat} {key : Int32} {t : Nat → Int32} {len cur : Nat} (h : cur ≤ len) : me_pq kk key t len cur ≤ len := by
  have h1 := me_ls_le t cur
  have h2 := me_le_b (t := t) h
  unfold me_pq
  split
  · split <;> omega
  · split
    · split <;> omega
    · exact h
/-- the state behind a put, before the commit -/
def me_pd (c : me_CC) (key : Int32) (r q n : Nat) : me_CC := match c with
  | (tcap, ncap, lvs, t, len, cur, mks, kd, sz, st, cnt, now, par, rd, nt, nl, nc, nm, reg, k1, op, k2, wt, ss, cp, rr, cr, cc, fr, kl, tk) => (tcap, ncap, lvs, me_gap t q n (me_pg (kd r) key (sz r) (st r)), len + n, me_pcur (kd r) key q n, me_shm mks q n, kd, me_set (me_set sz 5 1) 6 0, me_set st 5 (me_k3 key 0 0), cnt, now, par, rd, nt, nl, nc, nm, reg, k1, op, k2, wt, ss, cp, rr, reg, me_ncc k1 k2, fr, kl, tk)
section
variable {f_textCap f_nodeCap f_levels f_len f_cur f_nodeCount f_node f_reg f_c1 f_op f_c2 f_waiting f_sessionStart f_copies f_recReg f_recLen f_chKeyLen f_chTextLen f_chReg f_chCount f_depth f_keyLevel f_spanFrom f_spanTo f_spanTextEnd f_spanKind : Int32} {a_text a_marks a_regKinds a_regLens a_regCodes a_nodeParent a_nodeRedo a_nodeLen a_nodeCur a_nodeMarks a_nodeText a_recCodes a_chKeys a_chText a_frameCodes a_frameLen a_framePos a_frameTimes a_frameLevel : Nat → Int32}
theorem xe_putCode {post : Int32 → Prop} {r k n kk : Nat} {key : Int32} {s : Nat → Int32} (hr : r < 4) (hk : k < 64) (hn : n ≤ 32) (hkk : kk ≤ 2) (h1 : a_regKinds r = nI kk) (h2 : a_regLens r = nI n) (h3 : ∀ i, i < n → a_regCodes (r * 32 + i) = s i) (hku : k < me_un kk n) (H : post (me_pc (kk = 2) key n s k)) : wpX_putCode post (f_textCap, f_nodeCap, f_levels, f_len, f_cur, f_nodeCount, f_node, f_reg, f_c1, f_op, f_c2, f_waiting, f_sessionStart, f_copies, f_recReg, f_recLen, f_chKeyLen, f_chTextLen, f_chReg, f_chCount, f_depth, f_keyLevel, f_spanFrom, f_spanTo, f_spanTextEnd, f_spanKind, a_text, a_marks, a_regKinds, a_regLens, a_regCodes, a_nodeParent, a_nodeRedo, a_nodeLen, a_nodeCur, a_nodeMarks, a_nodeText, a_recCodes, a_chKeys, a_chText, a_frameCodes, a_frameLen, a_framePos, a_frameTimes, a_frameLevel) (nI r) (nI k) key := by
  have v : vp_in (nI r) 4 := vp_in_nI hr (by omega)
  have c := nI_clamp (n := r) (by omega)
  have k23 : ∀ j : Nat, j < 64 → post (if j < n then s j else 10) → wX_putCode_23 post (nI r) (nI j) f_textCap f_nodeCap f_levels f_len f_cur f_nodeCount f_node f_reg f_c1 f_op f_c2 f_waiting f_sessionStart f_copies f_recReg f_recLen f_chKeyLen f_chTextLen f_chReg f_chCount f_depth f_keyLevel f_spanFrom f_spanTo f_spanTextEnd f_spanKind a_text a_marks a_regKinds a_regLens a_regCodes a_nodeParent a_nodeRedo a_nodeLen a_nodeCur a_nodeMarks a_nodeText a_recCodes a_chKeys a_chText a_frameCodes a_frameLen a_framePos a_frameTimes a_frameLevel := by
    intro j hj H
    refine br_f (nI_pos (by omega)) ⟨v, ?_⟩
    rw [c, h2]
    refine pk_le n j (fun h => ?_) (fun h => ⟨pk_in (r * 32 + j) 128 (by omega) (me_ix32 _ _), ?_⟩)
    · rw [if_neg (by omega)] at H; exact H
    · rw [pk_cl (r * 32 + j) (me_ix32 _ _), h3 j h]
      rw [if_pos h] at H; exact H
  refine ⟨v, ?_⟩
  rw [c, h1]
  unfold me_pc at H
  refine pk_eq kk 2 (fun e => br_c (fun e2 => ?_) (fun e2 => ?_)) (fun e => ?_)
  · rw [if_pos ⟨e, e2⟩] at H
    cases k with
    | zero => exact br_t (by decide) H
    | succ k =>
      rw [nI_pred]
      refine k23 k (by omega) ?_
      unfold me_un at hku
      rw [if_pos e] at hku
      rw [if_pos (by omega)]
      rw [if_neg (by omega)] at H
      exact H
  · rw [if_neg (fun q => e2 q.2)] at H
    exact k23 k hk H
  · rw [if_neg (fun q => e q.1)] at H
    exact k23 k hk H
theorem xe_put_133 {post : Int32 → SX → Prop} {r n kk q sz1 : Nat} {key z : Int32} {s t0 : Nat → Int32} (hr : r < 4) (hn : n ≤ 32) (hkk : kk ≤ 2) (h1 : a_regKinds r = nI kk) (h2 : a_regLens r = nI n) (h3 : ∀ i, i < n → a_regCodes (r * 32 + i) = s i) (hu : 0 < sz1 → 0 < me_un kk n) (hq : q + sz1 ≤ 32)
    (H : ∀ a', (∀ j, j < q ∨ q + sz1 ≤ j → a' j = t0 j) → (∀ j, j < sz1 → a' (q + j) = me_pg kk key n s j) → ∀ k, wX_put_133 post key (nI r) z (nI (me_un kk n)) (nI sz1) (nI q) f_textCap f_nodeCap f_levels f_len f_cur f_nodeCount f_node f_reg f_c1 f_op f_c2 f_waiting f_sessionStart f_copies f_recReg f_recLen f_chKeyLen f_chTextLen f_chReg f_chCount f_depth f_keyLevel f_spanFrom f_spanTo f_spanTextEnd f_spanKind 1 (nI k) (nI sz1) a' a_marks a_regKinds a_regLens a_regCodes a_nodeParent a_nodeRedo a_nodeLen a_nodeCur a_nodeMarks a_nodeText a_recCodes a_chKeys a_chText a_frameCodes a_frameLen a_framePos a_frameTimes a_frameLevel) :
    ∀ (d i k : Nat) (a : Nat → Int32), i + d = sz1 → k = i % me_un kk n → (∀ j, j < q ∨ q + sz1 ≤ j → a j = t0 j) → (∀ j, j < i → a (q + j) = me_pg kk key n s j) → wX_put_133 post key (nI r) z (nI (me_un kk n)) (nI sz1) (nI q) f_textCap f_nodeCap f_levels f_len f_cur f_nodeCount f_node f_reg f_c1 f_op f_c2 f_waiting f_sessionStart f_copies f_recReg f_recLen f_chKeyLen f_chTextLen f_chReg f_chCount f_depth f_keyLevel f_spanFrom f_spanTo f_spanTextEnd f_spanKind (d + 1) (nI k) (nI i) a a_marks a_regKinds a_regLens a_regCodes a_nodeParent a_nodeRedo a_nodeLen a_nodeCur a_nodeMarks a_nodeText a_recCodes a_chKeys a_chText a_frameCodes a_frameLen a_framePos a_frameTimes a_frameLevel
  | 0, i, k, a, hd, ek, g1, g2 => by
    have : i = sz1 := by omega
    subst this
    exact H a g1 g2 k
  | d + 1, i, k, a, hd, ek, g1, g2 => by
    subst ek
    have hu' := hu (by omega)
    have hu2 : me_un kk n ≤ 33 := by unfold me_un; split <;> omega
    have hm := Nat.mod_lt i hu'
    refine br_f (nI_ge (by omega) (by omega)) (xe_putCode hr (by omega) hn hkk h1 h2 h3 hm ⟨pk_in (q + i) 32 (by omega) (nI_add _ _), nm_e ?_⟩)
    rw [pk_cl (q + i) (nI_add _ _)]
    have ih := xe_put_133 hr hn hkk h1 h2 h3 hu hq H d (i + 1) _ (upd a (q + i) (me_pc (kk = 2) key n s (i % me_un kk n))) (by omega) rfl (fun j hj => by rw [pk_un (by omega)]; exact g1 j hj) (fun j hj => by
      by_cases e : j = i
      · subst e; exact pk_us
      · rw [pk_un (by omega)]; exact g2 j (by omega))
    rw [me_modS i _ hu'] at ih
    rw [nI_1]
    refine pk_le (me_un kk n) (i % me_un kk n + 1) (fun h => nm_r (nI_1 i) ?_) (fun h => nm_r rfl (nm_r (nI_1 i) ?_))
    · rw [if_pos h] at ih; exact ih
    · rw [if_neg (by omega)] at ih; exact ih
end
section
variable {tcap : Nat} {ncap : Nat} {lvs : Nat} {t : Nat → Int32} {len : Nat} {cur : Nat} {mks : Nat → Option Nat} {kd : Nat → Nat} {sz : Nat → Nat} {st : Nat → Nat → Int32} {cnt : Nat} {now : Nat} {par : Nat → Option Nat} {rd : Nat → Option Nat} {nt : Nat → Nat → Int32} {nl : Nat → Nat} {nc : Nat → Nat} {nm : Nat → Nat → Option Nat} {reg : Option Nat} {k1 : Nat} {op : Int32} {k2 : Nat} {wt : Int32} {ss : Option Nat} {cp : Nat} {rr : Option Nat} {cr : Option Nat} {cc : Nat} {fr : List (List Int32 × Nat × Nat × Nat)} {kl : Nat} {tk : Nat}
theorem me_inv_pd {key : Int32} {r q n : Nat} (I : me_Inv (tcap, ncap, lvs, t, len, cur, mks, kd, sz, st, cnt, now, par, rd, nt, nl, nc, nm, reg, k1, op, k2, wt, ss, cp, rr, cr, cc, fr, kl, tk)) (hss : ss = none) (hr : r < 4) (hq : q ≤ len) (hl : len + n ≤ tcap) (hn : 0 < n) (hk : key = 112 ∨ key = 80) : me_Inv (me_pd (tcap, ncap, lvs, t, len, cur, mks, kd, sz, st, cnt, now, par, rd, nt, nl, nc, nm, reg, k1, op, k2, wt, ss, cp, rr, cr, cc, fr, kl, tk) key r q n) := by
  obtain ⟨hA, ⟨t1, t2, t3, t4⟩, ⟨g1, g2, g3, g4⟩, hN, hK, ⟨s1, s2, s3, s4, s5⟩, hF⟩ := I
  have hvk : me_vk key := by rcases hk with rfl | rfl; exact ⟨112, rfl, by omega, by omega⟩; exact ⟨80, rfl, by omega, by omega⟩
  have hpg : ∀ i, me_vk (me_pg (kd r) key (sz r) (st r) i) := by
    intro i
    have v10 : me_vk 10 := ⟨10, rfl, by omega, by omega⟩
    unfold me_pg me_pc
    by_cases hu : 0 < me_un (kd r) (sz r)
    · have hm := Nat.mod_lt i hu
      generalize i % me_un (kd r) (sz r) = x at hm
      split
      · rename_i e
        split
        · exact v10
        · unfold me_un at hm
          rw [if_pos e.1] at hm
          exact (g2 r (by omega)).2 _ (by omega)
      · split
        · exact (g2 r (by omega)).2 _ (by omega)
        · exact v10
    · split
      · rename_i e
        unfold me_un at hu
        rw [if_pos e.1] at hu
        omega
      · split
        · exact (g2 r (by omega)).2 _ (by omega)
        · exact v10
  refine ⟨hA, ⟨hl, ?_, fun i hi => ?_, fun m hm j hj => me_shm_b (t4 m hm) hj⟩, ⟨fun r hr' => ?_, fun r hr' => ?_, ?_, ?_⟩, hN, hK, ⟨fun s h => (by rw [hss] at h; cases h), s2, s3, hK.1, me_ncc_b _ _⟩, hF⟩
  · unfold me_pcur
    split
    · split <;> omega
    · omega
  · unfold me_gap
    split
    · exact t3 _ (by omega)
    · split
      · exact hpg _
      · exact t3 _ (by omega)
  · rw [me_set_n (by omega), me_set_n (by omega)]; exact g1 r hr'
  · by_cases e6 : r = 6
    · subst e6; rw [me_set_s]; exact ⟨by omega, fun i hi => by omega⟩
    · rw [me_set_n e6]
      by_cases e5 : r = 5
      · subst e5
        rw [me_set_s, me_set_s]
        refine ⟨by omega, fun i hi => ?_⟩
        have : i = 0 := by omega
        subst this
        exact hvk
      · rw [me_set_n e5, me_set_n e5]; exact g2 r hr'
  · rw [me_set_s]; intro i hi; omega
  · rw [me_set_n (by omega), me_set_s, me_set_s]
    refine Or.inr (Or.inl ⟨rfl, ?_⟩)
    rcases hk with rfl | rfl
    · exact Or.inr (Or.inl rfl)
    · exact Or.inr (Or.inr (Or.inl rfl))
end
section
variable {f_cap f_nodeCap f_levels f_len f_cur f_now f_nodeCount f_queued f_c1 f_op f_c2 f_waits f_copies f_recCount f_reg f_begin f_recording f_recReg : Int32} {a_text a_marks a_info a_held a_strips a_size a_kind a_dueKey a_dueLevel : Nat → Int32}
/-- one code put in behind m others -/
theorem ye_insM {post : SY → Prop} {t : Nat → Int32} {mks : Nat → Option Nat} {len p m tot : Nat} {g : Nat → Int32} {code x : Int32} (hp : p ≤ len) (hm : m < tot) (hl : len + tot ≤ 32) (hb : ∀ k, k < 3 → ∀ j, mks k = some j → j ≤ len) (hT : me_TX (me_gap t p m g) (len + m) (me_shm mks p m) a_text a_marks) (hc : code = g m) (hx : x = nI (p + m))
    (H : ∀ a_text a_marks, me_TX (me_gap t p (m + 1) g) (len + (m + 1)) (me_shm mks p (m + 1)) a_text a_marks → post (f_cap, f_nodeCap, f_levels, nI (len + (m + 1)), f_cur, f_now, f_nodeCount, f_queued, f_c1, f_op, f_c2, f_waits, f_copies, f_recCount, f_reg, f_begin, f_recording, f_recReg, a_text, a_marks, a_info, a_held, a_strips, a_size, a_kind, a_dueKey, a_dueLevel)) : wpY_ins post (f_cap, f_nodeCap, f_levels, nI (len + m), f_cur, f_now, f_nodeCount, f_queued, f_c1, f_op, f_c2, f_waits, f_copies, f_recCount, f_reg, f_begin, f_recording, f_recReg, a_text, a_marks, a_info, a_held, a_strips, a_size, a_kind, a_dueKey, a_dueLevel) x code := by
  subst hc hx
  refine ye_ins (mks := me_shm mks p m) (t := me_gap t p m g) (by omega) (by omega) hT.1 (fun k hk j hj => ?_) hT.2 (fun a' m' e1 e2 => H a' m' ⟨?_, ?_⟩)
  · have := me_shm_b (hb k hk) hj; omega
  · rw [← me_gap_s]; exact e1
  · rw [← me_shm_s]; exact e2
theorem ye_put_208 {post : Int32 → SY → Prop} {J : Int32 → Int32 → Int32 → Int32 → Int32 → Int32 → Int32 → Int32 → Int32 → Int32 → Int32 → Int32 → Int32 → Int32 → Int32 → Int32 → Int32 → Int32 → Int32 → Int32 → (Nat → Int32) → (Nat → Int32) → (Nat → Int32) → (Nat → Int32) → (Nat → Int32) → (Nat → Int32) → (Nat → Int32) → (Nat → Int32) → (Nat → Int32) → Prop} {t : Nat → Int32} {mks : Nat → Option Nat} {len p m0 tot r n0 : Nat} {g s : Nat → Int32} {key x2 x4 x6 x7 x9 : Int32} (hr : r < 4) (h0 : a_size r = nI n0) (hn0 : n0 ≤ 32) (hs : ∀ i, i < n0 → a_strips (r * 32 + i) = s i) (hp : p ≤ len) (hm : m0 + n0 ≤ tot) (hl : len + tot ≤ 32) (hb : ∀ k, k < 3 → ∀ j, mks k = some j → j ≤ len) (hg : ∀ i, i < n0 → g (m0 + i) = s i)
    (H : ∀ a_text a_marks, me_TX (me_gap t p (m0 + n0) g) (len + (m0 + n0)) (me_shm mks p (m0 + n0)) a_text a_marks → wY_put_208 post J key x2 (nI r) x4 x6 x7 x9 1 (nI (p + (m0 + n0))) (nI n0) f_cap f_nodeCap f_levels (nI (len + (m0 + n0))) f_cur f_now f_nodeCount f_queued f_c1 f_op f_c2 f_waits f_copies f_recCount f_reg f_begin f_recording f_recReg a_text a_marks a_info a_held a_strips a_size a_kind a_dueKey a_dueLevel) :
    ∀ (d i : Nat) (a_text a_marks : Nat → Int32), i + d = n0 → me_TX (me_gap t p (m0 + i) g) (len + (m0 + i)) (me_shm mks p (m0 + i)) a_text a_marks → wY_put_208 post J key x2 (nI r) x4 x6 x7 x9 (d + 1) (nI (p + (m0 + i))) (nI i) f_cap f_nodeCap f_levels (nI (len + (m0 + i))) f_cur f_now f_nodeCount f_queued f_c1 f_op f_c2 f_waits f_copies f_recCount f_reg f_begin f_recording f_recReg a_text a_marks a_info a_held a_strips a_size a_kind a_dueKey a_dueLevel
  | 0, i, a_text, a_marks, hd, hT => by
    have : i = n0 := by omega
    subst this
    exact H a_text a_marks hT
  | d + 1, i, a_text, a_marks, hd, hT => by
    refine ⟨vp_in_nI (by omega) (by omega), ?_⟩
    rw [nI_clamp (n := r) (by omega), h0]
    refine br_f (nI_ge (by omega) (by omega)) (nm_r (nI_1 _) ⟨pk_in (r * 32 + i) 224 (by omega) (me_ix32 _ _), ?_⟩)
    refine ye_insM (g := g) (tot := tot) hp (by omega) hl hb hT ?_ rfl (fun a' m' hT' => nm_r (nI_1 i) (ye_put_208 hr h0 hn0 hs hp hm hl hb hg H d (i + 1) a' m' (by omega) hT'))
    rw [pk_cl (r * 32 + i) (me_ix32 _ _), hs i (by omega), hg i (by omega)]
theorem ye_put_177 {post : Int32 → SY → Prop} {t : Nat → Int32} {mks : Nat → Option Nat} {len p r n0 n kk : Nat} {s : Nat → Int32} {key x4 x7 z : Int32} (hr : r < 4) (h0 : a_size r = nI n0) (hn0 : n0 ≤ 32) (hs : ∀ i, i < n0 → a_strips (r * 32 + i) = s i) (hp : p ≤ len) (hn : n ≤ 32) (hl : len + n * me_un kk n0 ≤ 32) (hb : ∀ k, k < 3 → ∀ j, mks k = some j → j ≤ len) (hk : key = 112 ∨ key = 80) (hz : (z = 1 ∧ kk = 2) ∨ (z = 0 ∧ kk ≠ 2))
    (H : ∀ a_text a_marks, me_TX (me_gap t p (n * me_un kk n0) (me_pg kk key n0 s)) (len + n * me_un kk n0) (me_shm mks p (n * me_un kk n0)) a_text a_marks → wY_put_177 post key (nI n) (nI r) x4 z x7 1 (nI (p + n * me_un kk n0)) (nI n) f_cap f_nodeCap f_levels (nI (len + n * me_un kk n0)) f_cur f_now f_nodeCount f_queued f_c1 f_op f_c2 f_waits f_copies f_recCount f_reg f_begin f_recording f_recReg a_text a_marks a_info a_held a_strips a_size a_kind a_dueKey a_dueLevel) :
    ∀ (d c : Nat) (a_text a_marks : Nat → Int32), c + d = n → me_TX (me_gap t p (c * me_un kk n0) (me_pg kk key n0 s)) (len + c * me_un kk n0) (me_shm mks p (c * me_un kk n0)) a_text a_marks → wY_put_177 post key (nI n) (nI r) x4 z x7 (d + 1) (nI (p + c * me_un kk n0)) (nI c) f_cap f_nodeCap f_levels (nI (len + c * me_un kk n0)) f_cur f_now f_nodeCount f_queued f_c1 f_op f_c2 f_waits f_copies f_recCount f_reg f_begin f_recording f_recReg a_text a_marks a_info a_held a_strips a_size a_kind a_dueKey a_dueLevel
  | 0, c, a_text, a_marks, hd, hT => by
    have : c = n := by omega
    subst this
    exact H a_text a_marks hT
  | d + 1, c, a_text, a_marks, hd, hT => by
    have hcn : c * me_un kk n0 + me_un kk n0 ≤ n * me_un kk n0 := by
      have := Nat.mul_le_mul_right (me_un kk n0) (show c + 1 ≤ n by omega)
      rw [Nat.succ_mul] at this
      exact this
    have ih := fun a' m' => ye_put_177 (post := post) (x4 := x4) (x7 := x7) hr h0 hn0 hs hp hn hl hb hk hz H d (c + 1) a' m' (by omega)
    rw [Nat.succ_mul] at ih
    refine br_f (nI_ge (by omega) (by omega)) ?_
    rcases hz with ⟨rfl, rfl⟩ | ⟨rfl, hkk⟩
    · have hu : me_un 2 n0 = n0 + 1 := if_pos rfl
      rw [hu] at ih hcn hT ⊢
      have hpg : ∀ x, x < n0 + 1 → me_pg 2 key n0 s (c * (n0 + 1) + x) = me_pc (2 = 2) key n0 s x := by
        intro x hx
        rw [me_pg, hu, me_pmod c hx]
      refine br_f (by decide) ?_
      rcases hk with rfl | rfl
      · refine br_t rfl (nm_r (nI_1 _) (ye_insM (g := me_pg 2 112 n0 s) (tot := n * (n0 + 1)) hp (by omega) (by rw [hu] at hl; exact hl) hb hT ?_ rfl (fun a' m' hT' => ⟨n0 + 1, ?_⟩)))
        · have := hpg 0 (by omega)
          rw [Nat.add_zero] at this
          rw [this]; rfl
        · refine ye_put_208 (g := me_pg 2 112 n0 s) (s := s) (m0 := c * (n0 + 1) + 1) (tot := n * (n0 + 1)) hr h0 hn0 hs hp (by omega) (by rw [hu] at hl; exact hl) hb (fun i hi => ?_) (fun a2 m2 hT2 => ?_) n0 0 a' m' (by omega) hT'
          · have := hpg (1 + i) (by omega)
            rw [← Nat.add_assoc] at this
            rw [this, me_pc, if_pos ⟨rfl, rfl⟩, if_neg (by omega)]
            exact congrArg s (by omega)
          · refine ⟨vp_in_nI (by omega) (by omega), ?_⟩
            rw [nI_clamp (n := r) (by omega), h0]
            refine br_t (nI_le (by omega) (by omega)) (br_f (by decide) (br_f (by decide) (nm_r (nI_1 c) ?_)))
            have e : c * (n0 + 1) + 1 + n0 = c * (n0 + 1) + (n0 + 1) := by omega
            rw [e] at hT2 ⊢
            exact ih a2 m2 hT2
      · refine br_f (by decide) ⟨n0 + 1, ?_⟩
        refine ye_put_208 (g := me_pg 2 80 n0 s) (s := s) (m0 := c * (n0 + 1)) (tot := n * (n0 + 1)) hr h0 hn0 hs hp (by omega) (by rw [hu] at hl; exact hl) hb (fun i hi => ?_) (fun a2 m2 hT2 => ?_) n0 0 a_text a_marks (by omega) hT
        · rw [hpg i (by omega), me_pc, if_neg (fun q => absurd q.2 (by decide)), if_pos hi]
        · refine ⟨vp_in_nI (by omega) (by omega), ?_⟩
          rw [nI_clamp (n := r) (by omega), h0]
          refine br_t (nI_le (by omega) (by omega)) (br_f (by decide) (br_t rfl (nm_r (nI_1 _) (ye_insM (g := me_pg 2 80 n0 s) (tot := n * (n0 + 1)) hp (by omega) (by rw [hu] at hl; exact hl) hb hT2 ?_ rfl (fun a' m' hT' => nm_r (nI_1 c) ?_)))))
          · rw [hpg n0 (by omega), me_pc, if_neg (fun q => absurd q.2 (by decide)), if_neg (by omega)]
          · exact ih a' m' hT'
    · have hu : me_un kk n0 = n0 := if_neg hkk
      rw [hu] at ih hcn hT ⊢
      refine br_t rfl ⟨n0 + 1, ?_⟩
      refine ye_put_208 (g := me_pg kk key n0 s) (s := s) (m0 := c * n0) (tot := n * n0) hr h0 hn0 hs hp (by omega) (by rw [hu] at hl; exact hl) hb (fun i hi => ?_) (fun a2 m2 hT2 => ?_) n0 0 a_text a_marks (by omega) hT
      · rw [me_pg, hu, me_pmod c hi, me_pc, if_neg (fun q => hkk q.1), if_pos hi]
      · refine ⟨vp_in_nI (by omega) (by omega), ?_⟩
        rw [nI_clamp (n := r) (by omega), h0]
        exact br_t (nI_le (by omega) (by omega)) (br_t rfl (nm_r (nI_1 c) (ih a2 m2 hT2)))
end
end
section
/-! putting a register: the command -/
section
variable {f_textCap f_nodeCap f_levels f_len f_cur f_nodeCount f_node f_reg f_c1 f_op f_c2 f_waiting f_sessionStart f_copies f_recReg f_recLen f_chKeyLen f_chTextLen f_chReg f_chCount f_depth f_keyLevel f_spanFrom f_spanTo f_spanTextEnd f_spanKind : Int32} {a_text a_marks a_regKinds a_regLens a_regCodes a_nodeParent a_nodeRedo a_nodeLen a_nodeCur a_nodeMarks a_nodeText a_recCodes a_chKeys a_chText a_frameCodes a_frameLen a_framePos a_frameTimes a_frameLevel : Nat → Int32}
theorem xe_afterCursor {post : Int32 → Prop} {t : Nat → Int32} {len cur : Nat} (hl : len ≤ 32) (ht : ∀ i, i < len → a_text i = t i) (hc : cur ≤ len) (H : post (nI (if me_le t len cur ≤ cur then cur else cur + 1))) : wpX_afterCursor post (f_textCap, f_nodeCap, f_levels, nI len, nI cur, f_nodeCount, f_node, f_reg, f_c1, f_op, f_c2, f_waiting, f_sessionStart, f_copies, f_recReg, f_recLen, f_chKeyLen, f_chTextLen, f_chReg, f_chCount, f_depth, f_keyLevel, f_spanFrom, f_spanTo, f_spanTextEnd, f_spanKind, a_text, a_marks, a_regKinds, a_regLens, a_regCodes, a_nodeParent, a_nodeRedo, a_nodeLen, a_nodeCur, a_nodeMarks, a_nodeText, a_recCodes, a_chKeys, a_chText, a_frameCodes, a_frameLen, a_framePos, a_frameTimes, a_frameLevel) := by
  have hb := me_le_b (t := t) hc
  refine xe_lineEnd hc hl ht (pk_le (me_le t len cur) cur (fun h => ?_) (fun h => ?_))
  · rw [if_pos h] at H
    rw [show me_le t len cur = cur by omega]; exact H
  · rw [if_neg (by omega)] at H
    rw [nI_1]; exact H
theorem xe_putPosition {post : Int32 → Prop} {t : Nat → Int32} {len cur kk : Nat} {key z : Int32} (hz : (z = 1 ∧ kk = 2) ∨ (z = 0 ∧ kk ≠ 2)) (hl : len ≤ 32) (ht : ∀ i, i < len → a_text i = t i) (hc : cur ≤ len) (H : post (nI (me_pq kk key t len cur))) : wpX_putPosition post (f_textCap, f_nodeCap, f_levels, nI len, nI cur, f_nodeCount, f_node, f_reg, f_c1, f_op, f_c2, f_waiting, f_sessionStart, f_copies, f_recReg, f_recLen, f_chKeyLen, f_chTextLen, f_chReg, f_chCount, f_depth, f_keyLevel, f_spanFrom, f_spanTo, f_spanTextEnd, f_spanKind, a_text, a_marks, a_regKinds, a_regLens, a_regCodes, a_nodeParent, a_nodeRedo, a_nodeLen, a_nodeCur, a_nodeMarks, a_nodeText, a_recCodes, a_chKeys, a_chText, a_frameCodes, a_frameLen, a_framePos, a_frameTimes, a_frameLevel) key z := by
  unfold me_pq at H
  rcases hz with ⟨rfl, h2⟩ | ⟨rfl, h2⟩
  · rw [if_pos h2] at H
    refine br_c (fun h => br_f (by decide) (xe_lineEnd hc hl ht ?_)) (fun h => br_f (by decide) (xe_lineStart (t := t) (by omega) (fun i hi => ht i (by omega)) ?_))
    · rw [if_pos h] at H; exact H
    · rw [if_neg h] at H; exact H
  · rw [if_neg h2] at H
    refine br_c (fun h => br_t rfl (xe_afterCursor hl ht hc ?_)) (fun h => br_t rfl ?_)
    · rw [if_pos h] at H; exact H
    · rw [if_neg h] at H; exact H
end
section
variable {tcap : Nat} {ncap : Nat} {lvs : Nat} {t : Nat → Int32} {len : Nat} {cur : Nat} {mks : Nat → Option Nat} {kd : Nat → Nat} {sz : Nat → Nat} {st : Nat → Nat → Int32} {cnt : Nat} {now : Nat} {par : Nat → Option Nat} {rd : Nat → Option Nat} {nt : Nat → Nat → Int32} {nl : Nat → Nat} {nc : Nat → Nat} {nm : Nat → Nat → Option Nat} {reg : Option Nat} {k1 : Nat} {op : Int32} {k2 : Nat} {wt : Int32} {ss : Option Nat} {cp : Nat} {rr : Option Nat} {cr : Option Nat} {cc : Nat} {fr : List (List Int32 × Nat × Nat × Nat)} {kl : Nat} {tk : Nat}
theorem xe_put_head {post : Int32 → SX → Prop} {f_spanFrom f_spanTo f_spanTextEnd f_spanKind : Int32} {a_text a_marks a_regKinds a_regLens a_regCodes a_nodeParent a_nodeRedo a_nodeLen a_nodeCur a_nodeMarks a_nodeText a_recCodes a_chKeys a_chText a_frameCodes a_frameLen a_framePos a_frameTimes a_frameLevel : Nat → Int32} {key z : Int32} {r : Nat} (hr : r < 4) (hreg : (reg = none ∧ r = 0) ∨ reg = some r) (hz : (z = 1 ∧ kd r = 2) ∨ (z = 0 ∧ kd r ≠ 2)) (hk2 : kd r ≤ 2) (h1 : a_regKinds r = nI (kd r)) (h2 : a_regLens r = nI (sz r))
    (H : wX_put_53 post key (nI r) z (nI (me_un (kd r) (sz r))) (nI tcap) (nI ncap) (nI lvs) (nI len) (nI cur) (nI cnt) (nI now) (me_o reg) (nI k1) op (nI k2) wt (me_o ss) (nI cp) (me_o rr) (nI (sz 4)) (nI (sz 5)) (nI (sz 6)) (me_o cr) (nI cc) (nI fr.length) (nI kl) f_spanFrom f_spanTo f_spanTextEnd f_spanKind a_text a_marks a_regKinds a_regLens a_regCodes a_nodeParent a_nodeRedo a_nodeLen a_nodeCur a_nodeMarks a_nodeText a_recCodes a_chKeys a_chText a_frameCodes a_frameLen a_framePos a_frameTimes a_frameLevel) : wpX_put post (nI tcap, nI ncap, nI lvs, nI len, nI cur, nI cnt, nI now, me_o reg, nI k1, op, nI k2, wt, me_o ss, nI cp, me_o rr, nI (sz 4), nI (sz 5), nI (sz 6), me_o cr, nI cc, nI fr.length, nI kl, f_spanFrom, f_spanTo, f_spanTextEnd, f_spanKind, a_text, a_marks, a_regKinds, a_regLens, a_regCodes, a_nodeParent, a_nodeRedo, a_nodeLen, a_nodeCur, a_nodeMarks, a_nodeText, a_recCodes, a_chKeys, a_chText, a_frameCodes, a_frameLen, a_framePos, a_frameTimes, a_frameLevel) key := by
  have v : vp_in (nI r) 4 := vp_in_nI hr (by omega)
  have c := nI_clamp (n := r) (by omega)
  have k15 : wX_put_15 post key (nI r) (nI tcap) (nI ncap) (nI lvs) (nI len) (nI cur) (nI cnt) (nI now) (me_o reg) (nI k1) op (nI k2) wt (me_o ss) (nI cp) (me_o rr) (nI (sz 4)) (nI (sz 5)) (nI (sz 6)) (me_o cr) (nI cc) (nI fr.length) (nI kl) f_spanFrom f_spanTo f_spanTextEnd f_spanKind a_text a_marks a_regKinds a_regLens a_regCodes a_nodeParent a_nodeRedo a_nodeLen a_nodeCur a_nodeMarks a_nodeText a_recCodes a_chKeys a_chText a_frameCodes a_frameLen a_framePos a_frameTimes a_frameLevel := by
    refine ⟨v, ?_⟩
    rw [c, h1]
    rcases hz with ⟨rfl, e⟩ | ⟨rfl, e⟩
    · refine pk_eq (kd r) 2 (fun _ => br_f (by decide) ⟨v, ?_⟩) (fun w => absurd e w)
      rw [c, h2, nI_1]
      rw [me_un, if_pos e] at H; exact H
    · refine pk_eq (kd r) 2 (fun w => absurd w e) (fun _ => br_t rfl ⟨v, ?_⟩)
      rw [c, h2]
      rw [me_un, if_neg e] at H; exact H
  refine me_oge reg (fun n e => ?_) (fun n e => ?_) (fun e => ?_)
  · rcases hreg with w | w
    · rw [w.1] at e; cases e
    · rw [w] at e; cases e; omega
  · rcases hreg with w | w
    · rw [w.1] at e; cases e
    · rw [w] at e; cases e; rw [w] at k15 ⊢; exact k15
  · rcases hreg with w | w
    · rw [w.2] at k15; exact k15
    · rw [w] at e; cases e
theorem ye_put_head {post : Int32 → SY → Prop} {a_text a_marks a_info a_held a_strips a_size a_kind a_dueKey a_dueLevel : Nat → Int32} {q : Nat} {key z : Int32} {r n : Nat} (hr : r < 4) (hreg : (reg = none ∧ r = 0) ∨ reg = some r) (hz : (z = 1 ∧ kd r = 2) ∨ (z = 0 ∧ kd r ≠ 2)) (hk2 : kd r ≤ 2) (h1 : a_kind r = nI (kd r)) (h2 : a_size r = nI (sz r)) (hl : len ≤ 32) (ht : ∀ i, i < len → a_text i = t i) (hc : cur ≤ len)
    (H : wY_put_72 post key (nI n) (nI r) (nI cur) (nI (me_le t len cur)) z (nI (me_un (kd r) (sz r))) (nI n) (nI tcap) (nI ncap) (nI lvs) (nI len) (nI cur) (nI now) (nI cnt) (nI q) (nI k1) op (nI k2) wt (nI cp) (nI cc) (me_o reg) (me_o ss) (me_o rr) (me_o cr) a_text a_marks a_info a_held a_strips a_size a_kind a_dueKey a_dueLevel) : wpY_put post (nI tcap, nI ncap, nI lvs, nI len, nI cur, nI now, nI cnt, nI q, nI k1, op, nI k2, wt, nI cp, nI cc, me_o reg, me_o ss, me_o rr, me_o cr, a_text, a_marks, a_info, a_held, a_strips, a_size, a_kind, a_dueKey, a_dueLevel) key (nI n) := by
  have v : vp_in (nI r) 4 := vp_in_nI hr (by omega)
  have v7 : vp_in (nI r) 7 := vp_in_nI (by omega) (by omega)
  have c := nI_clamp (n := r) (by omega)
  have k15 : wY_put_15 post key (nI n) (nI r) (nI tcap) (nI ncap) (nI lvs) (nI len) (nI cur) (nI now) (nI cnt) (nI q) (nI k1) op (nI k2) wt (nI cp) (nI cc) (me_o reg) (me_o ss) (me_o rr) (me_o cr) a_text a_marks a_info a_held a_strips a_size a_kind a_dueKey a_dueLevel := by
    refine ye_endOf (t := t) hc hl ht ⟨v, ?_⟩
    rw [c, h1]
    rcases hz with ⟨rfl, e⟩ | ⟨rfl, e⟩
    · refine pk_eq (kd r) 2 (fun _ => br_f (by decide) ⟨v7, ?_⟩) (fun w => absurd e w)
      rw [c, h2, nI_1]
      rw [me_un, if_pos e] at H; exact H
    · refine pk_eq (kd r) 2 (fun w => absurd w e) (fun _ => br_t rfl ⟨v7, ?_⟩)
      rw [c, h2]
      rw [me_un, if_neg e] at H; exact H
  refine me_oge reg (fun n e => ?_) (fun n e => ?_) (fun e => ?_)
  · rcases hreg with w | w
    · rw [w.1] at e; cases e
    · rw [w] at e; cases e; omega
  · rcases hreg with w | w
    · rw [w.1] at e; cases e
    · rw [w] at e; cases e; rw [w] at k15 ⊢; exact k15
  · rcases hreg with w | w
    · rw [w.2] at k15; exact k15
    · rw [w] at e; cases e
theorem me_put {key : Int32} (I : me_Inv (tcap, ncap, lvs, t, len, cur, mks, kd, sz, st, cnt, now, par, rd, nt, nl, nc, nm, reg, k1, op, k2, wt, ss, cp, rr, cr, cc, fr, kl, tk)) (hss : ss = none) (hk : key = 112 ∨ key = 80) :
    me_Cmd (tcap, ncap, lvs, t, len, cur, mks, kd, sz, st, cnt, now, par, rd, nt, nl, nc, nm, reg, k1, op, k2, wt, ss, cp, rr, cr, cc, fr, kl, tk) (fun c' => me_keep (tcap, ncap, lvs, t, len, cur, mks, kd, sz, st, cnt, now, par, rd, nt, nl, nc, nm, reg, k1, op, k2, wt, ss, cp, rr, cr, cc, fr, kl, tk) c') (fun post u => wpX_put post u key) (fun post v => wpY_put post v key (nI (me_nt k1 k2))) := by
  have I' := I
  obtain ⟨⟨a1, a2, a3, a4, a5, a6⟩, ⟨t1, t2, t3, t4⟩, ⟨g1, g2, g3, g4⟩, ⟨n1, n2, n3, n4⟩, ⟨hr, hk1, hk2, _⟩, hIS, hIF⟩ := I
  have hnt := me_nt_b k1 k2
  obtain ⟨r, hr4, hreg⟩ : ∃ r, r < 4 ∧ ((reg = none ∧ r = 0) ∨ reg = some r) := by
    cases reg with
    | none => exact ⟨0, by omega, Or.inl ⟨rfl, rfl⟩⟩
    | some r => exact ⟨r, hr r rfl, Or.inr rfl⟩
  obtain ⟨z, hz⟩ : ∃ z : Int32, (z = 1 ∧ kd r = 2) ∨ (z = 0 ∧ kd r ≠ 2) := by
    by_cases e : kd r = 2
    · exact ⟨1, Or.inl ⟨rfl, e⟩⟩
    · exact ⟨0, Or.inr ⟨rfl, e⟩⟩
  have hkd := (g1 r hr4).1
  have hszr := (g2 r (by omega)).1
  have hu : me_un (kd r) (sz r) ≤ 33 := by unfold me_un; split <;> omega
  have hnu := Nat.mul_le_mul hnt.2 hu
  have v : vp_in (nI r) 4 := vp_in_nI hr4 (by omega)
  have c := nI_clamp (n := r) (by omega)
  by_cases hf : kd r = 0 ∨ ncap ≤ cnt ∨ tcap < len + me_nt k1 k2 * me_un (kd r) (sz r)
  · refine Or.inr (Or.inr ⟨me_mkX fun post f_spanFrom f_spanTo f_spanTextEnd f_spanKind a_text a_marks a_regKinds a_regLens a_regCodes a_nodeParent a_nodeRedo a_nodeLen a_nodeCur a_nodeMarks a_nodeText a_recCodes a_chKeys a_chText a_frameCodes a_frameLen a_framePos a_frameTimes a_frameLevel hT hG hN hF H => xe_put_head hr4 hreg hz hkd (hG.1 r hr4).1 (hG.1 r hr4).2.1 ?_, (tcap, ncap, lvs, t, len, cur, mks, kd, sz, st, cnt, now, par, rd, nt, nl, nc, nm, reg, k1, op, k2, wt, ss, cp, rr, cr, cc, fr, kl, tk), rfl, me_mkY fun post q a_text a_marks a_info a_held a_strips a_size a_kind a_dueKey a_dueLevel hT hG hN hQ H => ye_put_head hr4 hreg hz hkd (hG.2 r hr4) (hG.1 r (by omega)).1 (by omega) hT.1 t2 ?_⟩)
    · have R := H _ (me_inX (f_spanFrom := f_spanFrom) (f_spanTo := f_spanTo) (f_spanTextEnd := f_spanTextEnd) (f_spanKind := f_spanKind) hT hG hN hF)
      refine xe_times hk1 hk2 (nm_r (pk_mul _ _) ⟨v, ?_⟩)
      rw [c, (hG.1 r hr4).1]
      refine pk_eq (kd r) 0 (fun _ => R) (fun e1 => pk_le ncap cnt (fun _ => R) (fun e2 => ?_))
      rw [nI_add]
      exact pk_le (len + me_nt k1 k2 * me_un (kd r) (sz r)) tcap (fun e3 => by omega) (fun _ => R)
    · have R := H _ (me_inY hT hG hN hQ)
      refine nm_r (pk_mul _ _) ⟨v, ?_⟩
      rw [c, hG.2 r hr4]
      refine pk_eq (kd r) 0 (fun _ => R) (fun e1 => pk_le ncap cnt (fun _ => R) (fun e2 => ?_))
      rw [nI_add]
      exact pk_le (len + me_nt k1 k2 * me_un (kd r) (sz r)) tcap (fun e3 => by omega) (fun _ => R)
  · have f1 : kd r ≠ 0 := fun e => hf (Or.inl e)
    have f2 : cnt < ncap := by
      by_cases w : ncap ≤ cnt
      · exact absurd (Or.inr (Or.inl w)) hf
      · omega
    have f3 : len + me_nt k1 k2 * me_un (kd r) (sz r) ≤ tcap := by
      by_cases w : tcap < len + me_nt k1 k2 * me_un (kd r) (sz r)
      · exact absurd (Or.inr (Or.inr w)) hf
      · omega
    have f4 : 0 < me_un (kd r) (sz r) := by
      unfold me_un
      split
      · omega
      · exact (g1 r hr4).2 (by omega)
    have f5 : 0 < me_nt k1 k2 * me_un (kd r) (sz r) := Nat.mul_pos (by omega) f4
    have hq := me_pq_b (kk := kd r) (key := key) (t := t) t2
    have hD := me_inv_pd (key := key) (r := r) (q := me_pq (kd r) key t len cur) (n := me_nt k1 k2 * me_un (kd r) (sz r)) I' hss hr4 hq f3 f5 hk
    have hpc : z = 0 → me_pcur (kd r) key (me_pq (kd r) key t len cur) (me_nt k1 k2 * me_un (kd r) (sz r)) = me_pq (kd r) key t len cur + me_nt k1 k2 * me_un (kd r) (sz r) - 1 := fun e => by
      rcases hz with w | w
      · rw [w.1] at e; exact absurd e (by decide)
      · unfold me_pcur; rw [if_neg w.2]
    have hpc2 : ¬ z = 0 → key = 112 → me_pcur (kd r) key (me_pq (kd r) key t len cur) (me_nt k1 k2 * me_un (kd r) (sz r)) = me_pq (kd r) key t len cur + 1 := fun e e2 => by
      rcases hz with w | w
      · unfold me_pcur; rw [if_pos w.2, if_pos e2]
      · exact absurd w.1 e
    have hpc3 : ¬ z = 0 → ¬ key = 112 → me_pcur (kd r) key (me_pq (kd r) key t len cur) (me_nt k1 k2 * me_un (kd r) (sz r)) = me_pq (kd r) key t len cur := fun e e2 => by
      rcases hz with w | w
      · unfold me_pcur; rw [if_pos w.2, if_neg e2]
      · exact absurd w.1 e
    refine Or.inr (Or.inl ⟨me_cm (me_pd (tcap, ncap, lvs, t, len, cur, mks, kd, sz, st, cnt, now, par, rd, nt, nl, nc, nm, reg, k1, op, k2, wt, ss, cp, rr, cr, cc, fr, kl, tk) key r (me_pq (kd r) key t len cur) (me_nt k1 k2 * me_un (kd r) (sz r))), me_inv_cm hD, ?_, me_mkX fun post f_spanFrom f_spanTo f_spanTextEnd f_spanKind a_text a_marks a_regKinds a_regLens a_regCodes a_nodeParent a_nodeRedo a_nodeLen a_nodeCur a_nodeMarks a_nodeText a_recCodes a_chKeys a_chText a_frameCodes a_frameLen a_framePos a_frameTimes a_frameLevel hT hG hN hF H => xe_put_head hr4 hreg hz hkd (hG.1 r hr4).1 (hG.1 r hr4).2.1 ?_, me_mkY fun post q a_text a_marks a_info a_held a_strips a_size a_kind a_dueKey a_dueLevel hT hG hN hQ H => ye_put_head hr4 hreg hz hkd (hG.2 r hr4) (hG.1 r (by omega)).1 (by omega) hT.1 t2 ?_⟩)
    · exact me_keep_cm ⟨rfl, rfl⟩
    · refine xe_times hk1 hk2 (nm_r (pk_mul _ _) ⟨v, ?_⟩)
      rw [c, (hG.1 r hr4).1]
      refine pk_eq (kd r) 0 (fun e => absurd e f1) (fun e1 => br_f (nI_ge f2 (by omega)) ?_)
      rw [nI_add]
      refine br_t (nI_le f3 (by omega)) (xe_putPosition (kk := kd r) (t := t) hz (by omega) hT.1 t2 (xe_setChange hk1 hk2 ?_))
      have e4 : nI (sz 4) = nI (me_set (me_set sz 5 1) 6 0 4) := rfl
      have e5 : nI (me_k3n 0 0) = nI (me_set (me_set sz 5 1) 6 0 5) := rfl
      have e6 : (0 : Int32) = nI (me_set (me_set sz 5 1) 6 0 6) := rfl
      have hG2 := me_GX_note (a := key) (b := 0) (d := 0) hG
      generalize hqq : me_pq (kd r) key t len cur = qq at hq hD hpc hpc2 hpc3 H ⊢
      generalize hss1 : me_nt k1 k2 * me_un (kd r) (sz r) = s1 at hnu f3 f5 hD hpc hpc2 hpc3 H ⊢
      refine xe_openGap (mks := mks) (t := t) hq (by omega) hT.1 (fun m hm j hj => by have := t4 m hm j hj; omega) hT.2 (fun a1 m1 o1 o2 o3 => ⟨s1 + 1, ?_⟩)
      refine xe_put_133 (s := st r) (t0 := a1) hr4 hszr hkd (hG.1 r hr4).1 (hG.1 r hr4).2.1 (hG.1 r hr4).2.2 (fun _ => f4) (by omega) (fun a2 p1 p2 k => ?_) s1 0 0 a1 (by omega) (Nat.zero_mod _).symm (fun j _ => rfl) (fun j hj => by omega)
      have hT2 : me_TX (me_gap t qq s1 (me_pg (kd r) key (sz r) (st r))) (len + s1) (me_shm mks qq s1) a2 m1 := by
        refine ⟨fun i hi => ?_, o3⟩
        by_cases w1 : i < qq
        · rw [p1 i (Or.inl w1), o1 i w1, me_gap_lo w1]
        · by_cases w2 : i < qq + s1
          · obtain ⟨x, rfl⟩ : ∃ x, i = qq + x := ⟨i - qq, by omega⟩
            rw [p2 x (by omega), me_gap_mid (by omega)]
          · obtain ⟨x, rfl⟩ : ∃ x, i = x + s1 := ⟨i - s1, by omega⟩
            rw [p1 _ (Or.inr (by omega)), o2 x (by omega) (by omega), me_gap_hi (by omega)]
      have k220 : wX_put_220 post (nI tcap) (nI ncap) (nI lvs) (nI (len + s1)) (nI (me_pcur (kd r) key qq s1)) (nI cnt) (nI now) (-1) 0 0 0 0 (me_o ss) (nI cp) (me_o rr) (nI (sz 4)) (nI (me_k3n 0 0)) 0 (me_o reg) (nI (me_ncc k1 k2)) (nI fr.length) (nI kl) f_spanFrom f_spanTo f_spanTextEnd f_spanKind a2 m1 a_regKinds a_regLens a_regCodes a_nodeParent a_nodeRedo a_nodeLen a_nodeCur a_nodeMarks a_nodeText a_recCodes (upd (upd (upd a_chKeys 0 key) 1 0) 2 0) a_chText a_frameCodes a_frameLen a_framePos a_frameTimes a_frameLevel := by
        refine xe_commit (me_inv_drop hD) (me_inX' e4 e5 e6 hT2 hG2 hN hF) (me_allX fun _ _ _ _ _ _ _ _ _ _ _ _ _ _ _ _ _ _ _ _ _ _ _ _ _ _ _ _ _ _ _ _ _ _ _ _ _ _ _ _ _ _ _ _ _ R' => H _ ?_)
        rw [← me_cm_drop]
        exact R'
      refine br_t (nI_le (by omega) (by omega)) (br_c (fun w => nm_r (e' := nI (me_pcur (kd r) key qq s1)) ?_ ?_) (fun w => br_c (fun w2 => ?_) (fun w2 => ?_)))
      · rw [hpc w, nI_add, me_sub1 (by omega)]
      · exact k220
      · rw [nI_1, ← hpc2 w w2]
        exact k220
      · rw [← hpc3 w w2]
        exact k220
    · refine nm_r (pk_mul _ _) ⟨v, ?_⟩
      rw [c, hG.2 r hr4]
      refine pk_eq (kd r) 0 (fun e => absurd e f1) (fun e1 => br_f (nI_ge f2 (by omega)) ?_)
      rw [nI_add]
      refine br_t (nI_le f3 (by omega)) ?_
      have hz7 : ∀ r, r < 7 → sz r ≤ 32 := fun r h => (g2 r h).1
      have k163 : wY_put_163 post key (nI (me_nt k1 k2)) (nI r) (nI (me_pq (kd r) key t len cur)) z (nI (me_nt k1 k2 * me_un (kd r) (sz r))) (nI tcap) (nI ncap) (nI lvs) (nI len) (nI cur) (nI now) (nI cnt) (nI q) (nI k1) op (nI k2) wt (nI cp) (nI cc) (me_o reg) (me_o ss) (me_o rr) (me_o cr) a_text a_marks a_info a_held a_strips a_size a_kind a_dueKey a_dueLevel := by
        generalize hqq : me_pq (kd r) key t len cur = qq at hq hD hpc hpc2 hpc3 H ⊢
        refine ye_noteChange hk1 hk2 (fun _ => rfl) (fun S' Z' e1 e2 e3 e4 e5 => ⟨me_nt k1 k2 + 1, ?_⟩)
        have hG2 := me_GY_note (n := me_k3n 0 0) hG hz7 e1 e2 e3 e4 e5
        have hZr : Z' r = nI (sz r) := by rw [e5 r (by omega)]; exact (hG.1 r (by omega)).1
        have hSr : ∀ i, i < sz r → S' (r * 32 + i) = st r i := fun i hi => by rw [e1 _ (by omega)]; exact (hG.1 r (by omega)).2 i hi
        have k177 := fun H' => ye_put_177 (post := post) (t := t) (mks := mks) (len := len) (p := qq) (r := r) (n0 := sz r) (n := me_nt k1 k2) (kk := kd r) (s := st r) (key := key) (x4 := nI qq) (x7 := nI (me_nt k1 k2 * me_un (kd r) (sz r))) (z := z) (f_cap := nI tcap) (f_nodeCap := nI ncap) (f_levels := nI lvs) (f_cur := nI cur) (f_now := nI now) (f_nodeCount := nI cnt) (f_queued := nI q) (f_c1 := nI k1) (f_op := op) (f_c2 := nI k2) (f_waits := wt) (f_copies := nI cp) (f_recCount := nI (me_ncc k1 k2)) (f_reg := me_o reg) (f_begin := me_o ss) (f_recording := me_o rr) (f_recReg := me_o reg) (a_info := a_info) (a_held := a_held) (a_strips := S') (a_size := Z') (a_kind := a_kind) (a_dueKey := a_dueKey) (a_dueLevel := a_dueLevel) hr4 hZr hszr hSr hq hnt.2 (by omega) t4 hk hz H' (me_nt k1 k2) 0 a_text a_marks (by omega)
        rw [Nat.zero_mul, Nat.add_zero, Nat.add_zero, me_gap_0, me_shm_0] at k177
        refine k177 (fun a' m' hT' => ?_) hT
        have k305 : wY_put_305 post (nI (me_pcur (kd r) key qq (me_nt k1 k2 * me_un (kd r) (sz r)))) (nI tcap) (nI ncap) (nI lvs) (nI (len + me_nt k1 k2 * me_un (kd r) (sz r))) (nI cur) (nI now) (nI cnt) (nI q) (nI k1) op (nI k2) wt (nI cp) (nI (me_ncc k1 k2)) (me_o reg) (me_o ss) (me_o rr) (me_o reg) a' m' a_info a_held S' Z' a_kind a_dueKey a_dueLevel :=
          ye_commit hD (me_inY hT' hG2 hN hQ) (me_allY fun _ _ _ _ _ _ _ _ _ _ _ _ _ _ _ _ _ _ _ _ _ _ _ _ _ _ _ R' => H _ R')
        refine br_t (nI_le (by omega) (by omega)) (br_c (fun w => ?_) (fun w => br_c (fun w2 => ?_) (fun w2 => ?_)))
        · rw [nI_add, me_sub1 (by omega), ← hpc w]
          exact k305
        · rw [nI_1, ← hpc2 w w2]
          exact k305
        · rw [← hpc3 w w2]
          exact k305
      rcases hz with ⟨rfl, w⟩ | ⟨rfl, w⟩
      · refine br_f (by decide) (br_c (fun w2 => ?_) (fun w2 => ye_startOf (t := t) (by omega) (fun i hi => hT.1 i (by omega)) ?_))
        · rw [me_pq, if_pos w, if_pos w2] at k163
          exact k163
        · rw [me_pq, if_pos w, if_neg w2] at k163
          exact k163
      · have hle := me_le_b (t := t) t2
        refine br_t rfl (br_c (fun w2 => pk_le (me_le t len cur) cur (fun w3 => ?_) (fun w3 => nm_r (nI_1 _) ?_)) (fun w2 => ?_))
        · rw [me_pq, if_neg w, if_pos w2, if_pos w3] at k163
          exact k163
        · rw [me_pq, if_neg w, if_pos w2, if_neg (by omega)] at k163
          exact k163
        · rw [me_pq, if_neg w, if_neg w2] at k163
          exact k163
end
end
section
/-! sessions: opening, keys, closing -/
def me_s1 (c : me_CC) (key : Int32) (n p : Nat) : me_CC := match c with
  | (tcap, ncap, lvs, t, len, cur, mks, kd, sz, st, cnt, now, par, rd, nt, nl, nc, nm, reg, k1, op, k2, wt, ss, cp, rr, cr, cc, fr, kl, tk) => (tcap, ncap, lvs, t, len, p, mks, kd, me_set (me_set sz 5 1) 6 0, me_set st 5 (me_k3 key 0 0), cnt, now, par, rd, nt, nl, nc, nm, reg, k1, op, k2, wt, some p, n, rr, reg, me_ncc k1 k2, fr, kl, tk)
def me_s2 (c : me_CC) (e : Nat) : me_CC := match c with
  | (tcap, ncap, lvs, t, len, cur, mks, kd, sz, st, cnt, now, par, rd, nt, nl, nc, nm, reg, k1, op, k2, wt, ss, cp, rr, cr, cc, fr, kl, tk) => (tcap, ncap, lvs, me_gap t e 1 (fun _ => 10), len + 1, e + 1, me_shm mks e 1, kd, me_set (me_set sz 5 1) 6 0, me_set st 5 (me_k3 111 0 0), cnt, now, par, rd, nt, nl, nc, nm, reg, k1, op, k2, wt, some (e + 1), 1, rr, reg, me_ncc k1 k2, fr, kl, tk)
theorem me_IG_note {kd sz : Nat → Nat} {st : Nat → Nat → Int32} {key : Int32} (h : me_IG kd sz st) (hv : me_vk key) (hk : key = 120 ∨ key = 112 ∨ key = 80 ∨ key = 105 ∨ key = 97 ∨ key = 111) : me_IG kd (me_set (me_set sz 5 1) 6 0) (me_set st 5 (me_k3 key 0 0)) := by
  obtain ⟨g1, g2, g3, g4⟩ := h
  refine ⟨fun r hr' => ?_, fun r hr' => ?_, ?_, ?_⟩
  · rw [me_set_n (by omega), me_set_n (by omega)]; exact g1 r hr'
  · by_cases e6 : r = 6
    · subst e6; rw [me_set_s]; exact ⟨by omega, fun i hi => by omega⟩
    · rw [me_set_n e6]
      by_cases e5 : r = 5
      · subst e5
        rw [me_set_s, me_set_s]
        refine ⟨by omega, fun i hi => ?_⟩
        have : i = 0 := by omega
        subst this
        exact hv
      · rw [me_set_n e5, me_set_n e5]; exact g2 r hr'
  · rw [me_set_s]; intro i hi; omega
  · rw [me_set_n (by omega), me_set_s, me_set_s]
    exact Or.inr (Or.inl ⟨rfl, hk⟩)
theorem me_IT_gap {tcap len cur n p cur' : Nat} {t g : Nat → Int32} {mks : Nat → Option Nat} (h : me_IT tcap t len cur mks) (hl : len + n ≤ tcap) (hp : p ≤ len) (hc : cur' ≤ len + n) (hg : ∀ i, i < n → me_vk (g i)) : me_IT tcap (me_gap t p n g) (len + n) cur' (me_shm mks p n) := by
  obtain ⟨t1, t2, t3, t4⟩ := h
  refine ⟨hl, hc, fun i hi => ?_, fun m hm j hj => me_shm_b (t4 m hm) hj⟩
  unfold me_gap
  split
  · exact t3 _ (by omega)
  · split
    · exact hg _ (by omega)
    · exact t3 _ (by omega)
theorem me_IT_cut {tcap len cur s e cur' : Nat} {t : Nat → Int32} {mks : Nat → Option Nat} (h : me_IT tcap t len cur mks) (hs : s ≤ e) (he : e ≤ len) (hc : cur' ≤ len - (e - s)) : me_IT tcap (me_cut t s e) (len - (e - s)) cur' (me_cutm mks s e) := by
  obtain ⟨t1, t2, t3, t4⟩ := h
  refine ⟨by omega, hc, fun i hi => ?_, fun m hm j hj => me_cutm_b hs he (t4 m hm) hj⟩
  unfold me_cut
  split
  · exact t3 _ (by omega)
  · exact t3 _ (by omega)
section
variable {tcap : Nat} {ncap : Nat} {lvs : Nat} {t : Nat → Int32} {len : Nat} {cur : Nat} {mks : Nat → Option Nat} {kd : Nat → Nat} {sz : Nat → Nat} {st : Nat → Nat → Int32} {cnt : Nat} {now : Nat} {par : Nat → Option Nat} {rd : Nat → Option Nat} {nt : Nat → Nat → Int32} {nl : Nat → Nat} {nc : Nat → Nat} {nm : Nat → Nat → Option Nat} {reg : Option Nat} {k1 : Nat} {op : Int32} {k2 : Nat} {wt : Int32} {ss : Option Nat} {cp : Nat} {rr : Option Nat} {cr : Option Nat} {cc : Nat} {fr : List (List Int32 × Nat × Nat × Nat)} {kl : Nat} {tk : Nat}
theorem me_inv_s1 {key : Int32} {n p : Nat} (I : me_Inv (tcap, ncap, lvs, t, len, cur, mks, kd, sz, st, cnt, now, par, rd, nt, nl, nc, nm, reg, k1, op, k2, wt, ss, cp, rr, cr, cc, fr, kl, tk)) (hp : p ≤ len) (hn : n ≤ 32) (hv : me_vk key) (hk : key = 120 ∨ key = 112 ∨ key = 80 ∨ key = 105 ∨ key = 97 ∨ key = 111) : me_Inv (me_s1 (tcap, ncap, lvs, t, len, cur, mks, kd, sz, st, cnt, now, par, rd, nt, nl, nc, nm, reg, k1, op, k2, wt, ss, cp, rr, cr, cc, fr, kl, tk) key n p) := by
  obtain ⟨hA, ⟨t1, t2, t3, t4⟩, hG, hN, hK, ⟨s1, s2, s3, s4, s5⟩, hF⟩ := I
  exact ⟨hA, ⟨t1, hp, t3, t4⟩, me_IG_note hG hv hk, hN, hK, ⟨fun s h => (by cases h; exact ⟨Nat.le_refl _, fun i h1 h2 => by omega⟩), hn, s3, hK.1, me_ncc_b _ _⟩, hF⟩
theorem me_inv_s2 {e : Nat} (I : me_Inv (tcap, ncap, lvs, t, len, cur, mks, kd, sz, st, cnt, now, par, rd, nt, nl, nc, nm, reg, k1, op, k2, wt, ss, cp, rr, cr, cc, fr, kl, tk)) (he : e ≤ len) (hl : len + 1 ≤ tcap) : me_Inv (me_s2 (tcap, ncap, lvs, t, len, cur, mks, kd, sz, st, cnt, now, par, rd, nt, nl, nc, nm, reg, k1, op, k2, wt, ss, cp, rr, cr, cc, fr, kl, tk) e) := by
  obtain ⟨hA, hT, hG, hN, hK, ⟨s1, s2, s3, s4, s5⟩, hF⟩ := I
  exact ⟨hA, me_IT_gap hT hl he (by omega) (fun i hi => ⟨10, rfl, by omega, by omega⟩), me_IG_note hG ⟨111, rfl, by omega, by omega⟩ (Or.inr (Or.inr (Or.inr (Or.inr (Or.inr rfl))))), hN, hK, ⟨fun s h => (by cases h; exact ⟨Nat.le_refl _, fun i h1 h2 => by omega⟩), by omega, s3, hK.1, me_ncc_b _ _⟩, hF⟩
theorem me_open {key : Int32} (I : me_Inv (tcap, ncap, lvs, t, len, cur, mks, kd, sz, st, cnt, now, par, rd, nt, nl, nc, nm, reg, k1, op, k2, wt, ss, cp, rr, cr, cc, fr, kl, tk)) (hk : key = 105 ∨ key = 97 ∨ key = 111) :
    me_Cmd (tcap, ncap, lvs, t, len, cur, mks, kd, sz, st, cnt, now, par, rd, nt, nl, nc, nm, reg, k1, op, k2, wt, ss, cp, rr, cr, cc, fr, kl, tk) (fun c' => me_keep (tcap, ncap, lvs, t, len, cur, mks, kd, sz, st, cnt, now, par, rd, nt, nl, nc, nm, reg, k1, op, k2, wt, ss, cp, rr, cr, cc, fr, kl, tk) c' ∧ me_ss c' ≠ none) (fun post u => wpX_startSession post u key) (fun post v => wpY_open post v key (nI (me_nt k1 k2))) := by
  have I' := I
  obtain ⟨⟨a1, a2, a3, a4, a5, a6⟩, ⟨t1, t2, t3, t4⟩, ⟨g1, g2, g3, g4⟩, ⟨n1, n2, n3, n4⟩, ⟨hr, hk1, hk2, _⟩, hIS, hIF⟩ := I
  have hnt := me_nt_b k1 k2
  have hle := me_le_b (t := t) t2
  have hvk : me_vk key := by
    rcases hk with rfl | rfl | rfl
    · exact ⟨105, rfl, by omega, by omega⟩
    · exact ⟨97, rfl, by omega, by omega⟩
    · exact ⟨111, rfl, by omega, by omega⟩
  have hz7 : ∀ r, r < 7 → sz r ≤ 32 := fun r h => (g2 r h).1
  by_cases hf : ncap ≤ cnt ∨ (key = 111 ∧ tcap ≤ len)
  · refine Or.inr (Or.inr ⟨me_mkX fun post f_spanFrom f_spanTo f_spanTextEnd f_spanKind a_text a_marks a_regKinds a_regLens a_regCodes a_nodeParent a_nodeRedo a_nodeLen a_nodeCur a_nodeMarks a_nodeText a_recCodes a_chKeys a_chText a_frameCodes a_frameLen a_framePos a_frameTimes a_frameLevel hT hG hN hF H => ?_, (tcap, ncap, lvs, t, len, cur, mks, kd, sz, st, cnt, now, par, rd, nt, nl, nc, nm, reg, k1, op, k2, wt, ss, cp, rr, cr, cc, fr, kl, tk), rfl, me_mkY fun post q a_text a_marks a_info a_held a_strips a_size a_kind a_dueKey a_dueLevel hT hG hN hQ H => ?_⟩)
    · have R := H _ (me_inX (f_spanFrom := f_spanFrom) (f_spanTo := f_spanTo) (f_spanTextEnd := f_spanTextEnd) (f_spanKind := f_spanKind) hT hG hN hF)
      refine pk_le ncap cnt (fun _ => R) (fun w => ?_)
      have w2 := hf.resolve_left (by omega)
      exact br_t w2.1 (br_f (nI_nlt w2.2 (by omega)) R)
    · have R := H _ (me_inY hT hG hN hQ)
      refine pk_le ncap cnt (fun _ => R) (fun w => ?_)
      have w2 := hf.resolve_left (by omega)
      exact br_t w2.1 (br_f (nI_nlt w2.2 (by omega)) R)
  · have f1 : cnt < ncap := by
      by_cases w : ncap ≤ cnt
      · exact absurd (Or.inl w) hf
      · omega
    have e4 : nI (sz 4) = nI (me_set (me_set sz 5 1) 6 0 4) := rfl
    have e5 : nI (me_k3n 0 0) = nI (me_set (me_set sz 5 1) 6 0 5) := rfl
    have e6 : (0 : Int32) = nI (me_set (me_set sz 5 1) 6 0 6) := rfl
    by_cases ho : key = 111
    · have f2 : len < tcap := by
        by_cases w : tcap ≤ len
        · exact absurd (Or.inr ⟨ho, w⟩) hf
        · omega
      subst ho
      refine Or.inr (Or.inl ⟨me_s2 (tcap, ncap, lvs, t, len, cur, mks, kd, sz, st, cnt, now, par, rd, nt, nl, nc, nm, reg, k1, op, k2, wt, ss, cp, rr, cr, cc, fr, kl, tk) (me_le t len cur), me_inv_s2 I' hle.2 f2, ⟨⟨rfl, rfl⟩, fun h => by cases h⟩, me_mkX fun post f_spanFrom f_spanTo f_spanTextEnd f_spanKind a_text a_marks a_regKinds a_regLens a_regCodes a_nodeParent a_nodeRedo a_nodeLen a_nodeCur a_nodeMarks a_nodeText a_recCodes a_chKeys a_chText a_frameCodes a_frameLen a_framePos a_frameTimes a_frameLevel hT hG hN hF H => ?_, me_mkY fun post q a_text a_marks a_info a_held a_strips a_size a_kind a_dueKey a_dueLevel hT hG hN hQ H => ?_⟩)
      · refine br_f (nI_ge f1 (by omega)) (br_t rfl (br_t (nI_lt f2 (by omega)) (br_t rfl (xe_setChange hk1 hk2 (br_f (by decide) (br_t rfl (xe_lineEnd (t := t) t2 (by omega) hT.1 (xe_insertCode (mks := mks) (t := t) hle.2 (by omega) hT.1 (fun m hm j hj => by have := t4 m hm j hj; omega) hT.2 (fun a' m' o1 o2 => H _ ?_)))))))))
        exact me_inX' e4 e5 e6 ⟨o1, o2⟩ (me_GX_note (a := 111) (b := 0) (d := 0) hG) hN hF
      · refine br_f (nI_ge f1 (by omega)) (br_t rfl (br_t (nI_lt f2 (by omega)) (ye_noteChange hk1 hk2 (fun _ => rfl) (fun S' Z' e1 e2 e3 e4 e5 => ye_endOf (t := t) t2 (by omega) hT.1 (br_t rfl (ye_ins (mks := mks) (t := t) hle.2 (by omega) hT.1 (fun m hm j hj => by have := t4 m hm j hj; omega) hT.2 (fun a' m' o1 o2 => nm_r (nI_1 _) (br_t rfl (H _ ?_)))))))))
        exact me_inY ⟨o1, o2⟩ (me_GY_note (n := me_k3n 0 0) hG hz7 e1 e2 e3 e4 e5) hN hQ
    · have hk' : key = 105 ∨ key = 97 := by
        rcases hk with w | w | w
        · exact Or.inl w
        · exact Or.inr w
        · exact absurd w ho
      obtain ⟨p, hp, hpa, hpi⟩ : ∃ p, p ≤ len ∧ (key = 97 → p = if me_le t len cur ≤ cur then cur else cur + 1) ∧ (¬ key = 97 → p = cur) := by
        by_cases w : key = 97
        · refine ⟨if me_le t len cur ≤ cur then cur else cur + 1, ?_, fun _ => rfl, fun q => absurd w q⟩
          split <;> omega
        · exact ⟨cur, t2, fun q => absurd q w, fun _ => rfl⟩
      have hkk : key = 120 ∨ key = 112 ∨ key = 80 ∨ key = 105 ∨ key = 97 ∨ key = 111 := by
        rcases hk with w | w | w
        · exact Or.inr (Or.inr (Or.inr (Or.inl w)))
        · exact Or.inr (Or.inr (Or.inr (Or.inr (Or.inl w))))
        · exact Or.inr (Or.inr (Or.inr (Or.inr (Or.inr w))))
      refine Or.inr (Or.inl ⟨me_s1 (tcap, ncap, lvs, t, len, cur, mks, kd, sz, st, cnt, now, par, rd, nt, nl, nc, nm, reg, k1, op, k2, wt, ss, cp, rr, cr, cc, fr, kl, tk) key (me_nt k1 k2) p, me_inv_s1 I' hp hnt.2 hvk hkk, ⟨⟨rfl, rfl⟩, fun h => by cases h⟩, me_mkX fun post f_spanFrom f_spanTo f_spanTextEnd f_spanKind a_text a_marks a_regKinds a_regLens a_regCodes a_nodeParent a_nodeRedo a_nodeLen a_nodeCur a_nodeMarks a_nodeText a_recCodes a_chKeys a_chText a_frameCodes a_frameLen a_framePos a_frameTimes a_frameLevel hT hG hN hF H => ?_, me_mkY fun post q a_text a_marks a_info a_held a_strips a_size a_kind a_dueKey a_dueLevel hT hG hN hQ H => ?_⟩)
      · have R : ∀ x, x = nI p → post 0 (nI tcap, nI ncap, nI lvs, nI len, x, nI cnt, nI now, -1, 0, 0, 0, 0, x, nI (me_nt k1 k2), me_o rr, nI (sz 4), nI (me_k3n 0 0), 0, me_o reg, nI (me_ncc k1 k2), nI fr.length, nI kl, f_spanFrom, f_spanTo, f_spanTextEnd, f_spanKind, a_text, a_marks, a_regKinds, a_regLens, a_regCodes, a_nodeParent, a_nodeRedo, a_nodeLen, a_nodeCur, a_nodeMarks, a_nodeText, a_recCodes, upd (upd (upd a_chKeys 0 key) 1 0) 2 0, a_chText, a_frameCodes, a_frameLen, a_framePos, a_frameTimes, a_frameLevel) := fun x hx => by
          subst hx
          exact H _ (me_inX' e4 e5 e6 hT (me_GX_note (a := key) (b := 0) (d := 0) hG) hN hF)
        refine br_f (nI_ge f1 (by omega)) (br_f ho (br_f ho (xe_times hk1 hk2 (xe_setChange hk1 hk2 (br_c (fun w => xe_afterCursor (t := t) (by omega) hT.1 t2 (br_f ho (R _ (by rw [hpa w])))) (fun w => br_f ho (R _ (by rw [hpi w]))))))))
      · have R : ∀ (x : Int32) (S' Z' : Nat → Int32), x = nI p → me_GY kd (me_set (me_set sz 5 1) 6 0) (me_set st 5 (me_k3 key 0 0)) S' Z' a_kind → wY_open_93 post key (nI (me_nt k1 k2)) (nI tcap) (nI ncap) (nI lvs) (nI len) x (nI now) (nI cnt) (nI q) (nI k1) op (nI k2) wt (nI cp) (nI (me_ncc k1 k2)) (me_o reg) (me_o ss) (me_o rr) (me_o reg) a_text a_marks a_info a_held S' Z' a_kind a_dueKey a_dueLevel := fun x S' Z' hx hG' => by
          subst hx
          exact br_f ho (H _ (me_inY hT hG' hN hQ))
        refine br_f (nI_ge f1 (by omega)) (br_f ho (ye_noteChange hk1 hk2 (fun _ => rfl) (fun S' Z' e1 e2 e3 e4 e5 => ye_endOf (t := t) t2 (by omega) hT.1 (br_f ho ?_))))
        have hG' := me_GY_note (n := me_k3n 0 0) hG hz7 e1 e2 e3 e4 e5
        refine br_c (fun w => pk_le (me_le t len cur) cur (fun w2 => R _ _ _ ?_ hG') (fun w2 => nm_r (nI_1 _) (R _ _ _ ?_ hG'))) (fun w => R _ _ _ ?_ hG')
        · rw [hpa w, if_pos w2]
        · rw [hpa w, if_neg (by omega)]
        · rw [hpi w]
end
end
section
/-! a key in a session -/
abbrev me_T4 : Type := (Nat → Int32) × Nat × Nat × (Nat → Option Nat)
def me_ty (tcap n : Nat) (g : Nat → Int32) (T : me_T4) : me_T4 := if T.2.1 + n ≤ tcap then (me_gap T.1 T.2.2.1 n g, T.2.1 + n, T.2.2.1 + n, me_shm T.2.2.2 T.2.2.1 n) else T
def me_tyI (tcap n : Nat) (g : Nat → Int32) : Nat → me_T4 → me_T4
  | 0, T => T
  | k + 1, T => me_tyI tcap n g k (me_ty tcap n g T)
theorem me_ty_IT {tcap n : Nat} {g : Nat → Int32} {T : me_T4} (hg : ∀ i, i < n → me_vk (g i)) (h : me_IT tcap T.1 T.2.1 T.2.2.1 T.2.2.2) : me_IT tcap (me_ty tcap n g T).1 (me_ty tcap n g T).2.1 (me_ty tcap n g T).2.2.1 (me_ty tcap n g T).2.2.2 := by
  unfold me_ty
  split
  · exact me_IT_gap h (by assumption) h.2.1 (Nat.add_le_add_right h.2.1 n) hg
  · exact h
theorem me_tyI_IT {tcap n : Nat} {g : Nat → Int32} (hg : ∀ i, i < n → me_vk (g i)) : ∀ (k : Nat) (T : me_T4), me_IT tcap T.1 T.2.1 T.2.2.1 T.2.2.2 → me_IT tcap (me_tyI tcap n g k T).1 (me_tyI tcap n g k T).2.1 (me_tyI tcap n g k T).2.2.1 (me_tyI tcap n g k T).2.2.2
  | 0, T, h => h
  | k + 1, T, h => me_tyI_IT hg k _ (me_ty_IT hg h)
section
variable {f_textCap f_nodeCap f_levels f_len f_cur f_nodeCount f_node f_reg f_c1 f_op f_c2 f_waiting f_sessionStart f_copies f_recReg f_recLen f_chKeyLen f_chTextLen f_chReg f_chCount f_depth f_keyLevel f_spanFrom f_spanTo f_spanTextEnd f_spanKind : Int32} {a_text a_marks a_regKinds a_regLens a_regCodes a_nodeParent a_nodeRedo a_nodeLen a_nodeCur a_nodeMarks a_nodeText a_recCodes a_chKeys a_chText a_frameCodes a_frameLen a_framePos a_frameTimes a_frameLevel : Nat → Int32}
theorem xe_closeSession_47 {post : Int32 → SX → Prop} {tcap n cp : Nat} {g : Nat → Int32} (htc : tcap ≤ 32) (hcp : cp ≤ 32) (hn : n ≤ 32) (hgc : ∀ i, i < n → a_chText i = g i) (hg : ∀ i, i < n → me_vk (g i)) {Z : me_T4}
    (H : ∀ (i : Nat) (a_text a_marks : Nat → Int32), cp ≤ i → i ≤ 33 → me_TX Z.1 Z.2.1 Z.2.2.2 a_text a_marks → wX_closeSession_47 post (nI n) 1 (nI i) (nI tcap) f_nodeCap f_levels (nI Z.2.1) (nI Z.2.2.1) f_nodeCount f_node f_reg f_c1 f_op f_c2 f_waiting f_sessionStart (nI cp) f_recReg f_recLen f_chKeyLen (nI n) f_chReg f_chCount f_depth f_keyLevel f_spanFrom f_spanTo f_spanTextEnd f_spanKind a_text a_marks a_regKinds a_regLens a_regCodes a_nodeParent a_nodeRedo a_nodeLen a_nodeCur a_nodeMarks a_nodeText a_recCodes a_chKeys a_chText a_frameCodes a_frameLen a_framePos a_frameTimes a_frameLevel) :
    ∀ (d i : Nat) (T : me_T4) (a_text a_marks : Nat → Int32), (i + d = cp ∨ (d = 0 ∧ cp ≤ i ∧ i ≤ 33)) → me_tyI tcap n g d T = Z → me_TX T.1 T.2.1 T.2.2.2 a_text a_marks → me_IT tcap T.1 T.2.1 T.2.2.1 T.2.2.2 → wX_closeSession_47 post (nI n) (d + 1) (nI i) (nI tcap) f_nodeCap f_levels (nI T.2.1) (nI T.2.2.1) f_nodeCount f_node f_reg f_c1 f_op f_c2 f_waiting f_sessionStart (nI cp) f_recReg f_recLen f_chKeyLen (nI n) f_chReg f_chCount f_depth f_keyLevel f_spanFrom f_spanTo f_spanTextEnd f_spanKind a_text a_marks a_regKinds a_regLens a_regCodes a_nodeParent a_nodeRedo a_nodeLen a_nodeCur a_nodeMarks a_nodeText a_recCodes a_chKeys a_chText a_frameCodes a_frameLen a_framePos a_frameTimes a_frameLevel
  | 0, i, T, a_text, a_marks, hd, e, hT, hI => by
    have e' : T = Z := e
    subst e'
    exact H i a_text a_marks (by omega) (by omega) hT
  | d + 1, i, T, a_text, a_marks, hd, e, hT, hI => by
    have b1 := hI.1
    have b2 := hI.2.1
    refine br_f (nI_ge (by omega) (by omega)) ?_
    rw [nI_add]
    refine pk_lt tcap (T.2.1 + n) (fun h => nm_r (nI_1 i) ?_) (fun h => ?_)
    · refine xe_closeSession_47 htc hcp hn hgc hg H d (i + 1) T a_text a_marks (by omega) ?_ hT hI
      rw [me_tyI, me_ty, if_neg (by omega)] at e
      exact e
    · refine xe_insertTyped (mks := T.2.2.2) (t := T.1) (g := g) b2 (by omega) hT.1 (fun m hm j hj => by have := hI.2.2.2 m hm j hj; omega) hT.2 hgc (fun a' m' o1 o2 => nm_r (nI_1 i) ?_)
      have e2 : me_ty tcap n g T = (me_gap T.1 T.2.2.1 n g, T.2.1 + n, T.2.2.1 + n, me_shm T.2.2.2 T.2.2.1 n) := if_pos h
      have hI' := me_ty_IT hg hI
      rw [me_tyI] at e
      rw [e2] at e hI'
      exact xe_closeSession_47 htc hcp hn hgc hg H d (i + 1) (me_gap T.1 T.2.2.1 n g, T.2.1 + n, T.2.2.1 + n, me_shm T.2.2.2 T.2.2.1 n) a' m' (by omega) e ⟨o1, o2⟩ hI'
theorem xe_closeSession_12 {post : Int32 → SX → Prop} {s n : Nat} (hs : s + n ≤ 32)
    (H : ∃ n47, wX_closeSession_47 post (nI n) n47 1 f_textCap f_nodeCap f_levels f_len f_cur f_nodeCount f_node f_reg f_c1 f_op f_c2 f_waiting (nI s) f_copies f_recReg f_recLen f_chKeyLen (nI n) f_chReg f_chCount f_depth f_keyLevel f_spanFrom f_spanTo f_spanTextEnd f_spanKind a_text a_marks a_regKinds a_regLens a_regCodes a_nodeParent a_nodeRedo a_nodeLen a_nodeCur a_nodeMarks a_nodeText a_recCodes a_chKeys (me_cp a_chText 0 n (fun i => a_text (s + i))) a_frameCodes a_frameLen a_framePos a_frameTimes a_frameLevel) :
    ∀ d i : Nat, i + d = n → wX_closeSession_12 post (nI n) f_textCap f_nodeCap f_levels f_len f_cur f_nodeCount f_node f_reg f_c1 f_op f_c2 f_waiting (nI s) f_copies f_recReg f_recLen f_chKeyLen f_chTextLen f_chReg f_chCount f_depth f_keyLevel f_spanFrom f_spanTo f_spanTextEnd f_spanKind (d + 1) (nI i) a_text a_marks a_regKinds a_regLens a_regCodes a_nodeParent a_nodeRedo a_nodeLen a_nodeCur a_nodeMarks a_nodeText a_recCodes a_chKeys (me_cp a_chText 0 i (fun i => a_text (s + i))) a_frameCodes a_frameLen a_framePos a_frameTimes a_frameLevel
  | 0, i, hd => by
    have : i = n := by omega
    subst this
    exact br_t (nI_le (by omega) (by omega)) H
  | d + 1, i, hd => by
    refine br_f (nI_ge (by omega) (by omega)) ⟨pk_in (s + i) 32 (by omega) (nI_add _ _), vp_in_nI (by omega) (by omega), nm_r ?_ (nm_r (nI_1 i) (xe_closeSession_12 hs H d (i + 1) (by omega)))⟩
    rw [pk_cl (s + i) (nI_add _ _), nI_clamp (by omega)]
    have := me_cp_s a_chText 0 i (fun i => a_text (s + i))
    rw [Nat.zero_add] at this
    exact this
theorem xe_closeSession {post : Int32 → SX → Prop} {s cur : Nat} (hs : s ≤ cur) (hc : cur ≤ 32)
    (H : ∃ n47, wX_closeSession_47 post (nI (cur - s)) n47 1 f_textCap f_nodeCap f_levels f_len (nI cur) f_nodeCount f_node f_reg f_c1 f_op f_c2 f_waiting (nI s) f_copies f_recReg f_recLen f_chKeyLen (nI (cur - s)) f_chReg f_chCount f_depth f_keyLevel f_spanFrom f_spanTo f_spanTextEnd f_spanKind a_text a_marks a_regKinds a_regLens a_regCodes a_nodeParent a_nodeRedo a_nodeLen a_nodeCur a_nodeMarks a_nodeText a_recCodes a_chKeys (me_cp a_chText 0 (cur - s) (fun i => a_text (s + i))) a_frameCodes a_frameLen a_framePos a_frameTimes a_frameLevel) :
    wpX_closeSession post (f_textCap, f_nodeCap, f_levels, f_len, nI cur, f_nodeCount, f_node, f_reg, f_c1, f_op, f_c2, f_waiting, nI s, f_copies, f_recReg, f_recLen, f_chKeyLen, f_chTextLen, f_chReg, f_chCount, f_depth, f_keyLevel, f_spanFrom, f_spanTo, f_spanTextEnd, f_spanKind, a_text, a_marks, a_regKinds, a_regLens, a_regCodes, a_nodeParent, a_nodeRedo, a_nodeLen, a_nodeCur, a_nodeMarks, a_nodeText, a_recCodes, a_chKeys, a_chText, a_frameCodes, a_frameLen, a_framePos, a_frameTimes, a_frameLevel) := by
  refine nm_r (pk_sub hs) ⟨cur - s + 1, ?_⟩
  have := xe_closeSession_12 (f_chTextLen := f_chTextLen) (by omega) H (cur - s) 0 (by omega)
  rw [me_cp_0] at this
  exact this
end
section
variable {f_cap f_nodeCap f_levels f_len f_cur f_now f_nodeCount f_queued f_c1 f_op f_c2 f_waits f_copies f_recCount f_reg f_begin f_recording f_recReg : Int32} {a_text a_marks a_info a_held a_strips a_size a_kind a_dueKey a_dueLevel : Nat → Int32}
theorem ye_type_58 {post : Int32 → SY → Prop} {J : Int32 → Int32 → Int32 → Int32 → Int32 → Int32 → Int32 → Int32 → Int32 → Int32 → Int32 → Int32 → Int32 → Int32 → Int32 → Int32 → Int32 → Int32 → Int32 → (Nat → Int32) → (Nat → Int32) → (Nat → Int32) → (Nat → Int32) → (Nat → Int32) → (Nat → Int32) → (Nat → Int32) → (Nat → Int32) → (Nat → Int32) → Prop} {x2 : Int32} {t g : Nat → Int32} {len cur n : Nat} {mks : Nat → Option Nat} (hn : len + n ≤ 32) (hc : cur ≤ len) (hb : ∀ k, k < 3 → ∀ j, mks k = some j → j ≤ len) (hz : a_size 6 = nI n) (hs : ∀ i, i < n → a_strips (192 + i) = g i)
    (H : ∀ a_text a_marks, me_TX (me_gap t cur n g) (len + n) (me_shm mks cur n) a_text a_marks → J (x2 + 1) f_cap f_nodeCap f_levels (nI (len + n)) (nI (cur + n)) f_now f_nodeCount f_queued f_c1 f_op f_c2 f_waits f_copies f_recCount f_reg f_begin f_recording f_recReg a_text a_marks a_info a_held a_strips a_size a_kind a_dueKey a_dueLevel) :
    ∀ (d i : Nat) (a_text a_marks : Nat → Int32), i + d = n → me_TX (me_gap t cur i g) (len + i) (me_shm mks cur i) a_text a_marks → wY_type_58 post J x2 1 (d + 1) (nI i) f_cap f_nodeCap f_levels (nI (len + i)) (nI (cur + i)) f_now f_nodeCount f_queued f_c1 f_op f_c2 f_waits f_copies f_recCount f_reg f_begin f_recording f_recReg a_text a_marks a_info a_held a_strips a_size a_kind a_dueKey a_dueLevel
  | 0, i, a_text, a_marks, hd, hT => by
    have : i = n := by omega
    subst this
    refine br_f (by decide) (br_t ?_ (nm_e (H a_text a_marks hT)))
    rw [hz]; exact nI_le (by omega) (by omega)
  | d + 1, i, a_text, a_marks, hd, hT => by
    refine br_f (by decide) (br_f ?_ (nm_r (nI_1 _) ⟨pk_in (192 + i) 224 (by omega) ?_, ?_⟩))
    · rw [hz]; exact nI_ge (by omega) (by omega)
    · exact nI_add 192 i
    · refine ye_insM (g := g) (tot := n) hc (by omega) hn hb hT ?_ rfl (fun a' m' hT' => nm_r (nI_1 i) (ye_type_58 hn hc hb hz hs H d (i + 1) a' m' (by omega) hT'))
      have e : (192 : Int32) + nI i = nI (192 + i) := nI_add 192 i
      rw [pk_cl (192 + i) e, hs i (by omega)]
theorem ye_type_22 {post : Int32 → SY → Prop} {tcap n cp : Nat} {g : Nat → Int32} (htc : tcap ≤ 32) (hcp : cp ≤ 32) (hn : n ≤ 32) (hz : a_size 6 = nI n) (hs : ∀ i, i < n → a_strips (192 + i) = g i) (hg : ∀ i, i < n → me_vk (g i)) {Z : me_T4}
    (H : ∀ (i : Nat) (a_text a_marks : Nat → Int32), cp ≤ i → i ≤ 33 → me_TX Z.1 Z.2.1 Z.2.2.2 a_text a_marks → wY_type_22 post 1 (nI i) (nI tcap) f_nodeCap f_levels (nI Z.2.1) (nI Z.2.2.1) f_now f_nodeCount f_queued f_c1 f_op f_c2 f_waits (nI cp) f_recCount f_reg f_begin f_recording f_recReg a_text a_marks a_info a_held a_strips a_size a_kind a_dueKey a_dueLevel) :
    ∀ (d i : Nat) (T : me_T4) (a_text a_marks : Nat → Int32), (i + d = cp ∨ (d = 0 ∧ cp ≤ i ∧ i ≤ 33)) → me_tyI tcap n g d T = Z → me_TX T.1 T.2.1 T.2.2.2 a_text a_marks → me_IT tcap T.1 T.2.1 T.2.2.1 T.2.2.2 → wY_type_22 post (d + 1) (nI i) (nI tcap) f_nodeCap f_levels (nI T.2.1) (nI T.2.2.1) f_now f_nodeCount f_queued f_c1 f_op f_c2 f_waits (nI cp) f_recCount f_reg f_begin f_recording f_recReg a_text a_marks a_info a_held a_strips a_size a_kind a_dueKey a_dueLevel
  | 0, i, T, a_text, a_marks, hd, e, hT, hI => by
    have e' : T = Z := e
    subst e'
    exact H i a_text a_marks (by omega) (by omega) hT
  | d + 1, i, T, a_text, a_marks, hd, e, hT, hI => by
    have b1 := hI.1
    have b2 := hI.2.1
    refine br_f (nI_ge (by omega) (by omega)) ?_
    rw [hz, nI_add]
    refine pk_lt tcap (T.2.1 + n) (fun h => ⟨1, br_t rfl (nm_r (nI_1 i) ?_)⟩) (fun h => ⟨n + 1, ?_⟩)
    · refine ye_type_22 htc hcp hn hz hs hg H d (i + 1) T a_text a_marks (by omega) ?_ hT hI
      rw [me_tyI, me_ty, if_neg (by omega)] at e
      exact e
    · refine ye_type_58 (t := T.1) (g := g) (len := T.2.1) (cur := T.2.2.1) (n := n) (mks := T.2.2.2) (by omega) b2 hI.2.2.2 hz hs (fun a' m' hT' => ?_) n 0 a_text a_marks (by omega) ?_
      · have e2 : me_ty tcap n g T = (me_gap T.1 T.2.2.1 n g, T.2.1 + n, T.2.2.1 + n, me_shm T.2.2.2 T.2.2.1 n) := if_pos h
        have hI' := me_ty_IT hg hI
        rw [me_tyI] at e
        rw [e2] at e hI'
        rw [nI_1]
        exact ye_type_22 htc hcp hn hz hs hg H d (i + 1) (me_gap T.1 T.2.2.1 n g, T.2.1 + n, T.2.2.1 + n, me_shm T.2.2.2 T.2.2.1 n) a' m' (by omega) e hT' hI'
      · rw [me_gap_0, me_shm_0]; exact hT
end
/-- the state behind a closed session, before the commit -/
def me_cs (c : me_CC) (s : Nat) : me_CC := match c with
  | (tcap, ncap, lvs, t, len, cur, mks, kd, sz, st, cnt, now, par, rd, nt, nl, nc, nm, reg, k1, op, k2, wt, ss, cp, rr, cr, cc, fr, kl, tk) => (tcap, ncap, lvs, (me_tyI tcap (cur - s) (fun i => t (s + i)) (cp - 1) (t, len, cur, mks)).1, (me_tyI tcap (cur - s) (fun i => t (s + i)) (cp - 1) (t, len, cur, mks)).2.1, (me_tyI tcap (cur - s) (fun i => t (s + i)) (cp - 1) (t, len, cur, mks)).2.2.1, (me_tyI tcap (cur - s) (fun i => t (s + i)) (cp - 1) (t, len, cur, mks)).2.2.2, kd, me_set sz 6 (cur - s), me_set st 6 (fun i => t (s + i)), cnt, now, par, rd, nt, nl, nc, nm, reg, k1, op, k2, wt, none, 0, rr, cr, cc, fr, kl, tk)
/-- a key in a session, for both sides -/
def me_Ses (c : me_CC) (P : me_CC → Prop) (wx : (Int32 → SX → Prop) → SX → Prop) (wy : (Int32 → SY → Prop) → SY → Prop) : Prop :=
  ∃ (r : Int32) (c' : me_CC), (r = 0 ∨ r = 1) ∧ me_Inv c' ∧ P c' ∧ me_oX c c' r wx ∧ me_oY c c' r wy
section
variable {tcap : Nat} {ncap : Nat} {lvs : Nat} {t : Nat → Int32} {len : Nat} {cur : Nat} {mks : Nat → Option Nat} {kd : Nat → Nat} {sz : Nat → Nat} {st : Nat → Nat → Int32} {cnt : Nat} {now : Nat} {par : Nat → Option Nat} {rd : Nat → Option Nat} {nt : Nat → Nat → Int32} {nl : Nat → Nat} {nc : Nat → Nat} {nm : Nat → Nat → Option Nat} {reg : Option Nat} {k1 : Nat} {op : Int32} {k2 : Nat} {wt : Int32} {ss : Option Nat} {cp : Nat} {rr : Option Nat} {cr : Option Nat} {cc : Nat} {fr : List (List Int32 × Nat × Nat × Nat)} {kl : Nat} {tk : Nat}
theorem me_inv_cs {s : Nat} (I : me_Inv (tcap, ncap, lvs, t, len, cur, mks, kd, sz, st, cnt, now, par, rd, nt, nl, nc, nm, reg, k1, op, k2, wt, ss, cp, rr, cr, cc, fr, kl, tk)) (hs : ss = some s) : me_Inv (me_cs (tcap, ncap, lvs, t, len, cur, mks, kd, sz, st, cnt, now, par, rd, nt, nl, nc, nm, reg, k1, op, k2, wt, ss, cp, rr, cr, cc, fr, kl, tk) s) := by
  obtain ⟨hA, hT, ⟨g1, g2, g3, g4⟩, hN, hK, ⟨s1, s2, s3, s4, s5⟩, hF⟩ := I
  obtain ⟨w1, w2⟩ := s1 s hs
  have hc := hT.2.1
  have hv : ∀ i, i < cur - s → me_vk (t (s + i)) := fun i hi => hT.2.2.1 _ (by omega)
  refine ⟨hA, me_tyI_IT hv (cp - 1) (t, len, cur, mks) hT, ⟨fun r hr' => ?_, fun r hr' => ?_, ?_, ?_⟩, hN, hK, ⟨fun s h => (by cases h), by omega, s3, s4, s5⟩, hF⟩
  · rw [me_set_n (by omega)]; exact g1 r hr'
  · by_cases e6 : r = 6
    · subst e6; rw [me_set_s, me_set_s]; exact ⟨by have := hT.1; have := hA.2.1; omega, hv⟩
    · rw [me_set_n e6, me_set_n e6]; exact g2 r hr'
  · rw [me_set_s, me_set_s]; intro i hi; exact w2 _ (by omega) (by omega)
  · rw [me_set_n (by omega), me_set_n (by omega)]; exact g4
theorem me_GX_typed {K L C RC HK HT g g' : Nat → Int32} {n : Nat} (h : me_GX kd sz st K L C RC HK HT) (hg : ∀ i, i < n → g' i = g i) : me_GX kd (me_set sz 6 n) (me_set st 6 g) K L C RC HK (me_cp HT 0 n g') := by
  refine ⟨fun q hq => ?_, ?_, ?_, ?_⟩
  · rw [me_set_n (by omega), me_set_n (by omega)]; exact h.1 q hq
  · rw [me_set_n (by omega), me_set_n (by omega)]; exact h.2.1
  · rw [me_set_n (by omega), me_set_n (by omega)]; exact h.2.2.1
  · rw [me_set_s, me_set_s]
    intro i hi
    have := me_cp_in (dst := HT) (b := 0) (g := g') hi
    rw [Nat.zero_add] at this
    rw [this, hg i hi]
theorem me_type {key : Int32} {s : Nat} (I : me_Inv (tcap, ncap, lvs, t, len, cur, mks, kd, sz, st, cnt, now, par, rd, nt, nl, nc, nm, reg, k1, op, k2, wt, ss, cp, rr, cr, cc, fr, kl, tk)) (hss : ss = some s) (hvk : me_vk key) :
    me_Ses (tcap, ncap, lvs, t, len, cur, mks, kd, sz, st, cnt, now, par, rd, nt, nl, nc, nm, reg, k1, op, k2, wt, ss, cp, rr, cr, cc, fr, kl, tk) (fun c' => me_keep (tcap, ncap, lvs, t, len, cur, mks, kd, sz, st, cnt, now, par, rd, nt, nl, nc, nm, reg, k1, op, k2, wt, ss, cp, rr, cr, cc, fr, kl, tk) c' ∧ (key ≠ 27 → me_ss c' ≠ none)) (fun post u => wpX_sessionKey post u key) (fun post v => wpY_type post v key) := by
  have I' := I
  obtain ⟨⟨a1, a2, a3, a4, a5, a6⟩, ⟨t1, t2, t3, t4⟩, ⟨g1, g2, g3, g4⟩, ⟨n1, n2, n3, n4⟩, ⟨hr, hk1, hk2, _⟩, ⟨s1, s2, s3, s4, s5⟩, hIF⟩ := I
  obtain ⟨w1, w2⟩ := s1 s hss
  have hz7 : ∀ r, r < 7 → sz r ≤ 32 := fun r h => (g2 r h).1
  have hb : ∀ m, m < 3 → ∀ j, mks m = some j → j ≤ 32 := fun m hm j hj => by have := t4 m hm j hj; omega
  subst hss
  by_cases h27 : key = 27
  · subst h27
    have hD := me_inv_cs I' rfl
    have hv : ∀ i, i < cur - s → me_vk (t (s + i)) := fun i hi => t3 _ (by omega)
    refine ⟨0, me_cm (me_cs (tcap, ncap, lvs, t, len, cur, mks, kd, sz, st, cnt, now, par, rd, nt, nl, nc, nm, reg, k1, op, k2, wt, some s, cp, rr, cr, cc, fr, kl, tk) s), Or.inl rfl, me_inv_cm hD, ⟨?_, fun q => absurd rfl q⟩, me_mkX fun post f_spanFrom f_spanTo f_spanTextEnd f_spanKind a_text a_marks a_regKinds a_regLens a_regCodes a_nodeParent a_nodeRedo a_nodeLen a_nodeCur a_nodeMarks a_nodeText a_recCodes a_chKeys a_chText a_frameCodes a_frameLen a_framePos a_frameTimes a_frameLevel hT hG hN hF H => ?_, me_mkY fun post q a_text a_marks a_info a_held a_strips a_size a_kind a_dueKey a_dueLevel hT hG hN hQ H => ?_⟩
    · unfold me_keep
      rw [me_fr_cm, me_tk_cm]
      exact ⟨rfl, rfl⟩
    · refine br_t rfl (xe_closeSession w1 (by omega) ⟨cp - 1 + 1, ?_⟩)
      have hgc : ∀ i, i < cur - s → me_cp a_chText 0 (cur - s) (fun i => a_text (s + i)) i = t (s + i) := fun i hi => by
        have := me_cp_in (dst := a_chText) (b := 0) (g := fun i => a_text (s + i)) hi
        rw [Nat.zero_add] at this
        rw [this]; exact hT.1 _ (by omega)
      refine xe_closeSession_47 a2 s2 (by omega) hgc hv (fun i a' m' q1 q2 hT' => ?_) (cp - 1) 1 (t, len, cur, mks) a_text a_marks (by omega) rfl hT ⟨t1, t2, t3, t4⟩
      refine br_t (nI_le q1 (by omega)) (xe_commit hD (me_inX' ?_ ?_ ?_ hT' (me_GX_typed hG (fun i hi => hT.1 _ (by omega))) hN hF) (me_allX fun _ _ _ _ _ _ _ _ _ _ _ _ _ _ _ _ _ _ _ _ _ _ _ _ _ _ _ _ _ _ _ _ _ _ _ _ _ _ _ _ _ _ _ _ _ R' => H _ R'))
      · rfl
      · rfl
      · rfl
    · refine br_t rfl (ye_copy (r := 6) (by omega) w1 (by omega) ⟨cp - 1 + 1, ?_⟩)
      have hG2 := me_GY_copy (r := 6) (n := cur - s) (g := fun i => t (s + i)) (g' := fun i => a_text (s + i)) hG hz7 (by omega) (by omega) (fun i hi => hT.1 _ (by omega))
      refine ye_type_22 (n := cur - s) (g := fun i => t (s + i)) a2 s2 (by omega) pk_us (fun i hi => ?_) hv (fun i a' m' q1 q2 hT' => ?_) (cp - 1) 1 (t, len, cur, mks) a_text a_marks (by omega) rfl hT ⟨t1, t2, t3, t4⟩
      · have := (hG2.1 6 (by omega)).2 i (by rw [me_set_s]; exact hi)
        rw [me_set_s] at this
        exact this
      · exact br_t (nI_le q1 (by omega)) (ye_commit hD (me_inY hT' hG2 hN hQ) (me_allY fun _ _ _ _ _ _ _ _ _ _ _ _ _ _ _ _ _ _ _ _ _ _ _ _ _ _ _ R' => H _ R'))
  · by_cases h8 : key = 8
    · subst h8
      by_cases hcs : s < cur
      · refine ⟨0, (tcap, ncap, lvs, me_cut t (cur - 1) cur, len - (cur - (cur - 1)), cur - 1, me_cutm mks (cur - 1) cur, kd, sz, st, cnt, now, par, rd, nt, nl, nc, nm, reg, k1, op, k2, wt, some s, cp, rr, cr, cc, fr, kl, tk), Or.inl rfl, ?_, ⟨⟨rfl, rfl⟩, fun _ h => by cases h⟩, me_mkX fun post f_spanFrom f_spanTo f_spanTextEnd f_spanKind a_text a_marks a_regKinds a_regLens a_regCodes a_nodeParent a_nodeRedo a_nodeLen a_nodeCur a_nodeMarks a_nodeText a_recCodes a_chKeys a_chText a_frameCodes a_frameLen a_framePos a_frameTimes a_frameLevel hT hG hN hF H => ?_, me_mkY fun post q a_text a_marks a_info a_held a_strips a_size a_kind a_dueKey a_dueLevel hT hG hN hQ H => ?_⟩
        · refine ⟨⟨a1, a2, a3, a4, a5, a6⟩, me_IT_cut ⟨t1, t2, t3, t4⟩ (by omega) t2 (by omega), ⟨g1, g2, g3, g4⟩, ⟨n1, n2, n3, n4⟩, I'.2.2.2.2.1, ⟨fun q h => ?_, s2, s3, s4, s5⟩, hIF⟩
          cases h
          refine ⟨by omega, fun i h1 h2 => ?_⟩
          unfold me_cut
          rw [if_pos h2]
          exact w2 i h1 (by omega)
        · refine br_f (by decide) (br_t rfl (br_t (nI_lt hcs (by omega)) ?_))
          rw [me_sub1 (by omega)]
          refine xe_deleteCells (mks := mks) (t := t) (by omega) t2 (by omega) hT.1 hb hT.2 (fun a' m' o1 o2 => nm_r (me_sub1 (by omega)) (H _ ?_))
          exact me_inX ⟨o1, o2⟩ hG hN hF
        · refine br_f (by decide) (br_t rfl (br_f (fun q => ?_) (br_t rfl (nm_r (me_sub1 (by omega)) (ye_del (mks := mks) (t := t) (by omega) (by omega) hT.1 hb hT.2 (fun a' m' o1 o2 => H _ ?_))))))
          · have := (nI_eq (by omega) (by omega)).mp q; omega
          · rw [show cur - 1 + 1 = cur by omega] at o1 o2
            have e : len - 1 = len - (cur - (cur - 1)) := by omega
            rw [e] at o1 ⊢
            exact me_inY ⟨o1, o2⟩ hG hN hQ
      · refine ⟨1, (tcap, ncap, lvs, t, len, cur, mks, kd, sz, st, cnt, now, par, rd, nt, nl, nc, nm, reg, k1, op, k2, wt, some s, cp, rr, cr, cc, fr, kl, tk), Or.inr rfl, I', ⟨⟨rfl, rfl⟩, fun _ h => by cases h⟩, me_mkX fun post f_spanFrom f_spanTo f_spanTextEnd f_spanKind a_text a_marks a_regKinds a_regLens a_regCodes a_nodeParent a_nodeRedo a_nodeLen a_nodeCur a_nodeMarks a_nodeText a_recCodes a_chKeys a_chText a_frameCodes a_frameLen a_framePos a_frameTimes a_frameLevel hT hG hN hF H => ?_, me_mkY fun post q a_text a_marks a_info a_held a_strips a_size a_kind a_dueKey a_dueLevel hT hG hN hQ H => ?_⟩
        · exact br_f (by decide) (br_t rfl (br_f (nI_nlt (by omega) (by omega)) (H _ (me_inX hT hG hN hF))))
        · have e : cur = s := by omega
          subst e
          exact br_f (by decide) (br_t rfl (br_t rfl (H _ (me_inY hT hG hN hQ))))
    · by_cases hl : len < tcap
      · refine ⟨0, (tcap, ncap, lvs, me_gap t cur 1 (fun _ => key), len + 1, cur + 1, me_shm mks cur 1, kd, sz, st, cnt, now, par, rd, nt, nl, nc, nm, reg, k1, op, k2, wt, some s, cp, rr, cr, cc, fr, kl, tk), Or.inl rfl, ?_, ⟨⟨rfl, rfl⟩, fun _ h => by cases h⟩, me_mkX fun post f_spanFrom f_spanTo f_spanTextEnd f_spanKind a_text a_marks a_regKinds a_regLens a_regCodes a_nodeParent a_nodeRedo a_nodeLen a_nodeCur a_nodeMarks a_nodeText a_recCodes a_chKeys a_chText a_frameCodes a_frameLen a_framePos a_frameTimes a_frameLevel hT hG hN hF H => ?_, me_mkY fun post q a_text a_marks a_info a_held a_strips a_size a_kind a_dueKey a_dueLevel hT hG hN hQ H => ?_⟩
        · refine ⟨⟨a1, a2, a3, a4, a5, a6⟩, me_IT_gap ⟨t1, t2, t3, t4⟩ hl t2 (by omega) (fun _ _ => hvk), ⟨g1, g2, g3, g4⟩, ⟨n1, n2, n3, n4⟩, I'.2.2.2.2.1, ⟨fun q h => ?_, s2, s3, s4, s5⟩, hIF⟩
          cases h
          refine ⟨by omega, fun i h1 h2 => ?_⟩
          by_cases e : i < cur
          · rw [me_gap_lo e]; exact w2 i h1 e
          · have : i = cur + 0 := by omega
            rw [this, me_gap_mid (by omega)]
            exact h27
        · exact br_f h27 (br_f h8 (br_t (nI_lt hl (by omega)) (xe_insertCode (mks := mks) (t := t) t2 (by omega) hT.1 hb hT.2 (fun a' m' o1 o2 => H _ (me_inX ⟨o1, o2⟩ hG hN hF)))))
        · exact br_f h27 (br_f h8 (br_t (nI_lt hl (by omega)) (br_f h8 (nm_r (nI_1 cur) (ye_ins (mks := mks) (t := t) t2 (by omega) hT.1 hb hT.2 (fun a' m' o1 o2 => H _ (me_inY ⟨o1, o2⟩ hG hN hQ)))))))
      · refine ⟨1, (tcap, ncap, lvs, t, len, cur, mks, kd, sz, st, cnt, now, par, rd, nt, nl, nc, nm, reg, k1, op, k2, wt, some s, cp, rr, cr, cc, fr, kl, tk), Or.inr rfl, I', ⟨⟨rfl, rfl⟩, fun _ h => by cases h⟩, me_mkX fun post f_spanFrom f_spanTo f_spanTextEnd f_spanKind a_text a_marks a_regKinds a_regLens a_regCodes a_nodeParent a_nodeRedo a_nodeLen a_nodeCur a_nodeMarks a_nodeText a_recCodes a_chKeys a_chText a_frameCodes a_frameLen a_framePos a_frameTimes a_frameLevel hT hG hN hF H => ?_, me_mkY fun post q a_text a_marks a_info a_held a_strips a_size a_kind a_dueKey a_dueLevel hT hG hN hQ H => ?_⟩
        · exact br_f h27 (br_f h8 (br_f (nI_nlt (by omega) (by omega)) (H _ (me_inX hT hG hN hF))))
        · exact br_f h27 (br_f h8 (br_f (nI_nlt (by omega) (by omega)) (H _ (me_inY hT hG hN hQ))))
end
end
section
/-! undo and redo -/
def me_wkI (f : Nat → Option Nat) (nd : Nat → me_T4) : Nat → Nat → me_T4 → Nat × me_T4
  | 0, k, T => (k, T)
  | n + 1, k, T => match f k with
    | none => (k, T)
    | some j => me_wkI f nd n j (nd j)
theorem me_wkI_n {f : Nat → Option Nat} {nd : Nat → me_T4} {n k : Nat} {T : me_T4} (h : f k = none) : me_wkI f nd (n + 1) k T = (k, T) := by rw [me_wkI, h]
theorem me_wkI_s {f : Nat → Option Nat} {nd : Nat → me_T4} {n k j : Nat} {T : me_T4} (h : f k = some j) : me_wkI f nd (n + 1) k T = me_wkI f nd n j (nd j) := by rw [me_wkI, h]
theorem me_wkI_P {f : Nat → Option Nat} {nd : Nat → me_T4} {P : Nat → me_T4 → Prop} (h : ∀ k T j, P k T → f k = some j → P j (nd j)) : ∀ n k T, P k T → P (me_wkI f nd n k T).1 (me_wkI f nd n k T).2
  | 0, k, T, hP => hP
  | n + 1, k, T, hP => by
    cases e : f k with
    | none => rw [me_wkI_n e]; exact hP
    | some j => rw [me_wkI_s e]; exact me_wkI_P h n j _ (h k T j hP e)
def me_wk (c : me_CC) (f : Nat → Option Nat) (n : Nat) : me_CC := match c with
  | (tcap, ncap, lvs, t, len, cur, mks, kd, sz, st, cnt, now, par, rd, nt, nl, nc, nm, reg, k1, op, k2, wt, ss, cp, rr, cr, cc, fr, kl, tk) => (tcap, ncap, lvs, (me_wkI f (fun j => (nt j, nl j, nc j, nm j)) n now (t, len, cur, mks)).2.1, (me_wkI f (fun j => (nt j, nl j, nc j, nm j)) n now (t, len, cur, mks)).2.2.1, (me_wkI f (fun j => (nt j, nl j, nc j, nm j)) n now (t, len, cur, mks)).2.2.2.1, (me_wkI f (fun j => (nt j, nl j, nc j, nm j)) n now (t, len, cur, mks)).2.2.2.2, kd, sz, st, cnt, (me_wkI f (fun j => (nt j, nl j, nc j, nm j)) n now (t, len, cur, mks)).1, par, rd, nt, nl, nc, nm, reg, k1, op, k2, wt, ss, cp, rr, cr, cc, fr, kl, tk)
section
variable {tcap : Nat} {ncap : Nat} {lvs : Nat} {t : Nat → Int32} {len : Nat} {cur : Nat} {mks : Nat → Option Nat} {kd : Nat → Nat} {sz : Nat → Nat} {st : Nat → Nat → Int32} {cnt : Nat} {now : Nat} {par : Nat → Option Nat} {rd : Nat → Option Nat} {nt : Nat → Nat → Int32} {nl : Nat → Nat} {nc : Nat → Nat} {nm : Nat → Nat → Option Nat} {reg : Option Nat} {k1 : Nat} {op : Int32} {k2 : Nat} {wt : Int32} {ss : Option Nat} {cp : Nat} {rr : Option Nat} {cr : Option Nat} {cc : Nat} {fr : List (List Int32 × Nat × Nat × Nat)} {kl : Nat} {tk : Nat}
theorem me_inv_wk {f : Nat → Option Nat} {n : Nat} (I : me_Inv (tcap, ncap, lvs, t, len, cur, mks, kd, sz, st, cnt, now, par, rd, nt, nl, nc, nm, reg, k1, op, k2, wt, ss, cp, rr, cr, cc, fr, kl, tk)) (hss : ss = none) (hf : ∀ k j, k < cnt → f k = some j → j < cnt) : me_Inv (me_wk (tcap, ncap, lvs, t, len, cur, mks, kd, sz, st, cnt, now, par, rd, nt, nl, nc, nm, reg, k1, op, k2, wt, ss, cp, rr, cr, cc, fr, kl, tk) f n) := by
  obtain ⟨hA, hT, hG, ⟨n1, n2, n3, n4⟩, hK, ⟨s1, s2⟩, hF⟩ := I
  have := me_wkI_P (f := f) (nd := fun j => (nt j, nl j, nc j, nm j)) (P := fun k T => k < cnt ∧ me_IT tcap T.1 T.2.1 T.2.2.1 T.2.2.2) (fun k T j hP e => ⟨hf k j hP.1 e, (n4 j (hf k j hP.1 e)).1⟩) n now (t, len, cur, mks) ⟨n3, hT⟩
  exact ⟨hA, this.2, hG, ⟨n1, n2, this.1, n4⟩, hK, ⟨fun s h => (by rw [hss] at h; cases h), s2⟩, hF⟩
theorem me_TX_rest {k : Nat} {a_text a_marks a_nodeParent a_nodeRedo a_nodeLen a_nodeCur a_nodeMarks a_nodeText : Nat → Int32} (hN : me_N1X par rd nt nl nc nm a_nodeParent a_nodeRedo a_nodeLen a_nodeCur a_nodeMarks a_nodeText k) : me_TX (nt k) (nl k) (nm k) (me_cp a_text 0 (nl k) (fun i => a_nodeText (k * 32 + i))) (me_cp a_marks 0 3 (fun i => a_nodeMarks (k * 3 + i))) := by
  obtain ⟨h1, h2, h3, h4, h5, h6⟩ := hN
  refine ⟨fun i hi => ?_, fun m hm => ?_⟩
  · have := me_cp_in (dst := a_text) (b := 0) (g := fun i => a_nodeText (k * 32 + i)) hi
    rw [Nat.zero_add] at this
    rw [this]; exact h6 i hi
  · have := me_cp_in (dst := a_marks) (b := 0) (g := fun i => a_nodeMarks (k * 3 + i)) hm
    rw [Nat.zero_add] at this
    rw [this]; exact h5 m hm
theorem me_TY_rest {k : Nat} {a_text a_marks a_info a_held : Nat → Int32} (hN : me_N1Y par rd nt nl nc nm a_info a_held k) : me_TX (nt k) (nl k) (nm k) (me_cp a_text 0 (nl k) (fun i => a_held (k * 32 + i))) (me_cp a_marks 0 3 (fun i => a_info (k * 7 + 4 + i))) := by
  obtain ⟨h1, h2, h3, h4, h5, h6⟩ := hN
  refine ⟨fun i hi => ?_, fun m hm => ?_⟩
  · have := me_cp_in (dst := a_text) (b := 0) (g := fun i => a_held (k * 32 + i)) hi
    rw [Nat.zero_add] at this
    rw [this]; exact h6 i hi
  · have := me_cp_in (dst := a_marks) (b := 0) (g := fun i => a_info (k * 7 + 4 + i)) hm
    rw [Nat.zero_add] at this
    rw [this]; exact h5 m hm
end
section
variable {tcap : Nat} {ncap : Nat} {lvs : Nat} {t : Nat → Int32} {len : Nat} {cur : Nat} {mks : Nat → Option Nat} {kd : Nat → Nat} {sz : Nat → Nat} {st : Nat → Nat → Int32} {cnt : Nat} {now : Nat} {par : Nat → Option Nat} {rd : Nat → Option Nat} {nt : Nat → Nat → Int32} {nl : Nat → Nat} {nc : Nat → Nat} {nm : Nat → Nat → Option Nat} {reg : Option Nat} {k1 : Nat} {op : Int32} {k2 : Nat} {wt : Int32} {ss : Option Nat} {cp : Nat} {rr : Option Nat} {cr : Option Nat} {cc : Nat} {fr : List (List Int32 × Nat × Nat × Nat)} {kl : Nat} {tk : Nat}
variable {f_spanFrom f_spanTo f_spanTextEnd f_spanKind : Int32} {a_text a_marks a_regKinds a_regLens a_regCodes a_nodeParent a_nodeRedo a_nodeLen a_nodeCur a_nodeMarks a_nodeText a_recCodes a_chKeys a_chText a_frameCodes a_frameLen a_framePos a_frameTimes a_frameLevel : Nat → Int32}
theorem xe_undo_16 {post : Int32 → SX → Prop} {n : Nat} (a2 : tcap ≤ 32) (a4 : ncap ≤ 8) (hn : n ≤ 32) (hIN : me_IN tcap ncap cnt now par rd nt nl nc nm) (hN : me_NX cnt par rd nt nl nc nm a_nodeParent a_nodeRedo a_nodeLen a_nodeCur a_nodeMarks a_nodeText) {Z : Nat × me_T4}
    (H : ∀ (a_text a_marks : Nat → Int32), me_TX Z.2.1 Z.2.2.1 Z.2.2.2.2 a_text a_marks → wX_undo_47 post (nI tcap) (nI ncap) (nI lvs) (nI Z.2.2.1) (nI Z.2.2.2.1) (nI cnt) (nI Z.1) (me_o reg) (nI k1) op (nI k2) wt (me_o ss) (nI cp) (me_o rr) (nI (sz 4)) (nI (sz 5)) (nI (sz 6)) (me_o cr) (nI cc) (nI fr.length) (nI kl) f_spanFrom f_spanTo f_spanTextEnd f_spanKind a_text a_marks a_regKinds a_regLens a_regCodes a_nodeParent a_nodeRedo a_nodeLen a_nodeCur a_nodeMarks a_nodeText a_recCodes a_chKeys a_chText a_frameCodes a_frameLen a_framePos a_frameTimes a_frameLevel) :
    ∀ (d i k : Nat) (T : me_T4) (a_text a_marks : Nat → Int32), i + d = n → k < cnt → me_wkI par (fun j => (nt j, nl j, nc j, nm j)) d k T = Z → me_TX T.1 T.2.1 T.2.2.2 a_text a_marks → wX_undo_16 post (nI n) (d + 1) (nI i) (nI tcap) (nI ncap) (nI lvs) (nI T.2.1) (nI T.2.2.1) (nI cnt) (nI k) (me_o reg) (nI k1) op (nI k2) wt (me_o ss) (nI cp) (me_o rr) (nI (sz 4)) (nI (sz 5)) (nI (sz 6)) (me_o cr) (nI cc) (nI fr.length) (nI kl) f_spanFrom f_spanTo f_spanTextEnd f_spanKind a_text a_marks a_regKinds a_regLens a_regCodes a_nodeParent a_nodeRedo a_nodeLen a_nodeCur a_nodeMarks a_nodeText a_recCodes a_chKeys a_chText a_frameCodes a_frameLen a_framePos a_frameTimes a_frameLevel
  | 0, i, k, T, a_text, a_marks, hd, hk, e, hT => by
    have e' : (k, T) = Z := e
    subst e'
    exact br_t (nI_le (by omega) (by omega)) (H a_text a_marks hT)
  | d + 1, i, k, T, a_text, a_marks, hd, hk, e, hT => by
    obtain ⟨i1, i2, i3, i4⟩ := hIN
    refine br_f (nI_ge (by omega) (by omega)) ?_
    by_cases h0 : k = 0
    · subst h0
      rw [me_wkI_n ((i4 0 hk).2.1 rfl)] at e
      subst e
      exact br_t rfl (H a_text a_marks hT)
    · obtain ⟨j, hj, ej⟩ := (i4 k hk).2.2.1 (by omega)
      have nb := (i4 j (by omega)).1.1
      refine br_f (nI_ne0 (by omega) (by omega)) ⟨vp_in_nI (by omega) (by omega), ?_⟩
      rw [nI_clamp (by omega), (hN k hk).1, ej]
      obtain ⟨h1, h2, h3, h4, h5, h6⟩ := hN j (by omega)
      refine xe_restore (by omega) (by omega) h3 h4 (nm_r (nI_1 i) ?_)
      rw [me_wkI_s ej] at e
      exact xe_undo_16 a2 a4 hn ⟨i1, i2, i3, i4⟩ hN H d (i + 1) j (nt j, nl j, nc j, nm j) _ _ (by omega) (by omega) e (me_TX_rest (hN j (by omega)))
theorem xe_redo_21 {post : Int32 → SX → Prop} {n : Nat} (a2 : tcap ≤ 32) (a4 : ncap ≤ 8) (hn : n ≤ 32) (hIN : me_IN tcap ncap cnt now par rd nt nl nc nm) (hN : me_NX cnt par rd nt nl nc nm a_nodeParent a_nodeRedo a_nodeLen a_nodeCur a_nodeMarks a_nodeText) {Z : Nat × me_T4}
    (H : ∀ (a_text a_marks : Nat → Int32), me_TX Z.2.1 Z.2.2.1 Z.2.2.2.2 a_text a_marks → wX_redo_57 post (nI tcap) (nI ncap) (nI lvs) (nI Z.2.2.1) (nI Z.2.2.2.1) (nI cnt) (nI Z.1) (me_o reg) (nI k1) op (nI k2) wt (me_o ss) (nI cp) (me_o rr) (nI (sz 4)) (nI (sz 5)) (nI (sz 6)) (me_o cr) (nI cc) (nI fr.length) (nI kl) f_spanFrom f_spanTo f_spanTextEnd f_spanKind a_text a_marks a_regKinds a_regLens a_regCodes a_nodeParent a_nodeRedo a_nodeLen a_nodeCur a_nodeMarks a_nodeText a_recCodes a_chKeys a_chText a_frameCodes a_frameLen a_framePos a_frameTimes a_frameLevel) :
    ∀ (d i k : Nat) (T : me_T4) (a_text a_marks : Nat → Int32), i + d = n → k < cnt → me_wkI rd (fun j => (nt j, nl j, nc j, nm j)) d k T = Z → me_TX T.1 T.2.1 T.2.2.2 a_text a_marks → wX_redo_21 post (nI n) (d + 1) (nI i) (nI tcap) (nI ncap) (nI lvs) (nI T.2.1) (nI T.2.2.1) (nI cnt) (nI k) (me_o reg) (nI k1) op (nI k2) wt (me_o ss) (nI cp) (me_o rr) (nI (sz 4)) (nI (sz 5)) (nI (sz 6)) (me_o cr) (nI cc) (nI fr.length) (nI kl) f_spanFrom f_spanTo f_spanTextEnd f_spanKind a_text a_marks a_regKinds a_regLens a_regCodes a_nodeParent a_nodeRedo a_nodeLen a_nodeCur a_nodeMarks a_nodeText a_recCodes a_chKeys a_chText a_frameCodes a_frameLen a_framePos a_frameTimes a_frameLevel
  | 0, i, k, T, a_text, a_marks, hd, hk, e, hT => by
    have e' : (k, T) = Z := e
    subst e'
    exact br_t (nI_le (by omega) (by omega)) (H a_text a_marks hT)
  | d + 1, i, k, T, a_text, a_marks, hd, hk, e, hT => by
    obtain ⟨i1, i2, i3, i4⟩ := hIN
    refine br_f (nI_ge (by omega) (by omega)) ⟨vp_in_nI (by omega) (by omega), ?_⟩
    rw [nI_clamp (by omega), (hN k hk).2.1]
    cases ej : rd k with
    | none =>
      rw [me_wkI_n ej] at e
      subst e
      exact br_t (by decide) (H a_text a_marks hT)
    | some j =>
      have hj := (i4 k hk).2.2.2 j ej
      have nb := (i4 j (by omega)).1.1
      refine br_f (nI_pos (by omega)) ⟨vp_in_nI (by omega) (by omega), ?_⟩
      obtain ⟨h1, h2, h3, h4, h5, h6⟩ := hN j (by omega)
      refine xe_restore (by omega) (by omega) h3 h4 (nm_r (nI_1 i) ?_)
      rw [me_wkI_s ej] at e
      exact xe_redo_21 a2 a4 hn ⟨i1, i2, i3, i4⟩ hN H d (i + 1) j (nt j, nl j, nc j, nm j) _ _ (by omega) (by omega) e (me_TX_rest (hN j (by omega)))
end
section
variable {f_cap f_nodeCap f_levels f_len f_cur f_now f_nodeCount f_queued f_c1 f_op f_c2 f_waits f_copies f_recCount f_reg f_begin f_recording f_recReg : Int32} {a_text a_marks a_info a_held a_strips a_size a_kind a_dueKey a_dueLevel : Nat → Int32}
theorem ye_nodeInfo {post : Int32 → Prop} {k cnt w : Nat} (hk : k < cnt) (hc : cnt ≤ 8) (hw : w ≤ 6) (H : post (a_info (k * 7 + w))) : wpY_nodeInfo post (f_cap, f_nodeCap, f_levels, f_len, f_cur, f_now, nI cnt, f_queued, f_c1, f_op, f_c2, f_waits, f_copies, f_recCount, f_reg, f_begin, f_recording, f_recReg, a_text, a_marks, a_info, a_held, a_strips, a_size, a_kind, a_dueKey, a_dueLevel) (nI k) (nI w) := by
  have e : nI k * 7 + nI w = nI (k * 7 + w) := by rw [me_ix7, nI_add]
  refine br_f (nI_pos (by omega)) (br_f (nI_ge hk (by omega)) (br_f (nI_pos (by omega)) (br_t (nI_le (b := 6) hw (by omega)) ⟨pk_in (k * 7 + w) 56 (by omega) e, ?_⟩)))
  rw [pk_cl (k * 7 + w) e]
  exact H
end
section
variable {tcap : Nat} {ncap : Nat} {lvs : Nat} {t : Nat → Int32} {len : Nat} {cur : Nat} {mks : Nat → Option Nat} {kd : Nat → Nat} {sz : Nat → Nat} {st : Nat → Nat → Int32} {cnt : Nat} {now : Nat} {par : Nat → Option Nat} {rd : Nat → Option Nat} {nt : Nat → Nat → Int32} {nl : Nat → Nat} {nc : Nat → Nat} {nm : Nat → Nat → Option Nat} {reg : Option Nat} {k1 : Nat} {op : Int32} {k2 : Nat} {wt : Int32} {ss : Option Nat} {cp : Nat} {rr : Option Nat} {cr : Option Nat} {cc : Nat} {fr : List (List Int32 × Nat × Nat × Nat)} {kl : Nat} {tk : Nat}
variable {a_text a_marks a_info a_held a_strips a_size a_kind a_dueKey a_dueLevel : Nat → Int32}
theorem ye_walk_19 {post : Int32 → SY → Prop} {q n w : Nat} {f : Nat → Option Nat} (a2 : tcap ≤ 32) (a4 : ncap ≤ 8) (hn : n ≤ 32) (hw : w ≤ 1) (hIN : me_IN tcap ncap cnt now par rd nt nl nc nm) (hf : ∀ k j, k < cnt → f k = some j → j < cnt) (hi : ∀ k, k < cnt → a_info (k * 7 + w) = me_o (f k)) (hN : me_NY cnt par rd nt nl nc nm a_info a_held) {Z : Nat × me_T4}
    (H : ∀ (a_text a_marks : Nat → Int32), me_TX Z.2.1 Z.2.2.1 Z.2.2.2.2 a_text a_marks → post 0 (nI tcap, nI ncap, nI lvs, nI Z.2.2.1, nI Z.2.2.2.1, nI Z.1, nI cnt, nI q, nI k1, op, nI k2, wt, nI cp, nI cc, me_o reg, me_o ss, me_o rr, me_o cr, a_text, a_marks, a_info, a_held, a_strips, a_size, a_kind, a_dueKey, a_dueLevel)) :
    ∀ (d i k : Nat) (T : me_T4) (a_text a_marks : Nat → Int32), i + d = n → k < cnt → me_wkI f (fun j => (nt j, nl j, nc j, nm j)) d k T = Z → me_TX T.1 T.2.1 T.2.2.2 a_text a_marks → wY_walk_19 post (nI w) (nI n) (d + 1) (me_o (f k)) (nI i) (nI tcap) (nI ncap) (nI lvs) (nI T.2.1) (nI T.2.2.1) (nI k) (nI cnt) (nI q) (nI k1) op (nI k2) wt (nI cp) (nI cc) (me_o reg) (me_o ss) (me_o rr) (me_o cr) a_text a_marks a_info a_held a_strips a_size a_kind a_dueKey a_dueLevel
  | 0, i, k, T, a_text, a_marks, hd, hk, e, hT => by
    have e' : (k, T) = Z := e
    subst e'
    exact br_t (nI_le (by omega) (by omega)) (H a_text a_marks hT)
  | d + 1, i, k, T, a_text, a_marks, hd, hk, e, hT => by
    obtain ⟨i1, i2, i3, i4⟩ := hIN
    refine br_f (nI_ge (by omega) (by omega)) ?_
    cases ej : f k with
    | none =>
      rw [me_wkI_n ej] at e
      subst e
      exact br_t (by decide) (H a_text a_marks hT)
    | some j =>
      have hj := hf k j hk ej
      have nb := (i4 j hj).1.1
      obtain ⟨h1, h2, h3, h4, h5, h6⟩ := hN j hj
      refine br_f (nI_pos (by omega)) (ye_restore (by omega) (by omega) h3 h4 (ye_nodeInfo hj (by omega) (by omega) (nm_r (nI_1 i) ?_)))
      rw [me_wkI_s ej] at e
      rw [hi j hj]
      exact ye_walk_19 a2 a4 hn hw ⟨i1, i2, i3, i4⟩ hf hi hN H d (i + 1) j (nt j, nl j, nc j, nm j) _ _ (by omega) hj e (me_TY_rest (hN j hj))
end
section
variable {tcap : Nat} {ncap : Nat} {lvs : Nat} {t : Nat → Int32} {len : Nat} {cur : Nat} {mks : Nat → Option Nat} {kd : Nat → Nat} {sz : Nat → Nat} {st : Nat → Nat → Int32} {cnt : Nat} {now : Nat} {par : Nat → Option Nat} {rd : Nat → Option Nat} {nt : Nat → Nat → Int32} {nl : Nat → Nat} {nc : Nat → Nat} {nm : Nat → Nat → Option Nat} {reg : Option Nat} {k1 : Nat} {op : Int32} {k2 : Nat} {wt : Int32} {ss : Option Nat} {cp : Nat} {rr : Option Nat} {cr : Option Nat} {cc : Nat} {fr : List (List Int32 × Nat × Nat × Nat)} {kl : Nat} {tk : Nat}
theorem me_undo (I : me_Inv (tcap, ncap, lvs, t, len, cur, mks, kd, sz, st, cnt, now, par, rd, nt, nl, nc, nm, reg, k1, op, k2, wt, ss, cp, rr, cr, cc, fr, kl, tk)) (hss : ss = none) :
    me_Cmd (tcap, ncap, lvs, t, len, cur, mks, kd, sz, st, cnt, now, par, rd, nt, nl, nc, nm, reg, k1, op, k2, wt, ss, cp, rr, cr, cc, fr, kl, tk) (fun c' => me_keep (tcap, ncap, lvs, t, len, cur, mks, kd, sz, st, cnt, now, par, rd, nt, nl, nc, nm, reg, k1, op, k2, wt, ss, cp, rr, cr, cc, fr, kl, tk) c') (fun post u => wpX_undo post u) (fun post v => wpY_walk post v 0 (nI (me_nt k1 k2))) := by
  have I' := I
  obtain ⟨⟨a1, a2, a3, a4, a5, a6⟩, ⟨t1, t2, t3, t4⟩, hIG, hIN, ⟨hr, hk1, hk2, _⟩, hIS, hIF⟩ := I
  have hIN' := hIN
  obtain ⟨n1, n2, n3, n4⟩ := hIN
  have hnt := me_nt_b k1 k2
  have hf : ∀ k j, k < cnt → par k = some j → j < cnt := fun k j hk e => by
    by_cases h0 : k = 0
    · rw [(n4 k hk).2.1 h0] at e; cases e
    · obtain ⟨j', hj, ej⟩ := (n4 k hk).2.2.1 (by omega)
      rw [ej] at e; cases e; omega
  by_cases h0 : now = 0
  · refine Or.inr (Or.inr ⟨me_mkX fun post f_spanFrom f_spanTo f_spanTextEnd f_spanKind a_text a_marks a_regKinds a_regLens a_regCodes a_nodeParent a_nodeRedo a_nodeLen a_nodeCur a_nodeMarks a_nodeText a_recCodes a_chKeys a_chText a_frameCodes a_frameLen a_framePos a_frameTimes a_frameLevel hT hG hN hF H => ?_, (tcap, ncap, lvs, t, len, cur, mks, kd, sz, st, cnt, now, par, rd, nt, nl, nc, nm, reg, k1, op, k2, wt, ss, cp, rr, cr, cc, fr, kl, tk), rfl, me_mkY fun post q a_text a_marks a_info a_held a_strips a_size a_kind a_dueKey a_dueLevel hT hG hN hQ H => ?_⟩)
    · refine br_t ?_ (H _ (me_inX hT hG hN hF))
      rw [h0]; rfl
    · unfold wpY_walk
      refine ye_nodeInfo (w := 0) n3 (by omega) (by omega) ?_
      rw [show now * 7 + 0 = now * 7 from rfl, (hN now n3).1, (n4 now n3).2.1 h0]
      exact br_f (by decide) (H _ (me_inY hT hG hN hQ))
  · obtain ⟨j, hj, ej⟩ := (n4 now n3).2.2.1 (by omega)
    refine Or.inr (Or.inl ⟨me_wk (tcap, ncap, lvs, t, len, cur, mks, kd, sz, st, cnt, now, par, rd, nt, nl, nc, nm, reg, k1, op, k2, wt, ss, cp, rr, cr, cc, fr, kl, tk) par (me_nt k1 k2), me_inv_wk I' hss hf, ⟨rfl, rfl⟩, me_mkX fun post f_spanFrom f_spanTo f_spanTextEnd f_spanKind a_text a_marks a_regKinds a_regLens a_regCodes a_nodeParent a_nodeRedo a_nodeLen a_nodeCur a_nodeMarks a_nodeText a_recCodes a_chKeys a_chText a_frameCodes a_frameLen a_framePos a_frameTimes a_frameLevel hT hG hN hF H => ?_, me_mkY fun post q a_text a_marks a_info a_held a_strips a_size a_kind a_dueKey a_dueLevel hT hG hN hQ H => ?_⟩)
    · refine br_f (nI_ne0 (by omega) (by omega)) (xe_times hk1 hk2 ⟨me_nt k1 k2 + 1, ?_⟩)
      exact xe_undo_16 a2 a4 hnt.2 hIN' hN (fun a' m' hT' => H _ (me_inX hT' hG hN hF)) (me_nt k1 k2) 0 now (t, len, cur, mks) a_text a_marks (by omega) n3 rfl hT
    · unfold wpY_walk
      refine ye_nodeInfo (w := 0) n3 (by omega) (by omega) ?_
      rw [show now * 7 + 0 = now * 7 from rfl, (hN now n3).1]
      refine br_t ?_ ⟨me_nt k1 k2 + 1, ?_⟩
      · rw [ej]; exact nI_pos' (by omega)
      · exact ye_walk_19 (w := 0) a2 a4 hnt.2 (by omega) hIN' hf (fun k hk => (hN k hk).1) hN (fun a' m' hT' => H _ (me_inY hT' hG hN hQ)) (me_nt k1 k2) 0 now (t, len, cur, mks) a_text a_marks (by omega) n3 rfl hT
theorem me_redo (I : me_Inv (tcap, ncap, lvs, t, len, cur, mks, kd, sz, st, cnt, now, par, rd, nt, nl, nc, nm, reg, k1, op, k2, wt, ss, cp, rr, cr, cc, fr, kl, tk)) (hss : ss = none) :
    me_Cmd (tcap, ncap, lvs, t, len, cur, mks, kd, sz, st, cnt, now, par, rd, nt, nl, nc, nm, reg, k1, op, k2, wt, ss, cp, rr, cr, cc, fr, kl, tk) (fun c' => me_keep (tcap, ncap, lvs, t, len, cur, mks, kd, sz, st, cnt, now, par, rd, nt, nl, nc, nm, reg, k1, op, k2, wt, ss, cp, rr, cr, cc, fr, kl, tk) c') (fun post u => wpX_redo post u) (fun post v => wpY_walk post v 1 (nI (me_nt k1 k2))) := by
  have I' := I
  obtain ⟨⟨a1, a2, a3, a4, a5, a6⟩, ⟨t1, t2, t3, t4⟩, hIG, hIN, ⟨hr, hk1, hk2, _⟩, hIS, hIF⟩ := I
  have hIN' := hIN
  obtain ⟨n1, n2, n3, n4⟩ := hIN
  have hnt := me_nt_b k1 k2
  have hf : ∀ k j, k < cnt → rd k = some j → j < cnt := fun k j hk e => (n4 k hk).2.2.2 j e
  cases ej : rd now with
  | none =>
    refine Or.inr (Or.inr ⟨me_mkX fun post f_spanFrom f_spanTo f_spanTextEnd f_spanKind a_text a_marks a_regKinds a_regLens a_regCodes a_nodeParent a_nodeRedo a_nodeLen a_nodeCur a_nodeMarks a_nodeText a_recCodes a_chKeys a_chText a_frameCodes a_frameLen a_framePos a_frameTimes a_frameLevel hT hG hN hF H => ?_, (tcap, ncap, lvs, t, len, cur, mks, kd, sz, st, cnt, now, par, rd, nt, nl, nc, nm, reg, k1, op, k2, wt, ss, cp, rr, cr, cc, fr, kl, tk), rfl, me_mkY fun post q a_text a_marks a_info a_held a_strips a_size a_kind a_dueKey a_dueLevel hT hG hN hQ H => ?_⟩)
    · refine ⟨vp_in_nI (by omega) (by omega), ?_⟩
      rw [nI_clamp (by omega), (hN now n3).2.1, ej]
      exact br_f (by decide) (H _ (me_inX hT hG hN hF))
    · unfold wpY_walk
      refine ye_nodeInfo (w := 1) n3 (by omega) (by omega) ?_
      rw [(hN now n3).2.1, ej]
      exact br_f (by decide) (H _ (me_inY hT hG hN hQ))
  | some j =>
    have hj := hf now j n3 ej
    refine Or.inr (Or.inl ⟨me_wk (tcap, ncap, lvs, t, len, cur, mks, kd, sz, st, cnt, now, par, rd, nt, nl, nc, nm, reg, k1, op, k2, wt, ss, cp, rr, cr, cc, fr, kl, tk) rd (me_nt k1 k2), me_inv_wk I' hss hf, ⟨rfl, rfl⟩, me_mkX fun post f_spanFrom f_spanTo f_spanTextEnd f_spanKind a_text a_marks a_regKinds a_regLens a_regCodes a_nodeParent a_nodeRedo a_nodeLen a_nodeCur a_nodeMarks a_nodeText a_recCodes a_chKeys a_chText a_frameCodes a_frameLen a_framePos a_frameTimes a_frameLevel hT hG hN hF H => ?_, me_mkY fun post q a_text a_marks a_info a_held a_strips a_size a_kind a_dueKey a_dueLevel hT hG hN hQ H => ?_⟩)
    · refine ⟨vp_in_nI (by omega) (by omega), ?_⟩
      rw [nI_clamp (by omega), (hN now n3).2.1, ej]
      refine br_t (nI_pos' (by omega)) (xe_times hk1 hk2 ⟨me_nt k1 k2 + 1, ?_⟩)
      exact xe_redo_21 a2 a4 hnt.2 hIN' hN (fun a' m' hT' => H _ (me_inX hT' hG hN hF)) (me_nt k1 k2) 0 now (t, len, cur, mks) a_text a_marks (by omega) n3 rfl hT
    · unfold wpY_walk
      refine ye_nodeInfo (w := 1) n3 (by omega) (by omega) ?_
      rw [(hN now n3).2.1]
      refine br_t ?_ ⟨me_nt k1 k2 + 1, ?_⟩
      · rw [ej]; exact nI_pos' (by omega)
      · exact ye_walk_19 (w := 1) a2 a4 hnt.2 (by omega) hIN' hf (fun k hk => (hN k hk).2.1) hN (fun a' m' hT' => H _ (me_inY hT' hG hN hQ)) (me_nt k1 k2) 0 now (t, len, cur, mks) a_text a_marks (by omega) n3 rfl hT
end
end
section
/-! the end of a recording; the key x -/
def me_er (c : me_CC) (r : Nat) : me_CC := match c with
  | (tcap, ncap, lvs, t, len, cur, mks, kd, sz, st, cnt, now, par, rd, nt, nl, nc, nm, reg, k1, op, k2, wt, ss, cp, rr, cr, cc, fr, kl, tk) => (tcap, ncap, lvs, t, len, cur, mks, me_set kd r (if sz 4 = 0 then 0 else 1), me_set (me_set sz r (sz 4)) 4 0, me_set st r (st 4), cnt, now, par, rd, nt, nl, nc, nm, reg, k1, op, k2, wt, ss, cp, none, cr, cc, fr, kl, tk)
section
variable {f_textCap f_nodeCap f_levels f_len f_cur f_nodeCount f_node f_reg f_c1 f_op f_c2 f_waiting f_sessionStart f_copies f_recReg f_recLen f_chKeyLen f_chTextLen f_chReg f_chCount f_depth f_keyLevel f_spanFrom f_spanTo f_spanTextEnd f_spanKind : Int32} {a_text a_marks a_regKinds a_regLens a_regCodes a_nodeParent a_nodeRedo a_nodeLen a_nodeCur a_nodeMarks a_nodeText a_recCodes a_chKeys a_chText a_frameCodes a_frameLen a_framePos a_frameTimes a_frameLevel : Nat → Int32}
theorem xe_recordKey_59 {post : Int32 → SX → Prop} {r n : Nat} (hr : r < 4) (hn : n ≤ 32) (H : wpX_done (fun r u => post r u) (f_textCap, f_nodeCap, f_levels, f_len, f_cur, f_nodeCount, f_node, f_reg, f_c1, f_op, f_c2, f_waiting, f_sessionStart, f_copies, -1, 0, f_chKeyLen, f_chTextLen, f_chReg, f_chCount, f_depth, f_keyLevel, f_spanFrom, f_spanTo, f_spanTextEnd, f_spanKind, a_text, a_marks, a_regKinds, a_regLens, me_cp a_regCodes (r * 32) n a_recCodes, a_nodeParent, a_nodeRedo, a_nodeLen, a_nodeCur, a_nodeMarks, a_nodeText, a_recCodes, a_chKeys, a_chText, a_frameCodes, a_frameLen, a_framePos, a_frameTimes, a_frameLevel)) :
    ∀ d i : Nat, i + d = n → wX_recordKey_59 post f_textCap f_nodeCap f_levels f_len f_cur f_nodeCount f_node f_reg f_c1 f_op f_c2 f_waiting f_sessionStart f_copies (nI r) (nI n) f_chKeyLen f_chTextLen f_chReg f_chCount f_depth f_keyLevel f_spanFrom f_spanTo f_spanTextEnd f_spanKind (d + 1) (nI i) a_text a_marks a_regKinds a_regLens (me_cp a_regCodes (r * 32) i a_recCodes) a_nodeParent a_nodeRedo a_nodeLen a_nodeCur a_nodeMarks a_nodeText a_recCodes a_chKeys a_chText a_frameCodes a_frameLen a_framePos a_frameTimes a_frameLevel
  | 0, i, hd => by
    have : i = n := by omega
    subst this
    exact br_t (nI_le (by omega) (by omega)) H
  | d + 1, i, hd => by
    refine br_f (nI_ge (by omega) (by omega)) ⟨vp_in_nI (by omega) (by omega), pk_in (r * 32 + i) 128 (by omega) (me_ix32 _ _), nm_r ?_ (nm_r (nI_1 i) (xe_recordKey_59 hr hn H d (i + 1) (by omega)))⟩
    rw [pk_cl (r * 32 + i) (me_ix32 _ _), nI_clamp (by omega)]
    exact me_cp_s _ _ i _
end
section
variable {f_cap f_nodeCap f_levels f_len f_cur f_now f_nodeCount f_queued f_c1 f_op f_c2 f_waits f_copies f_recCount f_reg f_begin f_recording f_recReg : Int32} {a_text a_marks a_info a_held a_strips a_size a_kind a_dueKey a_dueLevel : Nat → Int32}
theorem ye_endRecording_12 {post : Int32 → SY → Prop} {r n : Nat} (hr : r < 4) (hn : n ≤ 32) (h4 : a_size 4 = nI n)
    (H : wY_endRecording_12 post 1 (nI n) f_cap f_nodeCap f_levels f_len f_cur f_now f_nodeCount f_queued f_c1 f_op f_c2 f_waits f_copies f_recCount f_reg f_begin (nI r) f_recReg a_text a_marks a_info a_held (me_cp a_strips (r * 32) n (fun i => a_strips (128 + i))) (upd a_size r (nI n)) a_kind a_dueKey a_dueLevel) :
    ∀ d i : Nat, i + d = n → wY_endRecording_12 post (d + 1) (nI i) f_cap f_nodeCap f_levels f_len f_cur f_now f_nodeCount f_queued f_c1 f_op f_c2 f_waits f_copies f_recCount f_reg f_begin (nI r) f_recReg a_text a_marks a_info a_held (me_cp a_strips (r * 32) i (fun i => a_strips (128 + i))) (upd a_size r (nI i)) a_kind a_dueKey a_dueLevel
  | 0, i, hd => by
    have : i = n := by omega
    subst this
    exact H
  | d + 1, i, hd => by
    have e : (128 : Int32) + nI i = nI (128 + i) := nI_add 128 i
    refine br_f ?_ ⟨pk_in (128 + i) 224 (by omega) e, ye_append (n := i) (by omega) pk_us (by omega) (nm_r (nI_1 i) ?_)⟩
    · rw [pk_un (by omega), h4]; exact nI_ge (by omega) (by omega)
    · rw [me_uu, pk_cl (128 + i) e, me_cp_out (by omega), me_cp_s (g := fun i => a_strips (128 + i))]
      exact ye_endRecording_12 hr hn h4 H d (i + 1) (by omega)
end
section
variable {tcap : Nat} {ncap : Nat} {lvs : Nat} {t : Nat → Int32} {len : Nat} {cur : Nat} {mks : Nat → Option Nat} {kd : Nat → Nat} {sz : Nat → Nat} {st : Nat → Nat → Int32} {cnt : Nat} {now : Nat} {par : Nat → Option Nat} {rd : Nat → Option Nat} {nt : Nat → Nat → Int32} {nl : Nat → Nat} {nc : Nat → Nat} {nm : Nat → Nat → Option Nat} {reg : Option Nat} {k1 : Nat} {op : Int32} {k2 : Nat} {wt : Int32} {ss : Option Nat} {cp : Nat} {rr : Option Nat} {cr : Option Nat} {cc : Nat} {fr : List (List Int32 × Nat × Nat × Nat)} {kl : Nat} {tk : Nat}
theorem me_inv_er {r : Nat} (I : me_Inv (tcap, ncap, lvs, t, len, cur, mks, kd, sz, st, cnt, now, par, rd, nt, nl, nc, nm, reg, k1, op, k2, wt, ss, cp, rr, cr, cc, fr, kl, tk)) (hr : r < 4) : me_Inv (me_er (tcap, ncap, lvs, t, len, cur, mks, kd, sz, st, cnt, now, par, rd, nt, nl, nc, nm, reg, k1, op, k2, wt, ss, cp, rr, cr, cc, fr, kl, tk) r) := by
  obtain ⟨hA, hT, ⟨g1, g2, g3, g4⟩, hN, hK, ⟨s1, s2, s3, s4, s5⟩, hF⟩ := I
  refine ⟨hA, hT, ⟨fun q hq => ?_, fun q hq => ?_, ?_, ?_⟩, hN, hK, ⟨s1, s2, fun q h => (by cases h), s4, s5⟩, hF⟩
  · rw [me_set_n (show q ≠ 4 by omega)]
    by_cases e : q = r
    · subst e
      rw [me_set_s, me_set_s]
      split
      · exact ⟨by omega, fun w => by omega⟩
      · exact ⟨by omega, fun _ => by omega⟩
    · rw [me_set_n e, me_set_n e]; exact g1 q hq
  · by_cases e4 : q = 4
    · subst e4; rw [me_set_s]; exact ⟨by omega, fun i hi => by omega⟩
    · rw [me_set_n e4]
      by_cases e : q = r
      · subst e; rw [me_set_s, me_set_s]; exact g2 4 (by omega)
      · rw [me_set_n e, me_set_n e]; exact g2 q hq
  · rw [me_set_n (by omega), me_set_n (by omega), me_set_n (by omega)]; exact g3
  · rw [me_set_n (by omega), me_set_n (by omega), me_set_n (by omega)]; exact g4
/-- the key q, pressed while a recording runs -/
theorem me_endRec {r : Nat} (I : me_Inv (tcap, ncap, lvs, t, len, cur, mks, kd, sz, st, cnt, now, par, rd, nt, nl, nc, nm, reg, k1, op, k2, wt, ss, cp, rr, cr, cc, fr, kl, tk)) (hrr : rr = some r) (hkl : kl = 0) :
    me_Cmd (tcap, ncap, lvs, t, len, cur, mks, kd, sz, st, cnt, now, par, rd, nt, nl, nc, nm, reg, k1, op, k2, wt, ss, cp, rr, cr, cc, fr, kl, tk) (fun c' => me_keep (tcap, ncap, lvs, t, len, cur, mks, kd, sz, st, cnt, now, par, rd, nt, nl, nc, nm, reg, k1, op, k2, wt, ss, cp, rr, cr, cc, fr, kl, tk) c') (fun post u => wpX_recordKey post u) (fun post v => wpY_endRecording post v) := by
  have I' := I
  obtain ⟨hA, hIT, ⟨g1, g2, g3, g4⟩, hIN, hIK, ⟨s1, s2, s3, s4, s5⟩, hIF⟩ := I
  have hr4 := s3 r hrr
  have h4 := (g2 4 (by omega)).1
  have hz7 : ∀ r, r < 7 → sz r ≤ 32 := fun r h => (g2 r h).1
  subst hrr hkl
  refine Or.inr (Or.inl ⟨me_er (tcap, ncap, lvs, t, len, cur, mks, kd, sz, st, cnt, now, par, rd, nt, nl, nc, nm, reg, k1, op, k2, wt, ss, cp, some r, cr, cc, fr, 0, tk) r, me_inv_er I' hr4, ⟨rfl, rfl⟩, me_mkX fun post f_spanFrom f_spanTo f_spanTextEnd f_spanKind a_text a_marks a_regKinds a_regLens a_regCodes a_nodeParent a_nodeRedo a_nodeLen a_nodeCur a_nodeMarks a_nodeText a_recCodes a_chKeys a_chText a_frameCodes a_frameLen a_framePos a_frameTimes a_frameLevel hT hG hN hF H => ?_, me_mkY fun post q a_text a_marks a_info a_held a_strips a_size a_kind a_dueKey a_dueLevel hT hG hN hQ H => ?_⟩)
  · have k43 : ∀ z : Int32, z = nI (if sz 4 = 0 then 0 else 1) → wX_recordKey_43 post z (nI r) (nI tcap) (nI ncap) (nI lvs) (nI len) (nI cur) (nI cnt) (nI now) (me_o reg) (nI k1) op (nI k2) wt (me_o ss) (nI cp) (nI r) (nI (sz 4)) (nI (sz 5)) (nI (sz 6)) (me_o cr) (nI cc) (nI fr.length) 0 f_spanFrom f_spanTo f_spanTextEnd f_spanKind a_text a_marks a_regKinds a_regLens a_regCodes a_nodeParent a_nodeRedo a_nodeLen a_nodeCur a_nodeMarks a_nodeText a_recCodes a_chKeys a_chText a_frameCodes a_frameLen a_framePos a_frameTimes a_frameLevel := by
      intro z hz
      subst hz
      have v : vp_in (nI r) 4 := vp_in_nI hr4 (by omega)
      refine ⟨v, nm_r (by rw [nI_clamp (by omega)]) ⟨v, nm_r (by rw [nI_clamp (by omega)]) ⟨sz 4 + 1, ?_⟩⟩⟩
      have := fun H' => xe_recordKey_59 (post := post) (f_textCap := nI tcap) (f_nodeCap := nI ncap) (f_levels := nI lvs) (f_len := nI len) (f_cur := nI cur) (f_nodeCount := nI cnt) (f_node := nI now) (f_reg := me_o reg) (f_c1 := nI k1) (f_op := op) (f_c2 := nI k2) (f_waiting := wt) (f_sessionStart := me_o ss) (f_copies := nI cp) (f_chKeyLen := nI (sz 5)) (f_chTextLen := nI (sz 6)) (f_chReg := me_o cr) (f_chCount := nI cc) (f_depth := nI fr.length) (f_keyLevel := 0) (f_spanFrom := f_spanFrom) (f_spanTo := f_spanTo) (f_spanTextEnd := f_spanTextEnd) (f_spanKind := f_spanKind) (a_text := a_text) (a_marks := a_marks) (a_regKinds := upd a_regKinds r (nI (if sz 4 = 0 then 0 else 1))) (a_regLens := upd a_regLens r (nI (sz 4))) (a_regCodes := a_regCodes) (a_nodeParent := a_nodeParent) (a_nodeRedo := a_nodeRedo) (a_nodeLen := a_nodeLen) (a_nodeCur := a_nodeCur) (a_nodeMarks := a_nodeMarks) (a_nodeText := a_nodeText) (a_recCodes := a_recCodes) (a_chKeys := a_chKeys) (a_chText := a_chText) (a_frameCodes := a_frameCodes) (a_frameLen := a_frameLen) (a_framePos := a_framePos) (a_frameTimes := a_frameTimes) (a_frameLevel := a_frameLevel) hr4 h4 H' (sz 4) 0 (by omega)
      rw [me_cp_0] at this
      refine this (H _ (me_inX' ?_ ?_ ?_ hT ?_ hN hF))
      · rw [me_set_s]; rfl
      · rw [me_set_n (by omega), me_set_n (by omega)]
      · rw [me_set_n (by omega), me_set_n (by omega)]
      · have hG2 := me_GX_fill (r := r) (n := sz 4) (k := if sz 4 = 0 then 0 else 1) (g := st 4) (g' := a_recCodes) hG hz7 hr4 h4 hG.2.1
        refine ⟨fun q hq => ?_, ?_, ?_, ?_⟩
        · rw [me_set_n (show q ≠ 4 by omega)]; exact hG2.1 q hq
        · rw [me_set_s]; intro i hi; omega
        · rw [me_set_n (show (5 : Nat) ≠ 4 by omega)]; exact hG2.2.2.1
        · rw [me_set_n (show (6 : Nat) ≠ 4 by omega)]; exact hG2.2.2.2
    refine br_t rfl (br_t (nI_pos' (by omega)) (pk_le (sz 4) 0 (fun e => k43 0 ?_) (fun e => k43 1 ?_)))
    · rw [if_pos (by omega)]; rfl
    · rw [if_neg (by omega)]; rfl
  · have h4s := (hG.1 4 (by omega)).1
    refine ⟨vp_in_nI (by omega) (by omega), nm_r (by rw [me_o_some, nI_clamp (by omega)]) ⟨sz 4 + 1, ?_⟩⟩
    have k12 := fun H' => ye_endRecording_12 (post := post) (f_cap := nI tcap) (f_nodeCap := nI ncap) (f_levels := nI lvs) (f_len := nI len) (f_cur := nI cur) (f_now := nI now) (f_nodeCount := nI cnt) (f_queued := nI q) (f_c1 := nI k1) (f_op := op) (f_c2 := nI k2) (f_waits := wt) (f_copies := nI cp) (f_recCount := nI cc) (f_reg := me_o reg) (f_begin := me_o ss) (f_recReg := me_o cr) (a_text := a_text) (a_marks := a_marks) (a_info := a_info) (a_held := a_held) (a_strips := a_strips) (a_size := a_size) (a_kind := a_kind) (a_dueKey := a_dueKey) (a_dueLevel := a_dueLevel) hr4 h4 h4s H' (sz 4) 0 (by omega)
    rw [me_cp_0] at k12
    refine k12 ?_
    have k68 : ∀ z : Int32, z = nI (if sz 4 = 0 then 0 else 1) → wY_endRecording_68 post z (nI r) (nI tcap) (nI ncap) (nI lvs) (nI len) (nI cur) (nI now) (nI cnt) (nI q) (nI k1) op (nI k2) wt (nI cp) (nI cc) (me_o reg) (me_o ss) (nI r) (me_o cr) a_text a_marks a_info a_held (me_cp a_strips (r * 32) (sz 4) (fun i => a_strips (128 + i))) (upd a_size r (nI (sz 4))) a_kind a_dueKey a_dueLevel := by
      intro z hz
      subst hz
      refine ⟨vp_in_nI hr4 (by omega), nm_r (by rw [nI_clamp (by omega)]) (nm_e (H _ (me_inY hT ?_ hN hQ)))⟩
      have hG2 := me_GY_kind (r := r) (k := if sz 4 = 0 then 0 else 1) (me_GY_copy (r := r) (n := sz 4) (g := st 4) (g' := fun i => a_strips (128 + i)) hG hz7 (by omega) h4 (fun i hi => (hG.1 4 (by omega)).2 i hi))
      refine ⟨fun q hq => ?_, hG2.2⟩
      by_cases e4 : q = 4
      · subst e4
        rw [me_set_s, pk_us]
        exact ⟨rfl, fun i hi => by omega⟩
      · rw [me_set_n e4, pk_un e4]; exact hG2.1 q hq
    refine br_t ?_ ?_
    · rw [pk_un (by omega), h4s]; exact nI_le (by omega) (by omega)
    · rw [pk_un (show (4 : Nat) ≠ r by omega), h4s]
      refine pk_le (sz 4) 0 (fun e => k68 0 ?_) (fun e => k68 1 ?_)
      · rw [if_pos (by omega)]; rfl
      · rw [if_neg (by omega)]; rfl
end
end
section
/-! the key x -/
def me_s5 (c : me_CC) (n : Nat) (f : Nat → Int32) : me_CC := match c with
  | (tcap, ncap, lvs, t, len, cur, mks, kd, sz, st, cnt, now, par, rd, nt, nl, nc, nm, reg, k1, op, k2, wt, ss, cp, rr, cr, cc, fr, kl, tk) => (tcap, ncap, lvs, t, len, cur, mks, kd, me_set sz 5 n, me_set st 5 f, cnt, now, par, rd, nt, nl, nc, nm, reg, k1, op, k2, wt, ss, cp, rr, cr, cc, fr, kl, tk)
def me_w279 (key x3 : Int32) (post : Int32 → SY → Prop) (v : SY) : Prop := match v with
  | (f_cap, f_nodeCap, f_levels, f_len, f_cur, f_now, f_nodeCount, f_queued, f_c1, f_op, f_c2, f_waits, f_copies, f_recCount, f_reg, f_begin, f_recording, f_recReg, a_text, a_marks, a_info, a_held, a_strips, a_size, a_kind, a_dueKey, a_dueLevel) => wY_command_279 post key x3 f_cap f_nodeCap f_levels f_len f_cur f_now f_nodeCount f_queued f_c1 f_op f_c2 f_waits f_copies f_recCount f_reg f_begin f_recording f_recReg a_text a_marks a_info a_held a_strips a_size a_kind a_dueKey a_dueLevel
def me_pt (v : SY) : SY := match v with
  | (f_cap, f_nodeCap, f_levels, f_len, f_cur, f_now, f_nodeCount, f_queued, f_c1, f_op, f_c2, f_waits, f_copies, f_recCount, f_reg, f_begin, f_recording, f_recReg, a_text, a_marks, a_info, a_held, a_strips, a_size, a_kind, a_dueKey, a_dueLevel) => (f_cap, f_nodeCap, f_levels, f_len, f_cur, f_now, f_nodeCount, f_queued, f_c1, f_op, f_c2, f_waits, f_copies, f_recCount, f_reg, f_begin, f_recording, f_recReg, a_text, a_marks, a_info, a_held, upd a_strips 160 120, upd a_size 5 1, a_kind, a_dueKey, a_dueLevel)
theorem me_cm_s5 (c : me_CC) (n : Nat) (f : Nat → Int32) : me_cm (me_s5 c n f) = me_s5 (me_cm c) n f := by
  refine me_tupC (P := fun c => me_cm (me_s5 c n f) = me_s5 (me_cm c) n f) ?_ c
  intro tcap ncap lvs t len cur mks kd sz st cnt now par rd nt nl nc nm reg k1 op k2 wt ss cp rr cr cc fr kl tk
  by_cases h : ncap ≤ cnt ∨ (len = nl now ∧ ∀ i, i < len → t i = nt now i)
  · rw [me_cm_t h]
    exact me_cm_t h
  · rw [me_cm_f h]
    exact me_cm_f h
theorem me_set_sw {α : Type} (f : Nat → α) (v w x : α) : me_set (me_set (me_set f 5 v) 6 w) 5 x = me_set (me_set f 5 x) 6 w := by
  funext j
  unfold me_set
  by_cases h : j = 5
  · rw [if_pos h, if_neg (by omega), if_pos h]
  · rw [if_neg h]
    by_cases h6 : j = 6
    · rw [if_pos h6, if_pos h6]
    · rw [if_neg h6, if_neg h6, if_neg h, if_neg h]
theorem me_pt_R {c : me_CC} {v : SY} (I : me_Inv c) (R : me_RY c v) : me_RY (me_s5 c 1 (me_k3 120 0 0)) (me_pt v) := by
  revert I R
  refine me_tupC (P := fun c => me_Inv c → me_RY c v → me_RY (me_s5 c 1 (me_k3 120 0 0)) (me_pt v)) ?_ c
  intro tcap ncap lvs t len cur mks kd sz st cnt now par rd nt nl nc nm reg k1 op k2 wt ss cp rr cr cc fr kl tk I R
  refine me_elY (P := fun v => me_RY (me_s5 (tcap, ncap, lvs, t, len, cur, mks, kd, sz, st, cnt, now, par, rd, nt, nl, nc, nm, reg, k1, op, k2, wt, ss, cp, rr, cr, cc, fr, kl, tk) 1 (me_k3 120 0 0)) (me_pt v)) R ?_
  intro q a_text a_marks a_info a_held a_strips a_size a_kind a_dueKey a_dueLevel hT hG hN hQ
  refine me_inY hT ⟨fun r hr => ?_, hG.2⟩ hN hQ
  have hz := (I.2.2.1.2.1 r hr).1
  by_cases e : r = 5
  · subst e
    rw [me_set_s, me_set_s, pk_us]
    refine ⟨rfl, fun i hi => ?_⟩
    have : i = 0 := by omega
    subst this
    exact pk_us
  · rw [me_set_n e, me_set_n e, pk_un e]
    refine ⟨(hG.1 r hr).1, fun i hi => ?_⟩
    rw [pk_un (by omega)]
    exact (hG.1 r hr).2 i hi
section
variable {tcap : Nat} {ncap : Nat} {lvs : Nat} {t : Nat → Int32} {len : Nat} {cur : Nat} {mks : Nat → Option Nat} {kd : Nat → Nat} {sz : Nat → Nat} {st : Nat → Nat → Int32} {cnt : Nat} {now : Nat} {par : Nat → Option Nat} {rd : Nat → Option Nat} {nt : Nat → Nat → Int32} {nl : Nat → Nat} {nc : Nat → Nat} {nm : Nat → Nat → Option Nat} {reg : Option Nat} {k1 : Nat} {op : Int32} {k2 : Nat} {wt : Int32} {ss : Option Nat} {cp : Nat} {rr : Option Nat} {cr : Option Nat} {cc : Nat} {fr : List (List Int32 × Nat × Nat × Nat)} {kl : Nat} {tk : Nat}
theorem me_dd_s5 {kk s e e2 : Nat} : me_s5 (me_dd (tcap, ncap, lvs, t, len, cur, mks, kd, sz, st, cnt, now, par, rd, nt, nl, nc, nm, reg, k1, op, k2, wt, ss, cp, rr, cr, cc, fr, kl, tk) 100 108 0 kk s e e2) 1 (me_k3 120 0 0) = me_dd (tcap, ncap, lvs, t, len, cur, mks, kd, sz, st, cnt, now, par, rd, nt, nl, nc, nm, reg, k1, op, k2, wt, ss, cp, rr, cr, cc, fr, kl, tk) 120 0 0 kk s e e2 := by
  have e1 : me_set (me_set (me_set (me_f2 reg sz (e2 - s)) 5 (me_k3n 108 0)) 6 0) 5 1 = me_set (me_set (me_f2 reg sz (e2 - s)) 5 (me_k3n 0 0)) 6 0 := me_set_sw _ _ _ _
  have e2' : me_set (me_set (me_f2 reg st (fun i => t (s + i))) 5 (me_k3 100 108 0)) 5 (me_k3 120 0 0) = me_set (me_f2 reg st (fun i => t (s + i))) 5 (me_k3 120 0 0) := me_set_set _ _ _ _
  show (tcap, ncap, lvs, me_cut t s e, len - (e - s), s, me_cutm mks s e, me_f2 reg kd kk, me_set (me_set (me_set (me_f2 reg sz (e2 - s)) 5 (me_k3n 108 0)) 6 0) 5 1, me_set (me_set (me_f2 reg st (fun i => t (s + i))) 5 (me_k3 100 108 0)) 5 (me_k3 120 0 0), cnt, now, par, rd, nt, nl, nc, nm, reg, k1, op, k2, wt, ss, cp, rr, reg, me_ncc k1 k2, fr, kl, tk) = _
  rw [e1, e2']
  rfl
theorem me_dd_drop {a b d x : Int32} {kk s e e2 : Nat} : me_drop (me_dd (tcap, ncap, lvs, t, len, cur, mks, kd, sz, st, cnt, now, par, rd, nt, nl, nc, nm, reg, k1, x, k2, wt, ss, cp, rr, cr, cc, fr, kl, tk) a b d kk s e e2) = me_drop (me_dd (tcap, ncap, lvs, t, len, cur, mks, kd, sz, st, cnt, now, par, rd, nt, nl, nc, nm, reg, k1, op, k2, wt, ss, cp, rr, cr, cc, fr, kl, tk) a b d kk s e e2) := by
  unfold me_dd me_drop
  rfl
theorem me_drop_op {x : Int32} : me_drop (tcap, ncap, lvs, t, len, cur, mks, kd, sz, st, cnt, now, par, rd, nt, nl, nc, nm, reg, k1, x, k2, wt, ss, cp, rr, cr, cc, fr, kl, tk) = me_drop (tcap, ncap, lvs, t, len, cur, mks, kd, sz, st, cnt, now, par, rd, nt, nl, nc, nm, reg, k1, op, k2, wt, ss, cp, rr, cr, cc, fr, kl, tk) := by
  unfold me_drop
  rfl
theorem me_cutx {x3 : Int32} (I : me_Inv (tcap, ncap, lvs, t, len, cur, mks, kd, sz, st, cnt, now, par, rd, nt, nl, nc, nm, reg, k1, op, k2, wt, ss, cp, rr, cr, cc, fr, kl, tk)) (hss : ss = none) (ho : op = 0) :
    me_Cmd (tcap, ncap, lvs, t, len, cur, mks, kd, sz, st, cnt, now, par, rd, nt, nl, nc, nm, reg, k1, op, k2, wt, ss, cp, rr, cr, cc, fr, kl, tk) (fun c' => me_keep (tcap, ncap, lvs, t, len, cur, mks, kd, sz, st, cnt, now, par, rd, nt, nl, nc, nm, reg, k1, op, k2, wt, ss, cp, rr, cr, cc, fr, kl, tk) c') (fun post u => wpX_cutRight post u) (fun post v => me_w279 120 x3 post v) := by
  have I' := I
  obtain ⟨⟨a1, a2, a3, a4, a5, a6⟩, ⟨t1, t2, t3, t4⟩, hIG, ⟨n1, n2, n3, n4⟩, ⟨hr, hk1, hk2, _, hwt, hwo⟩, hIS, hIF⟩ := I
  have I100 : me_Inv (tcap, ncap, lvs, t, len, cur, mks, kd, sz, st, cnt, now, par, rd, nt, nl, nc, nm, reg, k1, 100, k2, wt, ss, cp, rr, cr, cc, fr, kl, tk) := ⟨I'.1, I'.2.1, I'.2.2.1, I'.2.2.2.1, ⟨hr, hk1, hk2, Or.inr (Or.inr (Or.inl rfl)), hwt, fun _ => by decide⟩, I'.2.2.2.2.2⟩
  have hnt := me_nt_b k1 k2
  have hle := me_le_b (t := t) t2
  obtain ⟨p, hpe, hp1, hp2⟩ : ∃ p, p = (if me_le t len cur ≤ cur + me_nt k1 k2 then me_le t len cur else cur + me_nt k1 k2) ∧ cur ≤ p ∧ p ≤ len := by
    refine ⟨_, rfl, ?_, ?_⟩
    · split <;> omega
    · split <;> omega
  have gX := (me_tg_l (operand := 0) I').2.2.1
  have gY := (me_tg_l (operand := 0) I100).2.2.2
  rw [← hpe] at gX gY
  have hCH : me_CH (me_k3n 0 0) (me_k3 120 0 0) := Or.inr (Or.inl ⟨rfl, Or.inl rfl⟩)
  have hv : ∀ i, i < me_k3n 0 0 → me_vk (me_k3 120 0 0 i) := fun i hi => by
    have h1 : me_k3n 0 0 = 1 := rfl
    have : i = 0 := by omega
    subst this
    exact ⟨120, rfl, by omega, by omega⟩
  have kY : ∀ (F : Int32 → SY → Prop) (q : Nat) (a_text a_marks a_info a_held a_strips a_size a_kind a_dueKey a_dueLevel : Nat → Int32), me_TX t len mks a_text a_marks → wY_move_170 F 108 0 0 (nI cur) (nI p) (nI p) (nI tcap) (nI ncap) (nI lvs) (nI len) (nI cur) (nI now) (nI cnt) (nI q) (nI k1) 100 (nI k2) wt (nI cp) (nI cc) (me_o reg) (me_o ss) (me_o rr) (me_o cr) a_text a_marks a_info a_held a_strips a_size a_kind a_dueKey a_dueLevel → wpY_move F (nI tcap, nI ncap, nI lvs, nI len, nI cur, nI now, nI cnt, nI q, nI k1, 100, nI k2, wt, nI cp, nI cc, me_o reg, me_o ss, me_o rr, me_o cr, a_text, a_marks, a_info, a_held, a_strips, a_size, a_kind, a_dueKey, a_dueLevel) 108 0 := by
    intro F q a_text a_marks a_info a_held a_strips a_size a_kind a_dueKey a_dueLevel hT H
    refine gY _ a_text a_marks a_info a_held a_strips a_size a_kind a_dueKey a_dueLevel _ hT (br_t (nI_pos' (by omega)) (br_f (by decide) (br_f (by decide) (br_f (by decide) (br_f (by decide) ?_)))))
    have k101 : wY_move_101 F 108 0 (nI p) 0 (nI cur) (nI p) (nI tcap) (nI ncap) (nI lvs) (nI len) (nI cur) (nI now) (nI cnt) (nI q) (nI k1) 100 (nI k2) wt (nI cp) (nI cc) (me_o reg) (me_o ss) (me_o rr) (me_o cr) a_text a_marks a_info a_held a_strips a_size a_kind a_dueKey a_dueLevel := br_f (by decide) (br_t rfl (br_t rfl H))
    have k70 : wY_move_70 F 108 0 (nI p) 0 (nI cur) (nI tcap) (nI ncap) (nI lvs) (nI len) (nI cur) (nI now) (nI cnt) (nI q) (nI k1) 100 (nI k2) wt (nI cp) (nI cc) (me_o reg) (me_o ss) (me_o rr) (me_o cr) a_text a_marks a_info a_held a_strips a_size a_kind a_dueKey a_dueLevel := pk_le p cur (fun h => br_f (by decide) (by rw [show cur = p by omega] at k101 ⊢; exact k101)) (fun h => br_f (by decide) k101)
    exact pk_le p cur (fun h => by rw [show p = cur by omega] at k70 ⊢; exact k70) (fun h => k70)
  have kX : ∀ (post : Int32 → SX → Prop) (f_spanFrom f_spanTo f_spanTextEnd f_spanKind : Int32) (a_text a_marks a_regKinds a_regLens a_regCodes a_nodeParent a_nodeRedo a_nodeLen a_nodeCur a_nodeMarks a_nodeText a_recCodes a_chKeys a_chText a_frameCodes a_frameLen a_framePos a_frameTimes a_frameLevel : Nat → Int32), me_TX t len mks a_text a_marks → (∀ post' : Int32 → SX → Prop, (∀ r u, post r u → post' r u) → wpX_applyOperator post' (nI tcap, nI ncap, nI lvs, nI len, nI cur, nI cnt, nI now, me_o reg, nI k1, op, nI k2, wt, me_o ss, nI cp, me_o rr, nI (sz 4), nI (sz 5), nI (sz 6), me_o cr, nI cc, nI fr.length, nI kl, nI cur, nI p, nI p, nI 1, a_text, a_marks, a_regKinds, a_regLens, a_regCodes, a_nodeParent, a_nodeRedo, a_nodeLen, a_nodeCur, a_nodeMarks, a_nodeText, a_recCodes, a_chKeys, a_chText, a_frameCodes, a_frameLen, a_framePos, a_frameTimes, a_frameLevel) 100 120 0 0) → wpX_cutRight post (nI tcap, nI ncap, nI lvs, nI len, nI cur, nI cnt, nI now, me_o reg, nI k1, op, nI k2, wt, me_o ss, nI cp, me_o rr, nI (sz 4), nI (sz 5), nI (sz 6), me_o cr, nI cc, nI fr.length, nI kl, f_spanFrom, f_spanTo, f_spanTextEnd, f_spanKind, a_text, a_marks, a_regKinds, a_regLens, a_regCodes, a_nodeParent, a_nodeRedo, a_nodeLen, a_nodeCur, a_nodeMarks, a_nodeText, a_recCodes, a_chKeys, a_chText, a_frameCodes, a_frameLen, a_framePos, a_frameTimes, a_frameLevel) := by
    intro post f_spanFrom f_spanTo f_spanTextEnd f_spanKind a_text a_marks a_regKinds a_regLens a_regCodes a_nodeParent a_nodeRedo a_nodeLen a_nodeCur a_nodeMarks a_nodeText a_recCodes a_chKeys a_chText a_frameCodes a_frameLen a_framePos a_frameTimes a_frameLevel hT H
    refine gX _ _ _ _ a_text a_marks a_regKinds a_regLens a_regCodes a_nodeParent a_nodeRedo a_nodeLen a_nodeCur a_nodeMarks a_nodeText a_recCodes a_chKeys a_chText a_frameCodes a_frameLen a_framePos a_frameTimes a_frameLevel _ hT (xe_setCharSpan (by omega) (by omega) ?_)
    have e1 : (if p ≤ cur then p else cur) = cur := by split <;> omega
    have e2 : (if p ≤ cur then cur else p) = p := by split <;> omega
    rw [e1, e2]
    exact H _ (me_impX fun _ _ _ _ _ _ _ _ _ _ _ _ _ _ _ _ _ _ _ _ _ _ _ _ _ _ _ _ _ _ _ _ _ _ _ _ _ _ _ _ _ _ _ _ _ _ h => h)
  by_cases hf : cur = p ∨ ncap ≤ cnt
  · refine Or.inr (Or.inr ⟨me_mkX fun post f_spanFrom f_spanTo f_spanTextEnd f_spanKind a_text a_marks a_regKinds a_regLens a_regCodes a_nodeParent a_nodeRedo a_nodeLen a_nodeCur a_nodeMarks a_nodeText a_recCodes a_chKeys a_chText a_frameCodes a_frameLen a_framePos a_frameTimes a_frameLevel hT hG hN hF H => kX post _ _ _ _ a_text a_marks a_regKinds a_regLens a_regCodes a_nodeParent a_nodeRedo a_nodeLen a_nodeCur a_nodeMarks a_nodeText a_recCodes a_chKeys a_chText a_frameCodes a_frameLen a_framePos a_frameTimes a_frameLevel hT (fun post' imp => ?_), (tcap, ncap, lvs, t, len, cur, mks, kd, sz, st, cnt, now, par, rd, nt, nl, nc, nm, reg, k1, 100, k2, wt, ss, cp, rr, cr, cc, fr, kl, tk), me_drop_op, me_mkY fun post q a_text a_marks a_info a_held a_strips a_size a_kind a_dueKey a_dueLevel hT hG hN hQ H => ?_⟩)
    · have R := imp _ _ (H _ (me_inX (f_spanFrom := nI cur) (f_spanTo := nI p) (f_spanTextEnd := nI p) (f_spanKind := nI 1) hT hG hN hF))
      by_cases e1 : cur = p
      · rw [← e1] at R ⊢
        exact br_t rfl R
      · exact br_f (fun q => e1 ((nI_eq (by omega) (by omega)).mp q)) (br_f (by decide) (br_f (nI_nlt (hf.resolve_left e1) (by omega)) R))
    · refine br_f (by decide) (br_f (by decide) (br_f (by decide) (br_f (by decide) (br_t rfl (kY _ q a_text a_marks a_info a_held a_strips a_size a_kind a_dueKey a_dueLevel hT ?_)))))
      have R := H _ (me_inY hT hG hN hQ)
      refine br_f (nI_pos (by omega)) ?_
      by_cases e1 : cur = p
      · rw [← e1]
        exact br_t rfl (br_f (by decide) R)
      · exact br_f (fun q => e1 ((nI_eq (by omega) (by omega)).mp q)) (br_f (by decide) (br_f (nI_nlt (hf.resolve_left e1) (by omega)) (br_f (by decide) R)))
  · have hcp : cur < p := by
      have : cur ≠ p := fun q => hf (Or.inl q)
      omega
    have hc : cnt < ncap := by
      by_cases w : ncap ≤ cnt
      · exact absurd (Or.inr w) hf
      · omega
    have hD := me_inv_dd (a := 120) (b := 0) (d := 0) (kk := 1) (s := cur) (e := p) (e2 := p) I' hss hp1 hp2 hp1 hp2 (by omega) (fun _ => hcp) hCH hv
    have hDx := me_inv_dd (a := 120) (b := 0) (d := 0) (kk := 1) (s := cur) (e := p) (e2 := p) I100 hss hp1 hp2 hp1 hp2 (by omega) (fun _ => hcp) hCH hv
    have hD1 := me_inv_dd (a := 100) (b := 108) (d := 0) (kk := 1) (s := cur) (e := p) (e2 := p) I100 hss hp1 hp2 hp1 hp2 (by omega) (fun _ => hcp) (Or.inr (Or.inr (Or.inl ⟨rfl, Or.inl rfl, Or.inl (Or.inr (Or.inl rfl))⟩))) (fun i hi => by
      have h1 : me_k3n 108 0 = 2 := rfl
      have : i = 0 ∨ i = 1 := by omega
      rcases this with rfl | rfl
      · exact ⟨100, rfl, by omega, by omega⟩
      · exact ⟨108, rfl, by omega, by omega⟩)
    refine Or.inr (Or.inl ⟨me_cm (me_dd (tcap, ncap, lvs, t, len, cur, mks, kd, sz, st, cnt, now, par, rd, nt, nl, nc, nm, reg, k1, 100, k2, wt, ss, cp, rr, cr, cc, fr, kl, tk) 120 0 0 1 cur p p), me_inv_cm hDx, me_keep_cm (by unfold me_keep me_fr me_tk me_dd; exact ⟨rfl, rfl⟩), me_mkX fun post f_spanFrom f_spanTo f_spanTextEnd f_spanKind a_text a_marks a_regKinds a_regLens a_regCodes a_nodeParent a_nodeRedo a_nodeLen a_nodeCur a_nodeMarks a_nodeText a_recCodes a_chKeys a_chText a_frameCodes a_frameLen a_framePos a_frameTimes a_frameLevel hT hG hN hF H => kX post _ _ _ _ a_text a_marks a_regKinds a_regLens a_regCodes a_nodeParent a_nodeRedo a_nodeLen a_nodeCur a_nodeMarks a_nodeText a_recCodes a_chKeys a_chText a_frameCodes a_frameLen a_framePos a_frameTimes a_frameLevel hT (fun post' imp => ?_), me_mkY fun post q a_text a_marks a_info a_held a_strips a_size a_kind a_dueKey a_dueLevel hT hG hN hQ H => ?_⟩)
    · refine xe_apply I' hT hG hN hF hcp hp2 hp1 hp2 (Or.inr ⟨Or.inl rfl, hc⟩) (fun _ => hD) (fun u' R' => imp _ _ (H u' ?_))
      rw [me_app, if_neg (by decide), if_pos rfl, ← me_cm_drop] at R'
      rw [← me_cm_drop, me_dd_drop]
      exact R'
    · refine br_f (by decide) (br_f (by decide) (br_f (by decide) (br_f (by decide) (br_t rfl (kY _ q a_text a_marks a_info a_held a_strips a_size a_kind a_dueKey a_dueLevel hT ?_)))))
      refine ye_apply I100 hT hG hN hQ hcp hp2 hp1 hp2 (Or.inr ⟨Or.inl rfl, hc⟩) (Or.inl ⟨rfl, rfl⟩) (fun _ => rfl) (fun _ => hD1) (me_allY fun f_cap f_nodeCap f_levels f_len f_cur f_now f_nodeCount f_queued f_c1 f_op f_c2 f_waits f_copies f_recCount f_reg f_begin f_recording f_recReg a_text a_marks a_info a_held a_strips a_size a_kind a_dueKey a_dueLevel R' => br_t rfl (nm_e (nm_e (H _ ?_))))
      rw [me_app, if_neg (by decide), if_pos rfl] at R'
      have R2 := me_pt_R (c := me_cm (me_dd (tcap, ncap, lvs, t, len, cur, mks, kd, sz, st, cnt, now, par, rd, nt, nl, nc, nm, reg, k1, 100, k2, wt, ss, cp, rr, cr, cc, fr, kl, tk) 100 108 0 1 cur p p)) (me_inv_cm hD1) R'
      rw [← me_cm_s5, me_dd_s5] at R2
      exact R2
end
end
section
/-! frames and the queue of due keys -/
def me_lst (n : Nat) (g : Nat → Int32) : List Int32 := (List.range n).map g
theorem me_lst_len (n : Nat) (g : Nat → Int32) : (me_lst n g).length = n := by
  unfold me_lst
  rw [List.length_map, List.length_range]
theorem me_lst_get {n i : Nat} (g : Nat → Int32) (h : i < n) : (me_lst n g).getD i 0 = g i := by
  unfold me_lst
  rw [List.getD_eq_getElem?_getD, List.getElem?_map, List.getElem?_range h]
  rfl
theorem me_lst_mem {n : Nat} {g : Nat → Int32} {x : Int32} (h : x ∈ me_lst n g) : ∃ i, i < n ∧ x = g i := by
  unfold me_lst at h
  obtain ⟨i, hi, e⟩ := List.mem_map.mp h
  exact ⟨i, List.mem_range.mp hi, e.symm⟩
theorem me_lst_drop {n i : Nat} (g : Nat → Int32) (h : i < n) : (me_lst n g).drop i = g i :: (me_lst n g).drop (i + 1) := by
  have hl := me_lst_len n g
  rw [List.drop_eq_getElem_cons (by omega)]
  have := me_lst_get g h
  rw [List.getD_eq_getElem?_getD, List.getElem?_eq_getElem (by omega)] at this
  exact congrArg (· :: _) this
theorem me_lst_congr {n : Nat} {g g' : Nat → Int32} (h : ∀ i, i < n → g i = g' i) : me_lst n g = me_lst n g' := by
  unfold me_lst
  exact List.map_congr_left (fun i hi => h i (List.mem_range.mp hi))
theorem me_getD_cons {α : Type} (x : α) (l : List α) (d : α) (i : Nat) : (x :: l).getD i d = if i = 0 then x else l.getD (i - 1) d := by
  cases i with
  | zero => rfl
  | succ i => rfl
theorem me_QY_push {pn : List (Int32 × Nat)} {tk q q' lv : Nat} {key : Int32} {DK DL DK' DL' : Nat → Int32} (h : me_QY pn tk q DK DL) (hq : (q < 65 ∧ q' = q + 1) ∨ (q = 65 ∧ q' = 65)) (h1 : ∀ i, i < q' → DK' i = if i = 0 then key else DK (i - 1)) (h2 : ∀ i, i < q' → DL' i = if i = 0 then nI lv else DL (i - 1)) : me_QY ((key, lv) :: pn) tk q' DK' DL' := by
  obtain ⟨a, b, c, d⟩ := h
  refine ⟨by omega, by rw [List.length_cons]; omega, by rw [List.length_cons]; omega, fun i hi => ?_⟩
  rw [me_getD_cons, h1 i hi, h2 i hi]
  by_cases e : i = 0
  · rw [if_pos e, if_pos e, if_pos e]; exact ⟨rfl, rfl⟩
  · rw [if_neg e, if_neg e, if_neg e]; exact d (i - 1) (by omega)
theorem me_QY_pop {x : Int32 × Nat} {pn : List (Int32 × Nat)} {tk q : Nat} {DK DL DK' DL' : Nat → Int32} (h : me_QY (x :: pn) tk (q + 1) DK DL) (h1 : ∀ i, i < q → DK' i = DK (i + 1)) (h2 : ∀ i, i < q → DL' i = DL (i + 1)) : me_QY pn (tk + 1) q DK' DL' := by
  obtain ⟨a, b, c, d⟩ := h
  rw [List.length_cons] at b c
  refine ⟨by omega, by omega, by omega, fun i hi => ?_⟩
  rw [h1 i hi, h2 i hi]
  exact d (i + 1) (by omega)
section
variable {f_cap f_nodeCap f_levels f_len f_cur f_now f_nodeCount f_queued f_c1 f_op f_c2 f_waits f_copies f_recCount f_reg f_begin f_recording f_recReg : Int32} {a_text a_marks a_info a_held a_strips a_size a_kind a_dueKey a_dueLevel : Nat → Int32}
variable {post : SY → Prop}
theorem ye_due_26 {key lv : Int32} {q' : Nat} {DK DL : Nat → Int32} (hq : q' ≤ 65)
    (H : ∀ DK' DL' : Nat → Int32, (∀ i, i < q' → DK' i = if i = 0 then key else DK (i - 1)) → (∀ i, i < q' → DL' i = if i = 0 then lv else DL (i - 1)) → post (f_cap, f_nodeCap, f_levels, f_len, f_cur, f_now, f_nodeCount, f_queued, f_c1, f_op, f_c2, f_waits, f_copies, f_recCount, f_reg, f_begin, f_recording, f_recReg, a_text, a_marks, a_info, a_held, a_strips, a_size, a_kind, DK', DL')) :
    ∀ (j : Nat) (K L : Nat → Int32), j < q' → (∀ i, i ≤ j → K i = DK i ∧ L i = DL i) → (∀ i, j < i → i < q' → K i = DK (i - 1) ∧ L i = DL (i - 1)) → wY_due_26 post key lv f_cap f_nodeCap f_levels f_len f_cur f_now f_nodeCount f_queued f_c1 f_op f_c2 f_waits f_copies f_recCount f_reg f_begin f_recording f_recReg (j + 1) (nI j) a_text a_marks a_info a_held a_strips a_size a_kind K L
  | 0, K, L, hj, h1, h2 => by
    refine br_t (by decide) (nm_e (nm_e (H _ _ (fun i hi => ?_) (fun i hi => ?_))))
    · by_cases e : i = 0
      · subst e; rw [pk_us, if_pos rfl]
      · rw [pk_un e, if_neg e]; exact (h2 i (by omega) hi).1
    · by_cases e : i = 0
      · subst e; rw [pk_us, if_pos rfl]
      · rw [pk_un e, if_neg e]; exact (h2 i (by omega) hi).2
  | j + 1, K, L, hj, h1, h2 => by
    have v1 : vp_in (nI (j + 1) - 1) 65 := pk_in j 65 (by omega) (nI_pred j)
    have v2 : vp_in (nI (j + 1)) 65 := vp_in_nI (by omega) (by omega)
    refine br_f (nI_nle (by omega) (by omega)) ⟨v1, v2, nm_e ⟨v1, v2, nm_e (nm_r (pk_m1 j) ?_)⟩⟩
    rw [pk_cl j (nI_pred j), nI_clamp (n := j + 1) (by omega)]
    refine ye_due_26 hq H j _ _ (by omega) (fun i hi => ?_) (fun i hi hi2 => ?_)
    · rw [pk_un (by omega), pk_un (by omega)]; exact h1 i (by omega)
    · by_cases e : i = j + 1
      · subst e; rw [pk_us, pk_us]; exact h1 j (by omega)
      · rw [pk_un e, pk_un e]; exact h2 i (by omega) hi2
theorem ye_due {pn : List (Int32 × Nat)} {tk q lv : Nat} {key : Int32} (hQ : me_QY pn tk q a_dueKey a_dueLevel)
    (H : ∀ (q' : Nat) (a_dueKey a_dueLevel : Nat → Int32), me_QY ((key, lv) :: pn) tk q' a_dueKey a_dueLevel → post (f_cap, f_nodeCap, f_levels, f_len, f_cur, f_now, f_nodeCount, nI q', f_c1, f_op, f_c2, f_waits, f_copies, f_recCount, f_reg, f_begin, f_recording, f_recReg, a_text, a_marks, a_info, a_held, a_strips, a_size, a_kind, a_dueKey, a_dueLevel)) : wpY_due post (f_cap, f_nodeCap, f_levels, f_len, f_cur, f_now, f_nodeCount, nI q, f_c1, f_op, f_c2, f_waits, f_copies, f_recCount, f_reg, f_begin, f_recording, f_recReg, a_text, a_marks, a_info, a_held, a_strips, a_size, a_kind, a_dueKey, a_dueLevel) key (nI lv) := by
  have hq := hQ.1
  refine pk_le 65 q (fun h => nm_r (me_sub1 (by omega)) ⟨q - 1 + 1, ?_⟩) (fun h => nm_r (nI_1 q) (nm_r (nI_pred q) ⟨q + 1, ?_⟩))
  · refine ye_due_26 (q' := q) (DK := a_dueKey) (DL := a_dueLevel) (by omega) (fun DK' DL' e1 e2 => H q DK' DL' (me_QY_push hQ (Or.inr ⟨by omega, by omega⟩) e1 e2)) (q - 1) a_dueKey a_dueLevel (by omega) (fun i hi => ⟨rfl, rfl⟩) (fun i h1 h2 => by omega)
  · exact ye_due_26 (q' := q + 1) (DK := a_dueKey) (DL := a_dueLevel) (by omega) (fun DK' DL' e1 e2 => H (q + 1) DK' DL' (me_QY_push hQ (Or.inl ⟨by omega, rfl⟩) e1 e2)) q a_dueKey a_dueLevel (by omega) (fun i hi => ⟨rfl, rfl⟩) (fun i h1 h2 => by omega)
theorem ye_replay_9 {pn : List (Int32 × Nat)} {tk lv r n : Nat} {g : Nat → Int32} (hr : r < 7) (hn : n ≤ 32) (hs : ∀ i, i < n → a_strips (r * 32 + i) = g i)
    (H : ∀ (q' : Nat) (a_dueKey a_dueLevel : Nat → Int32), me_QY ((me_lst n g).map (fun x => (x, lv)) ++ pn) tk q' a_dueKey a_dueLevel → post (f_cap, f_nodeCap, f_levels, f_len, f_cur, f_now, f_nodeCount, nI q', f_c1, f_op, f_c2, f_waits, f_copies, f_recCount, f_reg, f_begin, f_recording, f_recReg, a_text, a_marks, a_info, a_held, a_strips, a_size, a_kind, a_dueKey, a_dueLevel)) :
    ∀ (i q : Nat) (x : Int32) (a_dueKey a_dueLevel : Nat → Int32), i ≤ n → x = nI i + (-1) → me_QY (((me_lst n g).drop i).map (fun x => (x, lv)) ++ pn) tk q a_dueKey a_dueLevel → wY_replay_9 post (nI r) (nI lv) (i + 1) x f_cap f_nodeCap f_levels f_len f_cur f_now f_nodeCount (nI q) f_c1 f_op f_c2 f_waits f_copies f_recCount f_reg f_begin f_recording f_recReg a_text a_marks a_info a_held a_strips a_size a_kind a_dueKey a_dueLevel
  | 0, q, x, a_dueKey, a_dueLevel, hi, hx, hQ => br_t (by rw [hx]; decide) (H q a_dueKey a_dueLevel hQ)
  | i + 1, q, x, a_dueKey, a_dueLevel, hi, hx, hQ => by
    rw [pk_m1] at hx
    subst hx
    refine br_f (nI_pos (by omega)) ⟨pk_in (r * 32 + i) 224 (by omega) (me_ix32 _ _), ?_⟩
    rw [pk_cl (r * 32 + i) (me_ix32 _ _), hs i (by omega)]
    refine ye_due hQ (fun q' DK' DL' hQ' => nm_e (ye_replay_9 hr hn hs H i q' _ DK' DL' (by omega) rfl ?_))
    rw [me_lst_drop g (by omega)]
    exact hQ'
theorem ye_replay {pn : List (Int32 × Nat)} {tk lv r n q : Nat} {g : Nat → Int32} (hr : r < 7) (hn : n ≤ 32) (hz : a_size r = nI n) (hs : ∀ i, i < n → a_strips (r * 32 + i) = g i) (hQ : me_QY pn tk q a_dueKey a_dueLevel)
    (H : ∀ (q' : Nat) (a_dueKey a_dueLevel : Nat → Int32), me_QY ((me_lst n g).map (fun x => (x, lv)) ++ pn) tk q' a_dueKey a_dueLevel → post (f_cap, f_nodeCap, f_levels, f_len, f_cur, f_now, f_nodeCount, nI q', f_c1, f_op, f_c2, f_waits, f_copies, f_recCount, f_reg, f_begin, f_recording, f_recReg, a_text, a_marks, a_info, a_held, a_strips, a_size, a_kind, a_dueKey, a_dueLevel)) : wpY_replay post (f_cap, f_nodeCap, f_levels, f_len, f_cur, f_now, f_nodeCount, nI q, f_c1, f_op, f_c2, f_waits, f_copies, f_recCount, f_reg, f_begin, f_recording, f_recReg, a_text, a_marks, a_info, a_held, a_strips, a_size, a_kind, a_dueKey, a_dueLevel) (nI r) (nI lv) := by
  refine ⟨vp_in_nI hr (by omega), nm_r (e' := nI n + (-1)) ?_ ⟨_, ye_replay_9 hr hn hs H n q _ a_dueKey a_dueLevel (Nat.le_refl _) rfl ?_⟩⟩
  · rw [nI_clamp (by omega), hz, me_subm1]
  · rw [List.drop_of_length_le (by rw [me_lst_len]; omega)]
    exact hQ
end
theorem me_FX_congr {ac al ap am av ac' al' ap' am' av' : Nat → Int32} : ∀ {r : List me_Fr}, me_FX r ac al ap am av → (∀ f, f ∈ r → f.1.length ≤ 40) → (∀ j, j < r.length → al' j = al j ∧ ap' j = ap j ∧ am' j = am j ∧ av' j = av j) → (∀ j, j < r.length * 40 → ac' j = ac j) → me_FX r ac' al' ap' am' av'
  | [], _, _, _, _ => trivial
  | f :: r, h, hl, h1, h2 => by
    obtain ⟨⟨e1, e2, e3, e4, e5⟩, h3⟩ := h
    obtain ⟨d1, d2, d3, d4⟩ := h1 r.length (by rw [List.length_cons]; omega)
    have hf := hl f (List.mem_cons_self ..)
    refine ⟨⟨by rw [d1]; exact e1, by rw [d2]; exact e2, by rw [d3]; exact e3, by rw [d4]; exact e4, fun i hi => ?_⟩, me_FX_congr h3 (fun f' hf' => hl f' (List.mem_cons_of_mem _ hf')) (fun j hj => h1 j (by rw [List.length_cons]; omega)) (fun j hj => h2 j (by rw [List.length_cons]; omega))⟩
    rw [h2 _ (by rw [List.length_cons]; omega)]
    exact e5 i hi
theorem me_FX_push {r : List me_Fr} {ac al ap am av : Nat → Int32} {codes : List Int32} {n lv : Nat} {g : Nat → Int32} (h : me_FX r ac al ap am av) (hl : ∀ f, f ∈ r → f.1.length ≤ 40) (hg : ∀ i, i < codes.length → g i = codes.getD i 0) :
    me_FX ((codes, 0, n, lv) :: r) (me_cp ac (r.length * 40) codes.length g) (upd al r.length (nI codes.length)) (upd ap r.length 0) (upd am r.length (nI n)) (upd av r.length (nI lv)) := by
  refine ⟨⟨pk_us, pk_us, pk_us, pk_us, fun i hi => ?_⟩, me_FX_congr h hl (fun j hj => ?_) (fun j hj => ?_)⟩
  · rw [me_cp_in hi, hg i hi]
  · rw [pk_un (by omega), pk_un (by omega), pk_un (by omega), pk_un (by omega)]; exact ⟨rfl, rfl, rfl, rfl⟩
  · rw [me_cp_out (by omega)]
section
variable {f_textCap f_nodeCap f_levels f_len f_cur f_nodeCount f_node f_reg f_c1 f_op f_c2 f_waiting f_sessionStart f_copies f_recReg f_recLen f_chKeyLen f_chTextLen f_chReg f_chCount f_depth f_keyLevel f_spanFrom f_spanTo f_spanTextEnd f_spanKind : Int32} {a_text a_marks a_regKinds a_regLens a_regCodes a_nodeParent a_nodeRedo a_nodeLen a_nodeCur a_nodeMarks a_nodeText a_recCodes a_chKeys a_chText a_frameCodes a_frameLen a_framePos a_frameTimes a_frameLevel : Nat → Int32}
variable {post : SX → Prop}
theorem xe_addToFrame {m k : Nat} {code : Int32} (hm : m < 5) (hk : k < 40) (hl : a_frameLen m = nI k) (H : post (f_textCap, f_nodeCap, f_levels, f_len, f_cur, f_nodeCount, f_node, f_reg, f_c1, f_op, f_c2, f_waiting, f_sessionStart, f_copies, f_recReg, f_recLen, f_chKeyLen, f_chTextLen, f_chReg, f_chCount, nI (m + 1), f_keyLevel, f_spanFrom, f_spanTo, f_spanTextEnd, f_spanKind, a_text, a_marks, a_regKinds, a_regLens, a_regCodes, a_nodeParent, a_nodeRedo, a_nodeLen, a_nodeCur, a_nodeMarks, a_nodeText, a_recCodes, a_chKeys, a_chText, upd a_frameCodes (m * 40 + k) code, upd a_frameLen m (nI (k + 1)), a_framePos, a_frameTimes, a_frameLevel)) : wpX_addToFrame post (f_textCap, f_nodeCap, f_levels, f_len, f_cur, f_nodeCount, f_node, f_reg, f_c1, f_op, f_c2, f_waiting, f_sessionStart, f_copies, f_recReg, f_recLen, f_chKeyLen, f_chTextLen, f_chReg, f_chCount, nI (m + 1), f_keyLevel, f_spanFrom, f_spanTo, f_spanTextEnd, f_spanKind, a_text, a_marks, a_regKinds, a_regLens, a_regCodes, a_nodeParent, a_nodeRedo, a_nodeLen, a_nodeCur, a_nodeMarks, a_nodeText, a_recCodes, a_chKeys, a_chText, a_frameCodes, a_frameLen, a_framePos, a_frameTimes, a_frameLevel) code := by
  have v : vp_in (nI m) 5 := vp_in_nI hm (by omega)
  refine nm_r (nI_pred m) ⟨v, ?_⟩
  rw [nI_clamp (by omega), hl]
  refine ⟨pk_in (m * 40 + k) 200 (by omega) (me_ix40 _ _), nm_r (by rw [pk_cl (m * 40 + k) (me_ix40 _ _)]) ⟨v, v, nm_r ?_ H⟩⟩
  rw [nI_1]
theorem xe_startReplay_63 {post : Int32 → SX → Prop} {m r n : Nat} {g : Nat → Int32} (hm : m < 5) (hr : r < 4) (hn : n ≤ 32) (h1 : a_regLens r = nI n) (h2 : ∀ i, i < n → a_regCodes (r * 32 + i) = g i)
    (H : post 0 (f_textCap, f_nodeCap, f_levels, f_len, f_cur, f_nodeCount, f_node, f_reg, f_c1, f_op, f_c2, f_waiting, f_sessionStart, f_copies, f_recReg, f_recLen, f_chKeyLen, f_chTextLen, f_chReg, f_chCount, nI (m + 1), f_keyLevel, f_spanFrom, f_spanTo, f_spanTextEnd, f_spanKind, a_text, a_marks, a_regKinds, a_regLens, a_regCodes, a_nodeParent, a_nodeRedo, a_nodeLen, a_nodeCur, a_nodeMarks, a_nodeText, a_recCodes, a_chKeys, a_chText, me_cp a_frameCodes (m * 40) n g, upd a_frameLen m (nI n), a_framePos, a_frameTimes, a_frameLevel)) :
    ∀ d i : Nat, i + d = n → wX_startReplay_63 post (nI r) (d + 1) (nI i) f_textCap f_nodeCap f_levels f_len f_cur f_nodeCount f_node f_reg f_c1 f_op f_c2 f_waiting f_sessionStart f_copies f_recReg f_recLen f_chKeyLen f_chTextLen f_chReg f_chCount (nI (m + 1)) f_keyLevel f_spanFrom f_spanTo f_spanTextEnd f_spanKind a_text a_marks a_regKinds a_regLens a_regCodes a_nodeParent a_nodeRedo a_nodeLen a_nodeCur a_nodeMarks a_nodeText a_recCodes a_chKeys a_chText (me_cp a_frameCodes (m * 40) i g) (upd a_frameLen m (nI i)) a_framePos a_frameTimes a_frameLevel
  | 0, i, hd => by
    have : i = n := by omega
    subst this
    refine ⟨vp_in_nI hr (by omega), br_t ?_ H⟩
    rw [nI_clamp (by omega), h1]; exact nI_le (by omega) (by omega)
  | d + 1, i, hd => by
    refine ⟨vp_in_nI hr (by omega), br_f ?_ ⟨pk_in (r * 32 + i) 128 (by omega) (me_ix32 _ _), xe_addToFrame hm (by omega) pk_us (nm_r (nI_1 i) ?_)⟩⟩
    · rw [nI_clamp (by omega), h1]; exact nI_ge (by omega) (by omega)
    · rw [me_uu, pk_cl (r * 32 + i) (me_ix32 _ _), h2 i (by omega), me_cp_s (g := g)]
      exact xe_startReplay_63 hm hr hn h1 h2 H d (i + 1) (by omega)
theorem xe_repeat_61 {post : Int32 → SX → Prop} {m n : Nat} {g : Nat → Int32} (hm : m < 5) (hn : n ≤ 3) (h2 : ∀ i, i < n → a_chKeys i = g i)
    (H : wX_repeat_61 post 1 (nI n) f_textCap f_nodeCap f_levels f_len f_cur f_nodeCount f_node f_reg f_c1 f_op f_c2 f_waiting f_sessionStart f_copies f_recReg f_recLen (nI n) f_chTextLen f_chReg f_chCount (nI (m + 1)) f_keyLevel f_spanFrom f_spanTo f_spanTextEnd f_spanKind a_text a_marks a_regKinds a_regLens a_regCodes a_nodeParent a_nodeRedo a_nodeLen a_nodeCur a_nodeMarks a_nodeText a_recCodes a_chKeys a_chText (me_cp a_frameCodes (m * 40) n g) (upd a_frameLen m (nI n)) a_framePos a_frameTimes a_frameLevel) :
    ∀ d i : Nat, i + d = n → wX_repeat_61 post (d + 1) (nI i) f_textCap f_nodeCap f_levels f_len f_cur f_nodeCount f_node f_reg f_c1 f_op f_c2 f_waiting f_sessionStart f_copies f_recReg f_recLen (nI n) f_chTextLen f_chReg f_chCount (nI (m + 1)) f_keyLevel f_spanFrom f_spanTo f_spanTextEnd f_spanKind a_text a_marks a_regKinds a_regLens a_regCodes a_nodeParent a_nodeRedo a_nodeLen a_nodeCur a_nodeMarks a_nodeText a_recCodes a_chKeys a_chText (me_cp a_frameCodes (m * 40) i g) (upd a_frameLen m (nI i)) a_framePos a_frameTimes a_frameLevel
  | 0, i, hd => by
    have : i = n := by omega
    subst this
    exact H
  | d + 1, i, hd => by
    refine br_f (nI_ge (by omega) (by omega)) ⟨vp_in_nI (by omega) (by omega), xe_addToFrame hm (by omega) pk_us (nm_r (nI_1 i) ?_)⟩
    rw [me_uu, nI_clamp (by omega), h2 i (by omega), me_cp_s (g := g)]
    exact xe_repeat_61 hm hn h2 H d (i + 1) (by omega)
theorem xe_repeat_118 {post : Int32 → SX → Prop} {m n b : Nat} {g : Nat → Int32} (hm : m < 5) (hb : b ≤ 3) (hn : n ≤ 32) (h2 : ∀ i, i < n → a_chText i = g (b + i)) (h27 : g (b + n) = 27)
    (H : post 0 (f_textCap, f_nodeCap, f_levels, f_len, f_cur, f_nodeCount, f_node, f_reg, f_c1, f_op, f_c2, f_waiting, f_sessionStart, f_copies, f_recReg, f_recLen, f_chKeyLen, nI n, f_chReg, f_chCount, nI (m + 1), f_keyLevel, f_spanFrom, f_spanTo, f_spanTextEnd, f_spanKind, a_text, a_marks, a_regKinds, a_regLens, a_regCodes, a_nodeParent, a_nodeRedo, a_nodeLen, a_nodeCur, a_nodeMarks, a_nodeText, a_recCodes, a_chKeys, a_chText, me_cp a_frameCodes (m * 40) (b + n + 1) g, upd a_frameLen m (nI (b + n + 1)), a_framePos, a_frameTimes, a_frameLevel)) :
    ∀ d i : Nat, i + d = n → wX_repeat_118 post (d + 1) (nI i) f_textCap f_nodeCap f_levels f_len f_cur f_nodeCount f_node f_reg f_c1 f_op f_c2 f_waiting f_sessionStart f_copies f_recReg f_recLen f_chKeyLen (nI n) f_chReg f_chCount (nI (m + 1)) f_keyLevel f_spanFrom f_spanTo f_spanTextEnd f_spanKind a_text a_marks a_regKinds a_regLens a_regCodes a_nodeParent a_nodeRedo a_nodeLen a_nodeCur a_nodeMarks a_nodeText a_recCodes a_chKeys a_chText (me_cp a_frameCodes (m * 40) (b + i) g) (upd a_frameLen m (nI (b + i))) a_framePos a_frameTimes a_frameLevel
  | 0, i, hd => by
    have : i = n := by omega
    subst this
    refine br_t (nI_le (by omega) (by omega)) (xe_addToFrame hm (by omega) pk_us ?_)
    rw [me_uu, ← h27, me_cp_s (g := g)]
    exact H
  | d + 1, i, hd => by
    refine br_f (nI_ge (by omega) (by omega)) ⟨vp_in_nI (by omega) (by omega), xe_addToFrame hm (by omega) pk_us (nm_r (nI_1 i) ?_)⟩
    rw [me_uu, nI_clamp (by omega), h2 i (by omega), me_cp_s (g := g)]
    exact xe_repeat_118 hm hb hn h2 h27 H d (i + 1) (by omega)
theorem xe_pushFrame {m : Nat} {x y : Int32} (hm : m < 5) (H : post (f_textCap, f_nodeCap, f_levels, f_len, f_cur, f_nodeCount, f_node, f_reg, f_c1, f_op, f_c2, f_waiting, f_sessionStart, f_copies, f_recReg, f_recLen, f_chKeyLen, f_chTextLen, f_chReg, f_chCount, nI (m + 1), f_keyLevel, f_spanFrom, f_spanTo, f_spanTextEnd, f_spanKind, a_text, a_marks, a_regKinds, a_regLens, a_regCodes, a_nodeParent, a_nodeRedo, a_nodeLen, a_nodeCur, a_nodeMarks, a_nodeText, a_recCodes, a_chKeys, a_chText, a_frameCodes, upd a_frameLen m 0, upd a_framePos m 0, upd a_frameTimes m x, upd a_frameLevel m y)) : wpX_pushFrame post (f_textCap, f_nodeCap, f_levels, f_len, f_cur, f_nodeCount, f_node, f_reg, f_c1, f_op, f_c2, f_waiting, f_sessionStart, f_copies, f_recReg, f_recLen, f_chKeyLen, f_chTextLen, f_chReg, f_chCount, nI m, f_keyLevel, f_spanFrom, f_spanTo, f_spanTextEnd, f_spanKind, a_text, a_marks, a_regKinds, a_regLens, a_regCodes, a_nodeParent, a_nodeRedo, a_nodeLen, a_nodeCur, a_nodeMarks, a_nodeText, a_recCodes, a_chKeys, a_chText, a_frameCodes, a_frameLen, a_framePos, a_frameTimes, a_frameLevel) x y := by
  have v : vp_in (nI m) 5 := vp_in_nI hm (by omega)
  have c := nI_clamp (n := m) (by omega)
  exact ⟨v, nm_r (by rw [c]) ⟨v, nm_r (by rw [c]) ⟨v, nm_r (by rw [c]) ⟨v, nm_r (by rw [c]) (nm_r (nI_1 m) H)⟩⟩⟩⟩
end
end
section
/-! starting a replay, and the repeat -/
def me_yl (kl : Nat) : Nat := if kl = 5 then 0 else kl
theorem me_pend_push (codes : List Int32) (n lv : Nat) (r : List me_Fr) (hn : 1 ≤ n) : me_pend ((codes, 0, n, lv) :: r) = ((List.replicate n codes).flatten).map (fun x => (x, me_yl lv)) ++ me_pend r := by
  obtain ⟨k, rfl⟩ : ∃ k, n = k + 1 := ⟨n - 1, by omega⟩
  rfl
def me_sr1 (c : me_CC) (f : me_Fr) : me_CC := match c with
  | (tcap, ncap, lvs, t, len, cur, mks, kd, sz, st, cnt, now, par, rd, nt, nl, nc, nm, reg, k1, op, k2, wt, ss, cp, rr, cr, cc, fr, kl, tk) => (tcap, ncap, lvs, t, len, cur, mks, kd, sz, st, cnt, now, par, rd, nt, nl, nc, nm, reg, k1, op, k2, wt, ss, cp, rr, cr, cc, f :: fr, kl, tk)
def me_rp (c : me_CC) (f : me_Fr) : me_CC := match c with
  | (tcap, ncap, lvs, t, len, cur, mks, kd, sz, st, cnt, now, par, rd, nt, nl, nc, nm, reg, k1, op, k2, wt, ss, cp, rr, cr, cc, fr, kl, tk) => (tcap, ncap, lvs, t, len, cur, mks, kd, sz, st, cnt, now, par, rd, nt, nl, nc, nm, cr, if k1 = 0 then cc else k1, 0, 0, 0, ss, cp, rr, cr, cc, f :: fr, kl, tk)
section
variable {f_cap f_nodeCap f_levels f_len f_cur f_now f_nodeCount f_queued f_c1 f_op f_c2 f_waits f_copies f_recCount f_reg f_begin f_recording f_recReg : Int32} {a_text a_marks a_info a_held a_strips a_size a_kind a_dueKey a_dueLevel : Nat → Int32}
theorem ye_operand_184 {post : Int32 → SY → Prop} {pn : List (Int32 × Nat)} {tk lv r n m : Nat} {g : Nat → Int32} {x2 : Int32} (hx : x2 + 1 = nI lv) (hr : r < 7) (hn : n ≤ 32) (hm : m ≤ 32) (hz : a_size r = nI n) (hs : ∀ i, i < n → a_strips (r * 32 + i) = g i)
    (H : ∀ (q' : Nat) (a_dueKey a_dueLevel : Nat → Int32), me_QY (((List.replicate m (me_lst n g)).flatten).map (fun x => (x, lv)) ++ pn) tk q' a_dueKey a_dueLevel → post 0 (f_cap, f_nodeCap, f_levels, f_len, f_cur, f_now, f_nodeCount, nI q', f_c1, f_op, f_c2, f_waits, f_copies, f_recCount, f_reg, f_begin, f_recording, f_recReg, a_text, a_marks, a_info, a_held, a_strips, a_size, a_kind, a_dueKey, a_dueLevel)) :
    ∀ (d i q : Nat) (a_dueKey a_dueLevel : Nat → Int32), i + d = m → me_QY (((List.replicate i (me_lst n g)).flatten).map (fun x => (x, lv)) ++ pn) tk q a_dueKey a_dueLevel → wY_operand_184 post x2 (nI r) (nI m) (d + 1) (nI i) f_cap f_nodeCap f_levels f_len f_cur f_now f_nodeCount (nI q) f_c1 f_op f_c2 f_waits f_copies f_recCount f_reg f_begin f_recording f_recReg a_text a_marks a_info a_held a_strips a_size a_kind a_dueKey a_dueLevel
  | 0, i, q, a_dueKey, a_dueLevel, hd, hQ => by
    have : i = m := by omega
    subst this
    exact br_t (nI_le (by omega) (by omega)) (H q a_dueKey a_dueLevel hQ)
  | d + 1, i, q, a_dueKey, a_dueLevel, hd, hQ => by
    refine br_f (nI_ge (by omega) (by omega)) ?_
    rw [hx]
    refine ye_replay hr hn hz hs hQ (fun q' DK' DL' hQ' => nm_r (nI_1 i) (ye_operand_184 hx hr hn hm hz hs H d (i + 1) q' DK' DL' (by omega) ?_))
    rw [List.replicate_succ, List.flatten_cons, List.map_append, List.append_assoc]
    exact hQ'
end
section
variable {tcap : Nat} {ncap : Nat} {lvs : Nat} {t : Nat → Int32} {len : Nat} {cur : Nat} {mks : Nat → Option Nat} {kd : Nat → Nat} {sz : Nat → Nat} {st : Nat → Nat → Int32} {cnt : Nat} {now : Nat} {par : Nat → Option Nat} {rd : Nat → Option Nat} {nt : Nat → Nat → Int32} {nl : Nat → Nat} {nc : Nat → Nat} {nm : Nat → Nat → Option Nat} {reg : Option Nat} {k1 : Nat} {op : Int32} {k2 : Nat} {wt : Int32} {ss : Option Nat} {cp : Nat} {rr : Option Nat} {cr : Option Nat} {cc : Nat} {fr : List (List Int32 × Nat × Nat × Nat)} {kl : Nat} {tk : Nat}
/-- what the frame of a new replay has to be -/
def me_rfr (r : Nat) (sz : Nat → Nat) (st : Nat → Nat → Int32) (n lv : Nat) : me_Fr := (me_lst (sz r) (st r), 0, n, lv)
theorem me_inv_sr1 {r n lv : Nat} (I : me_Inv (tcap, ncap, lvs, t, len, cur, mks, kd, sz, st, cnt, now, par, rd, nt, nl, nc, nm, reg, k1, op, k2, wt, ss, cp, rr, cr, cc, fr, kl, tk)) (hr : r < 7) (h0 : 0 < sz r) (hn : n ≤ 32) (hlv : lv ≤ 5) : me_Inv (me_sr1 (tcap, ncap, lvs, t, len, cur, mks, kd, sz, st, cnt, now, par, rd, nt, nl, nc, nm, reg, k1, op, k2, wt, ss, cp, rr, cr, cc, fr, kl, tk) (me_rfr r sz st n lv)) := by
  obtain ⟨hA, hT, hG, hN, hK, hS, hF⟩ := I
  refine ⟨hA, hT, hG, hN, hK, hS, fun f hf => ?_⟩
  rcases List.mem_cons.mp hf with rfl | hf
  · have := (hG.2.1 r hr).1
    refine ⟨by show (me_lst _ _).length ≤ 40; rw [me_lst_len]; omega, by show 0 < (me_lst _ _).length; rw [me_lst_len]; exact h0, hn, hlv, fun x hx => ?_⟩
    obtain ⟨i, hi, rfl⟩ := me_lst_mem hx
    exact (hG.2.1 r hr).2 i hi
  · exact hF f hf
end
def me_rn (n : Nat) : Option Nat := if n = 34 then some 0 else if 97 ≤ n ∧ n ≤ 99 then some (n - 96) else none
theorem me_rn_b {n r : Nat} (h : me_rn n = some r) : r < 4 := by
  unfold me_rn at h
  split at h
  · cases h; omega
  · split at h
    · cases h; omega
    · cases h
theorem me_97 {n : Nat} (h : 97 ≤ n) : nI n - 97 + 1 = nI (n - 96) := by
  rw [me_sub97 h, nI_1]
  exact congrArg nI (by omega)
section
variable {f_textCap f_nodeCap f_levels f_len f_cur f_nodeCount f_node f_reg f_c1 f_op f_c2 f_waiting f_sessionStart f_copies f_recReg f_recLen f_chKeyLen f_chTextLen f_chReg f_chCount f_depth f_keyLevel f_spanFrom f_spanTo f_spanTextEnd f_spanKind : Int32} {a_text a_marks a_regKinds a_regLens a_regCodes a_nodeParent a_nodeRedo a_nodeLen a_nodeCur a_nodeMarks a_nodeText a_recCodes a_chKeys a_chText a_frameCodes a_frameLen a_framePos a_frameTimes a_frameLevel : Nat → Int32}
theorem xe_drop {post : SX → Prop} (H : post (f_textCap, f_nodeCap, f_levels, f_len, f_cur, f_nodeCount, f_node, -1, 0, 0, 0, 0, f_sessionStart, f_copies, f_recReg, f_recLen, f_chKeyLen, f_chTextLen, f_chReg, f_chCount, f_depth, f_keyLevel, f_spanFrom, f_spanTo, f_spanTextEnd, f_spanKind, a_text, a_marks, a_regKinds, a_regLens, a_regCodes, a_nodeParent, a_nodeRedo, a_nodeLen, a_nodeCur, a_nodeMarks, a_nodeText, a_recCodes, a_chKeys, a_chText, a_frameCodes, a_frameLen, a_framePos, a_frameTimes, a_frameLevel)) : wpX_drop post (f_textCap, f_nodeCap, f_levels, f_len, f_cur, f_nodeCount, f_node, f_reg, f_c1, f_op, f_c2, f_waiting, f_sessionStart, f_copies, f_recReg, f_recLen, f_chKeyLen, f_chTextLen, f_chReg, f_chCount, f_depth, f_keyLevel, f_spanFrom, f_spanTo, f_spanTextEnd, f_spanKind, a_text, a_marks, a_regKinds, a_regLens, a_regCodes, a_nodeParent, a_nodeRedo, a_nodeLen, a_nodeCur, a_nodeMarks, a_nodeText, a_recCodes, a_chKeys, a_chText, a_frameCodes, a_frameLen, a_framePos, a_frameTimes, a_frameLevel) := H
theorem xe_regNumber {post : Int32 → Prop} {n : Nat} (h2 : n ≤ 126) (H : post (me_o (me_rn n))) : wpX_regNumber post (f_textCap, f_nodeCap, f_levels, f_len, f_cur, f_nodeCount, f_node, f_reg, f_c1, f_op, f_c2, f_waiting, f_sessionStart, f_copies, f_recReg, f_recLen, f_chKeyLen, f_chTextLen, f_chReg, f_chCount, f_depth, f_keyLevel, f_spanFrom, f_spanTo, f_spanTextEnd, f_spanKind, a_text, a_marks, a_regKinds, a_regLens, a_regCodes, a_nodeParent, a_nodeRedo, a_nodeLen, a_nodeCur, a_nodeMarks, a_nodeText, a_recCodes, a_chKeys, a_chText, a_frameCodes, a_frameLen, a_framePos, a_frameTimes, a_frameLevel) (nI n) := by
  unfold me_rn at H
  refine pk_eq n 34 (fun h => ?_) (fun h => pk_lt n 97 (fun w => ?_) (fun w => pk_lt 99 n (fun w2 => ?_) (fun w2 => ?_)))
  · rw [if_pos h] at H; exact H
  · rw [if_neg h, if_neg (by omega)] at H; exact H
  · rw [if_neg h, if_neg (by omega)] at H; exact H
  · rw [if_neg h, if_pos (by omega)] at H
    rw [me_97 w]; exact H
end
section
variable {f_cap f_nodeCap f_levels f_len f_cur f_now f_nodeCount f_queued f_c1 f_op f_c2 f_waits f_copies f_recCount f_reg f_begin f_recording f_recReg : Int32} {a_text a_marks a_info a_held a_strips a_size a_kind a_dueKey a_dueLevel : Nat → Int32}
theorem ye_operand_head {post : Int32 → SY → Prop} {n : Nat} {lv : Int32} (h2 : n ≤ 126) (H : wY_operand_32 post (nI n) lv (me_o (me_rn n)) f_cap f_nodeCap f_levels f_len f_cur f_now f_nodeCount f_queued f_c1 f_op f_c2 f_waits f_copies f_recCount f_reg f_begin f_recording f_recReg a_text a_marks a_info a_held a_strips a_size a_kind a_dueKey a_dueLevel) : wpY_operand post (f_cap, f_nodeCap, f_levels, f_len, f_cur, f_now, f_nodeCount, f_queued, f_c1, f_op, f_c2, f_waits, f_copies, f_recCount, f_reg, f_begin, f_recording, f_recReg, a_text, a_marks, a_info, a_held, a_strips, a_size, a_kind, a_dueKey, a_dueLevel) (nI n) lv := by
  unfold me_rn at H
  refine pk_eq n 34 (fun h => ?_) (fun h => pk_lt n 97 (fun w => ?_) (fun w => pk_lt 99 n (fun w2 => ?_) (fun w2 => ?_)))
  · rw [if_pos h] at H; exact H
  · rw [if_neg h, if_neg (by omega)] at H; exact H
  · rw [if_neg h, if_neg (by omega)] at H; exact H
  · rw [if_neg h, if_pos (by omega)] at H
    rw [me_97 w]; exact H
end
section
variable {tcap : Nat} {ncap : Nat} {lvs : Nat} {t : Nat → Int32} {len : Nat} {cur : Nat} {mks : Nat → Option Nat} {kd : Nat → Nat} {sz : Nat → Nat} {st : Nat → Nat → Int32} {cnt : Nat} {now : Nat} {par : Nat → Option Nat} {rd : Nat → Option Nat} {nt : Nat → Nat → Int32} {nl : Nat → Nat} {nc : Nat → Nat} {nm : Nat → Nat → Option Nat} {reg : Option Nat} {k1 : Nat} {op : Int32} {k2 : Nat} {wt : Int32} {ss : Option Nat} {cp : Nat} {rr : Option Nat} {cr : Option Nat} {cc : Nat} {fr : List (List Int32 × Nat × Nat × Nat)} {kl : Nat} {tk : Nat}
/-- the operand of @ -/
theorem me_startReplay {n : Nat} (I : me_Inv (tcap, ncap, lvs, t, len, cur, mks, kd, sz, st, cnt, now, par, rd, nt, nl, nc, nm, reg, k1, op, k2, wt, ss, cp, rr, cr, cc, fr, kl, tk)) (h2 : n ≤ 126) (hwt : wt = 64) (hkl : kl ≤ 4) (hfl : fr.length = kl) :
    me_Cmd (tcap, ncap, lvs, t, len, cur, mks, kd, sz, st, cnt, now, par, rd, nt, nl, nc, nm, reg, k1, op, k2, wt, ss, cp, rr, cr, cc, fr, kl, tk) (fun c' => me_tk c' = tk ∧ ∃ f : me_Fr, me_fr c' = f :: fr ∧ f.2.2.2 = kl + 1 ∧ f.2.2.2 ≤ 4) (fun post u => wpX_startReplay post u (nI n)) (fun post v => wpY_operand post v (nI n) (nI (me_yl kl))) := by
  have I' := I
  obtain ⟨⟨a1, a2, a3, a4, a5, a6⟩, hIT, ⟨g1, g2, g3, g4⟩, hIN, ⟨hr, hk1, hk2, _⟩, hIS, hIF⟩ := I
  have hnt := me_nt_b k1 k2
  have hyl : me_yl kl = kl := if_neg (by omega)
  subst hwt
  cases hrn : me_rn n with
  | none =>
    refine Or.inr (Or.inr ⟨me_mkX fun post f_spanFrom f_spanTo f_spanTextEnd f_spanKind a_text a_marks a_regKinds a_regLens a_regCodes a_nodeParent a_nodeRedo a_nodeLen a_nodeCur a_nodeMarks a_nodeText a_recCodes a_chKeys a_chText a_frameCodes a_frameLen a_framePos a_frameTimes a_frameLevel hT hG hN hF H => ?_, (tcap, ncap, lvs, t, len, cur, mks, kd, sz, st, cnt, now, par, rd, nt, nl, nc, nm, reg, k1, op, k2, 64, ss, cp, rr, cr, cc, fr, kl, tk), rfl, me_mkY fun post q a_text a_marks a_info a_held a_strips a_size a_kind a_dueKey a_dueLevel hT hG hN hQ H => ?_⟩)
    · unfold wpX_startReplay
      refine xe_regNumber h2 ?_
      rw [hrn]
      exact br_t (by decide) (H _ (me_inX hT hG hN hF))
    · refine ye_operand_head h2 (ye_times hk1 hk2 (br_f (by decide) (br_f (by decide) (br_f (by decide) ?_))))
      rw [hrn]
      exact br_f (by decide) (H _ (me_inY hT hG hN hQ))
  | some r =>
    have hr4 := me_rn_b hrn
    have hsz := (g2 r (by omega)).1
    have v : vp_in (nI r) 4 := vp_in_nI hr4 (by omega)
    have v7 : vp_in (nI r) 7 := vp_in_nI (by omega) (by omega)
    have c := nI_clamp (n := r) (by omega)
    by_cases hf : sz r = 0 ∨ lvs ≤ kl
    · refine Or.inr (Or.inr ⟨me_mkX fun post f_spanFrom f_spanTo f_spanTextEnd f_spanKind a_text a_marks a_regKinds a_regLens a_regCodes a_nodeParent a_nodeRedo a_nodeLen a_nodeCur a_nodeMarks a_nodeText a_recCodes a_chKeys a_chText a_frameCodes a_frameLen a_framePos a_frameTimes a_frameLevel hT hG hN hF H => ?_, (tcap, ncap, lvs, t, len, cur, mks, kd, sz, st, cnt, now, par, rd, nt, nl, nc, nm, reg, k1, op, k2, 64, ss, cp, rr, cr, cc, fr, kl, tk), rfl, me_mkY fun post q a_text a_marks a_info a_held a_strips a_size a_kind a_dueKey a_dueLevel hT hG hN hQ H => ?_⟩)
      · have R := H _ (me_inX (f_spanFrom := f_spanFrom) (f_spanTo := f_spanTo) (f_spanTextEnd := f_spanTextEnd) (f_spanKind := f_spanKind) hT hG hN hF)
        unfold wpX_startReplay
        refine xe_regNumber h2 ?_
        rw [hrn]
        refine br_f (nI_pos (by omega)) ⟨v, ?_⟩
        rw [me_o_some, c, (hG.1 r hr4).2.1]
        refine pk_eq (sz r) 0 (fun _ => R) (fun e => br_t (nI_le (hf.resolve_left e) (by omega)) R)
      · have R := H _ (me_inY hT hG hN hQ)
        refine ye_operand_head h2 (ye_times hk1 hk2 (br_f (by decide) (br_f (by decide) (br_f (by decide) ?_))))
        rw [hrn]
        refine br_t (nI_pos' (by omega)) (br_f (by decide) (br_f (by decide) (br_f (by decide) (br_t rfl ⟨v7, ?_⟩))))
        rw [me_o_some, c, (hG.1 r (by omega)).1, hyl]
        exact pk_eq (sz r) 0 (fun _ => R) (fun e => br_f (nI_nlt (hf.resolve_left e) (by omega)) R)
    · have f1 : 0 < sz r := by
        have : sz r ≠ 0 := fun q => hf (Or.inl q)
        omega
      have f2 : kl < lvs := by
        by_cases w : lvs ≤ kl
        · exact absurd (Or.inr w) hf
        · omega
      have hl40 : ∀ f, f ∈ fr → f.1.length ≤ 40 := fun f h => (hIF f h).1
      refine Or.inr (Or.inl ⟨me_sr1 (tcap, ncap, lvs, t, len, cur, mks, kd, sz, st, cnt, now, par, rd, nt, nl, nc, nm, reg, k1, op, k2, 64, ss, cp, rr, cr, cc, fr, kl, tk) (me_rfr r sz st (me_nt k1 k2) (kl + 1)), me_inv_sr1 I' (by omega) f1 hnt.2 (by omega), ⟨rfl, _, rfl, rfl, by show kl + 1 ≤ 4; omega⟩, me_mkX fun post f_spanFrom f_spanTo f_spanTextEnd f_spanKind a_text a_marks a_regKinds a_regLens a_regCodes a_nodeParent a_nodeRedo a_nodeLen a_nodeCur a_nodeMarks a_nodeText a_recCodes a_chKeys a_chText a_frameCodes a_frameLen a_framePos a_frameTimes a_frameLevel hT hG hN hF H => ?_, me_mkY fun post q a_text a_marks a_info a_held a_strips a_size a_kind a_dueKey a_dueLevel hT hG hN hQ H => ?_⟩)
      · unfold wpX_startReplay
        refine xe_regNumber h2 ?_
        rw [hrn]
        refine br_f (nI_pos (by omega)) ⟨v, ?_⟩
        rw [me_o_some, c, (hG.1 r hr4).2.1]
        refine br_f (nI_ne0 f1 (by omega)) (br_f (nI_ge f2 (by omega)) (br_t (nI_lt (b := 5) (by omega) (by omega)) (xe_times hk1 hk2 (xe_drop (xe_pushFrame (m := fr.length) (by omega) ⟨sz r + 1, ?_⟩)))))
        rw [nI_1]
        have k63 := fun H' => xe_startReplay_63 (post := post) (f_textCap := nI tcap) (f_nodeCap := nI ncap) (f_levels := nI lvs) (f_len := nI len) (f_cur := nI cur) (f_nodeCount := nI cnt) (f_node := nI now) (f_reg := -1) (f_c1 := 0) (f_op := 0) (f_c2 := 0) (f_waiting := 0) (f_sessionStart := me_o ss) (f_copies := nI cp) (f_recReg := me_o rr) (f_recLen := nI (sz 4)) (f_chKeyLen := nI (sz 5)) (f_chTextLen := nI (sz 6)) (f_chReg := me_o cr) (f_chCount := nI cc) (f_keyLevel := nI kl) (f_spanFrom := f_spanFrom) (f_spanTo := f_spanTo) (f_spanTextEnd := f_spanTextEnd) (f_spanKind := f_spanKind) (a_text := a_text) (a_marks := a_marks) (a_regKinds := a_regKinds) (a_regLens := a_regLens) (a_regCodes := a_regCodes) (a_nodeParent := a_nodeParent) (a_nodeRedo := a_nodeRedo) (a_nodeLen := a_nodeLen) (a_nodeCur := a_nodeCur) (a_nodeMarks := a_nodeMarks) (a_nodeText := a_nodeText) (a_recCodes := a_recCodes) (a_chKeys := a_chKeys) (a_chText := a_chText) (a_frameCodes := a_frameCodes) (a_frameLen := upd a_frameLen fr.length 0) (a_framePos := upd a_framePos fr.length 0) (a_frameTimes := upd a_frameTimes fr.length (nI (me_nt k1 k2))) (a_frameLevel := upd a_frameLevel fr.length (nI (kl + 1))) (m := fr.length) (by omega) hr4 hsz (hG.1 r hr4).2.1 (hG.1 r hr4).2.2 H' (sz r) 0 (by omega)
        rw [me_cp_0, me_uu, me_uu] at k63
        refine k63 (H _ (me_inX hT hG hN ?_))
        have := me_FX_push (codes := me_lst (sz r) (st r)) (n := me_nt k1 k2) (lv := kl + 1) (g := st r) hF hl40 (fun i hi => (me_lst_get (st r) (by rw [me_lst_len] at hi; exact hi)).symm)
        rw [me_lst_len] at this
        exact this
      · refine ye_operand_head h2 (ye_times hk1 hk2 (br_f (by decide) (br_f (by decide) (br_f (by decide) ?_))))
        rw [hrn]
        refine br_t (nI_pos' (by omega)) (br_f (by decide) (br_f (by decide) (br_f (by decide) (br_t rfl ⟨v7, ?_⟩))))
        rw [me_o_some, c, (hG.1 r (by omega)).1, hyl]
        refine br_f (nI_ne0 f1 (by omega)) (br_t (nI_lt f2 (by omega)) ⟨me_nt k1 k2 + 1, ?_⟩)
        refine ye_operand_184 (lv := kl + 1) (pn := me_pend fr) (nI_1 kl) (by omega) hsz hnt.2 (hG.1 r (by omega)).1 (hG.1 r (by omega)).2 (fun q' DK' DL' hQ' => H _ (me_inY hT hG hN ?_)) (me_nt k1 k2) 0 q a_dueKey a_dueLevel (by omega) hQ
        have e := me_pend_push (me_lst (sz r) (st r)) (me_nt k1 k2) (kl + 1) fr hnt.1
        rw [show me_yl (kl + 1) = kl + 1 from if_neg (by omega)] at e
        show me_QY (me_pend ((me_lst (sz r) (st r), 0, me_nt k1 k2, kl + 1) :: fr)) tk q' DK' DL'
        rw [e]
        exact hQ'
end
/-- the keys of a repeat -/
def me_rk (sz : Nat → Nat) (st : Nat → Nat → Int32) : List Int32 := me_lst (sz 5) (st 5) ++ (if st 5 0 = 99 ∨ st 5 0 = 105 ∨ st 5 0 = 97 ∨ st 5 0 = 111 then me_lst (sz 6) (st 6) ++ [27] else [])
theorem me_getD_app {l l' : List Int32} {i : Nat} : (l ++ l').getD i 0 = if i < l.length then l.getD i 0 else l'.getD (i - l.length) 0 := by
  by_cases h : i < l.length
  · rw [if_pos h, List.getD_eq_getElem?_getD, List.getD_eq_getElem?_getD, List.getElem?_append_left h]
  · rw [if_neg h, List.getD_eq_getElem?_getD, List.getD_eq_getElem?_getD, List.getElem?_append_right (by omega)]
section
variable {tcap : Nat} {ncap : Nat} {lvs : Nat} {t : Nat → Int32} {len : Nat} {cur : Nat} {mks : Nat → Option Nat} {kd : Nat → Nat} {sz : Nat → Nat} {st : Nat → Nat → Int32} {cnt : Nat} {now : Nat} {par : Nat → Option Nat} {rd : Nat → Option Nat} {nt : Nat → Nat → Int32} {nl : Nat → Nat} {nc : Nat → Nat} {nm : Nat → Nat → Option Nat} {reg : Option Nat} {k1 : Nat} {op : Int32} {k2 : Nat} {wt : Int32} {ss : Option Nat} {cp : Nat} {rr : Option Nat} {cr : Option Nat} {cc : Nat} {fr : List (List Int32 × Nat × Nat × Nat)} {kl : Nat} {tk : Nat}
theorem me_rk_len : (me_rk sz st).length = sz 5 + (if st 5 0 = 99 ∨ st 5 0 = 105 ∨ st 5 0 = 97 ∨ st 5 0 = 111 then sz 6 + 1 else 0) := by
  unfold me_rk
  rw [List.length_append, me_lst_len]
  split
  · rw [List.length_append, me_lst_len]; rfl
  · rfl
theorem me_rk_vk (hG : me_IG kd sz st) {x : Int32} (hx : x ∈ me_rk sz st) : me_vk x := by
  unfold me_rk at hx
  rcases List.mem_append.mp hx with hx | hx
  · obtain ⟨i, hi, rfl⟩ := me_lst_mem hx
    exact (hG.2.1 5 (by omega)).2 i hi
  · split at hx
    · rcases List.mem_append.mp hx with hx | hx
      · obtain ⟨i, hi, rfl⟩ := me_lst_mem hx
        exact (hG.2.1 6 (by omega)).2 i hi
      · have : x = 27 := by simpa using hx
        rw [this]
        exact ⟨27, rfl, by omega, by omega⟩
    · cases hx
theorem me_CH3 {n : Nat} {s : Nat → Int32} (h : me_CH n s) : n ≤ 3 := by
  rcases h with h | h | h | h <;> omega
theorem me_inv_rp (I : me_Inv (tcap, ncap, lvs, t, len, cur, mks, kd, sz, st, cnt, now, par, rd, nt, nl, nc, nm, reg, k1, op, k2, wt, ss, cp, rr, cr, cc, fr, kl, tk)) (h0 : 0 < sz 5) : me_Inv (me_rp (tcap, ncap, lvs, t, len, cur, mks, kd, sz, st, cnt, now, par, rd, nt, nl, nc, nm, reg, k1, op, k2, wt, ss, cp, rr, cr, cc, fr, kl, tk) (me_rk sz st, 0, 1, 5)) := by
  obtain ⟨hA, hT, hG, hN, ⟨k0, k1', k2', k3⟩, ⟨s1, s2, s3, s4, s5⟩, hF⟩ := I
  refine ⟨hA, hT, hG, hN, ⟨s4, ?_, by omega, Or.inl rfl, Or.inl rfl, fun h => absurd h (by decide)⟩, ⟨s1, s2, s3, s4, s5⟩, fun f hf => ?_⟩
  · split <;> omega
  · rcases List.mem_cons.mp hf with rfl | hf
    · have h3 := me_CH3 hG.2.2.2
      have h6 := (hG.2.1 6 (by omega)).1
      have hl := me_rk_len (sz := sz) (st := st)
      refine ⟨by show (me_rk _ _).length ≤ 40; rw [hl]; split <;> omega, by show 0 < (me_rk _ _).length; omega, by show 1 ≤ 32; omega, by show 5 ≤ 5; omega, fun x hx => me_rk_vk hG hx⟩
    · exact hF f hf
/-- the key . -/
theorem me_repeat {x3 : Int32} (I : me_Inv (tcap, ncap, lvs, t, len, cur, mks, kd, sz, st, cnt, now, par, rd, nt, nl, nc, nm, reg, k1, op, k2, wt, ss, cp, rr, cr, cc, fr, kl, tk)) (hkl : kl ≤ 4) (hfl : fr.length = kl) :
    me_Cmd (tcap, ncap, lvs, t, len, cur, mks, kd, sz, st, cnt, now, par, rd, nt, nl, nc, nm, reg, k1, op, k2, wt, ss, cp, rr, cr, cc, fr, kl, tk) (fun c' => c' = me_rp (tcap, ncap, lvs, t, len, cur, mks, kd, sz, st, cnt, now, par, rd, nt, nl, nc, nm, reg, k1, op, k2, wt, ss, cp, rr, cr, cc, fr, kl, tk) (me_rk sz st, 0, 1, 5) ∧ 0 < sz 5) (fun post u => wpX_repeat post u) (fun post v => me_w279 46 x3 post v) := by
  have I' := I
  obtain ⟨⟨a1, a2, a3, a4, a5, a6⟩, hIT, hIG, hIN, ⟨hr, hk1, hk2, _⟩, ⟨s1, s2, s3, s4, s5⟩, hIF⟩ := I
  have h3 := me_CH3 hIG.2.2.2
  have h6 := (hIG.2.1 6 (by omega)).1
  have hl40 : ∀ f, f ∈ fr → f.1.length ≤ 40 := fun f h => (hIF f h).1
  by_cases h5 : sz 5 = 0
  · refine Or.inr (Or.inr ⟨me_mkX fun post f_spanFrom f_spanTo f_spanTextEnd f_spanKind a_text a_marks a_regKinds a_regLens a_regCodes a_nodeParent a_nodeRedo a_nodeLen a_nodeCur a_nodeMarks a_nodeText a_recCodes a_chKeys a_chText a_frameCodes a_frameLen a_framePos a_frameTimes a_frameLevel hT hG hN hF H => ?_, (tcap, ncap, lvs, t, len, cur, mks, kd, sz, st, cnt, now, par, rd, nt, nl, nc, nm, reg, k1, op, k2, wt, ss, cp, rr, cr, cc, fr, kl, tk), rfl, me_mkY fun post q a_text a_marks a_info a_held a_strips a_size a_kind a_dueKey a_dueLevel hT hG hN hQ H => ?_⟩)
    · refine br_t ?_ (H _ (me_inX hT hG hN hF))
      rw [h5]; rfl
    · refine br_f (by decide) (br_f (by decide) (br_f (by decide) (br_f (by decide) (br_f (by decide) (br_f (by decide) (br_f (by decide) (br_f (by decide) (br_f (by decide) (br_f (by decide) (br_f (by decide) (br_f (by decide) (br_t rfl (br_t ?_ (H _ (me_inY hT hG hN hQ)))))))))))))))
      rw [(hG.1 5 (by omega)).1, h5]; rfl
  · have h5' : 0 < sz 5 := by omega
    refine Or.inl ⟨me_rp (tcap, ncap, lvs, t, len, cur, mks, kd, sz, st, cnt, now, par, rd, nt, nl, nc, nm, reg, k1, op, k2, wt, ss, cp, rr, cr, cc, fr, kl, tk) (me_rk sz st, 0, 1, 5), me_inv_rp I' h5', ⟨rfl, h5'⟩, me_mkX fun post f_spanFrom f_spanTo f_spanTextEnd f_spanKind a_text a_marks a_regKinds a_regLens a_regCodes a_nodeParent a_nodeRedo a_nodeLen a_nodeCur a_nodeMarks a_nodeText a_recCodes a_chKeys a_chText a_frameCodes a_frameLen a_framePos a_frameTimes a_frameLevel hT hG hN hF H => ?_, me_mkY fun post q a_text a_marks a_info a_held a_strips a_size a_kind a_dueKey a_dueLevel hT hG hN hQ H => ?_⟩
    · have hg5 : ∀ i, i < sz 5 → a_chKeys i = (me_rk sz st).getD i 0 := fun i hi => by
        unfold me_rk
        rw [me_getD_app, me_lst_len, if_pos hi, me_lst_get _ hi]
        exact hG.2.2.1 i hi
      have hk0 : a_chKeys 0 = st 5 0 := hG.2.2.1 0 h5'
      have hpush := me_FX_push (codes := me_rk sz st) (n := 1) (lv := 5) (g := fun i => (me_rk sz st).getD i 0) hF hl40 (fun i hi => rfl)
      have k35 : ∀ z : Int32, z = nI (if k1 = 0 then cc else k1) → wX_repeat_35 post z (nI tcap) (nI ncap) (nI lvs) (nI len) (nI cur) (nI cnt) (nI now) (me_o reg) (nI k1) op (nI k2) wt (me_o ss) (nI cp) (me_o rr) (nI (sz 4)) (nI (sz 5)) (nI (sz 6)) (me_o cr) (nI cc) (nI fr.length) (nI kl) f_spanFrom f_spanTo f_spanTextEnd f_spanKind a_text a_marks a_regKinds a_regLens a_regCodes a_nodeParent a_nodeRedo a_nodeLen a_nodeCur a_nodeMarks a_nodeText a_recCodes a_chKeys a_chText a_frameCodes a_frameLen a_framePos a_frameTimes a_frameLevel := by
        intro z hz
        subst hz
        refine xe_drop (xe_pushFrame (m := fr.length) (by omega) ⟨sz 5 + 1, ?_⟩)
        have k61 := fun H' => xe_repeat_61 (post := post) (f_textCap := nI tcap) (f_nodeCap := nI ncap) (f_levels := nI lvs) (f_len := nI len) (f_cur := nI cur) (f_nodeCount := nI cnt) (f_node := nI now) (f_reg := me_o cr) (f_c1 := nI (if k1 = 0 then cc else k1)) (f_op := 0) (f_c2 := 0) (f_waiting := 0) (f_sessionStart := me_o ss) (f_copies := nI cp) (f_recReg := me_o rr) (f_recLen := nI (sz 4)) (f_chTextLen := nI (sz 6)) (f_chReg := me_o cr) (f_chCount := nI cc) (f_keyLevel := nI kl) (f_spanFrom := f_spanFrom) (f_spanTo := f_spanTo) (f_spanTextEnd := f_spanTextEnd) (f_spanKind := f_spanKind) (a_text := a_text) (a_marks := a_marks) (a_regKinds := a_regKinds) (a_regLens := a_regLens) (a_regCodes := a_regCodes) (a_nodeParent := a_nodeParent) (a_nodeRedo := a_nodeRedo) (a_nodeLen := a_nodeLen) (a_nodeCur := a_nodeCur) (a_nodeMarks := a_nodeMarks) (a_nodeText := a_nodeText) (a_recCodes := a_recCodes) (a_chKeys := a_chKeys) (a_chText := a_chText) (a_frameCodes := a_frameCodes) (a_frameLen := upd a_frameLen fr.length 0) (a_framePos := upd a_framePos fr.length 0) (a_frameTimes := upd a_frameTimes fr.length 1) (a_frameLevel := upd a_frameLevel fr.length 5) (m := fr.length) (by omega) h3 hg5 H' (sz 5) 0 (by omega)
        rw [me_cp_0, me_uu, me_uu] at k61
        refine k61 ?_
        by_cases hc : st 5 0 = 99 ∨ st 5 0 = 105 ∨ st 5 0 = 97 ∨ st 5 0 = 111
        · have hrk : me_rk sz st = me_lst (sz 5) (st 5) ++ (me_lst (sz 6) (st 6) ++ [27]) := by unfold me_rk; rw [if_pos hc]
          have hlen : (me_rk sz st).length = sz 5 + sz 6 + 1 := by rw [me_rk_len, if_pos hc]; omega
          have hg6 : ∀ i, i < sz 6 → a_chText i = (me_rk sz st).getD (sz 5 + i) 0 := fun i hi => by
            rw [hrk, me_getD_app, me_lst_len, if_neg (by omega), Nat.add_sub_cancel_left, me_getD_app, me_lst_len, if_pos hi, me_lst_get _ hi]
            exact hG.2.2.2 i hi
          have h27 : (me_rk sz st).getD (sz 5 + sz 6) 0 = 27 := by
            rw [hrk, me_getD_app, me_lst_len, if_neg (by omega), Nat.add_sub_cancel_left, me_getD_app, me_lst_len, if_neg (by omega), Nat.sub_self]
            rfl
          have k118 := fun H' => xe_repeat_118 (post := post) (f_textCap := nI tcap) (f_nodeCap := nI ncap) (f_levels := nI lvs) (f_len := nI len) (f_cur := nI cur) (f_nodeCount := nI cnt) (f_node := nI now) (f_reg := me_o cr) (f_c1 := nI (if k1 = 0 then cc else k1)) (f_op := 0) (f_c2 := 0) (f_waiting := 0) (f_sessionStart := me_o ss) (f_copies := nI cp) (f_recReg := me_o rr) (f_recLen := nI (sz 4)) (f_chKeyLen := nI (sz 5)) (f_chReg := me_o cr) (f_chCount := nI cc) (f_keyLevel := nI kl) (f_spanFrom := f_spanFrom) (f_spanTo := f_spanTo) (f_spanTextEnd := f_spanTextEnd) (f_spanKind := f_spanKind) (a_text := a_text) (a_marks := a_marks) (a_regKinds := a_regKinds) (a_regLens := a_regLens) (a_regCodes := a_regCodes) (a_nodeParent := a_nodeParent) (a_nodeRedo := a_nodeRedo) (a_nodeLen := a_nodeLen) (a_nodeCur := a_nodeCur) (a_nodeMarks := a_nodeMarks) (a_nodeText := a_nodeText) (a_recCodes := a_recCodes) (a_chKeys := a_chKeys) (a_chText := a_chText) (a_frameCodes := a_frameCodes) (a_frameLen := a_frameLen) (a_framePos := upd a_framePos fr.length 0) (a_frameTimes := upd a_frameTimes fr.length 1) (a_frameLevel := upd a_frameLevel fr.length 5) (m := fr.length) (b := sz 5) (g := fun i => (me_rk sz st).getD i 0) (by omega) h3 h6 hg6 h27 H' (sz 6) 0 (by omega)
          rw [Nat.add_zero] at k118
          have R : ∃ n118, wX_repeat_118 post n118 0 (nI tcap) (nI ncap) (nI lvs) (nI len) (nI cur) (nI cnt) (nI now) (me_o cr) (nI (if k1 = 0 then cc else k1)) 0 0 0 (me_o ss) (nI cp) (me_o rr) (nI (sz 4)) (nI (sz 5)) (nI (sz 6)) (me_o cr) (nI cc) (nI (fr.length + 1)) (nI kl) f_spanFrom f_spanTo f_spanTextEnd f_spanKind a_text a_marks a_regKinds a_regLens a_regCodes a_nodeParent a_nodeRedo a_nodeLen a_nodeCur a_nodeMarks a_nodeText a_recCodes a_chKeys a_chText (me_cp a_frameCodes (fr.length * 40) (sz 5) (fun i => (me_rk sz st).getD i 0)) (upd a_frameLen fr.length (nI (sz 5))) (upd a_framePos fr.length 0) (upd a_frameTimes fr.length 1) (upd a_frameLevel fr.length 5) := by
            refine ⟨sz 6 + 1, k118 (H _ (me_inX hT hG hN ?_))⟩
            rw [hlen] at hpush
            exact hpush
          refine br_t (nI_le (by omega) (by omega)) (nm_r hk0 (br_c (fun _ => R) (fun w1 => br_c (fun _ => R) (fun w2 => br_c (fun _ => R) (fun w3 => br_t ?_ R)))))
          exact ((hc.resolve_left w1).resolve_left w2).resolve_left w3
        · have hlen : (me_rk sz st).length = sz 5 := by rw [me_rk_len, if_neg hc]; omega
          refine br_t (nI_le (by omega) (by omega)) (nm_r hk0 (br_f (fun w => hc (Or.inl w)) (br_f (fun w => hc (Or.inr (Or.inl w))) (br_f (fun w => hc (Or.inr (Or.inr (Or.inl w)))) (br_f (fun w => hc (Or.inr (Or.inr (Or.inr w)))) (H _ (me_inX hT hG hN ?_)))))))
          rw [hlen] at hpush
          exact hpush
      refine br_f (nI_ne0 h5' (by omega)) (br_t (nI_lt (b := 5) (by omega) (by omega)) (pk_eq k1 0 (fun e => k35 _ ?_) (fun e => k35 _ ?_)))
      · rw [if_pos e]
      · rw [if_neg e]
    · have hk0 : a_strips 160 = st 5 0 := (hG.1 5 (by omega)).2 0 h5'
      have e5 := hG.1 5 (by omega)
      have e6 := hG.1 6 (by omega)
      have hp : me_pend ((me_rk sz st, 0, 1, 5) :: fr) = (me_rk sz st).map (fun x => (x, 0)) ++ me_pend fr := by
        rw [me_pend_push _ _ _ _ (by omega)]
        show ([me_rk sz st].flatten).map (fun x => (x, 0)) ++ me_pend fr = _
        rw [List.flatten_cons, List.flatten_nil, List.append_nil]
      have k541 : ∀ (q : Nat) (DK DL : Nat → Int32) (l : List (Int32 × Nat)), (me_lst (sz 5) (st 5)).map (fun x => (x, 0)) ++ l = (me_rk sz st).map (fun x => (x, 0)) ++ me_pend fr → me_QY l tk q DK DL → wY_command_541 post (nI tcap) (nI ncap) (nI lvs) (nI len) (nI cur) (nI now) (nI cnt) (nI q) (nI (if k1 = 0 then cc else k1)) 0 0 0 (nI cp) (nI cc) (me_o cr) (me_o ss) (me_o rr) (me_o cr) a_text a_marks a_info a_held a_strips a_size a_kind DK DL := by
        intro q DK DL l hl hQ'
        refine ye_replay (r := 5) (lv := 0) (n := sz 5) (g := st 5) (by omega) (by omega) e5.1 e5.2 hQ' (fun q' DK' DL' hQ2 => H _ (me_inY hT hG hN ?_))
        rw [hp, ← hl]
        exact hQ2
      have k469 : ∀ z : Int32, z = nI (if k1 = 0 then cc else k1) → wY_command_469 post z (nI tcap) (nI ncap) (nI lvs) (nI len) (nI cur) (nI now) (nI cnt) (nI q) (nI k1) op (nI k2) wt (nI cp) (nI cc) (me_o reg) (me_o ss) (me_o rr) (me_o cr) a_text a_marks a_info a_held a_strips a_size a_kind a_dueKey a_dueLevel := by
        intro z hz
        subst hz
        refine nm_r hk0 ?_
        by_cases hc : st 5 0 = 99 ∨ st 5 0 = 105 ∨ st 5 0 = 97 ∨ st 5 0 = 111
        · have hrk : me_rk sz st = me_lst (sz 5) (st 5) ++ (me_lst (sz 6) (st 6) ++ [27]) := by unfold me_rk; rw [if_pos hc]
          have R : wY_command_527 post (nI tcap) (nI ncap) (nI lvs) (nI len) (nI cur) (nI now) (nI cnt) (nI q) (nI (if k1 = 0 then cc else k1)) 0 0 0 (nI cp) (nI cc) (me_o cr) (me_o ss) (me_o rr) (me_o cr) a_text a_marks a_info a_held a_strips a_size a_kind a_dueKey a_dueLevel := by
            refine ye_due (lv := 0) hQ (fun q1 DK1 DL1 hQ1 => ye_replay (r := 6) (lv := 0) (n := sz 6) (g := st 6) (by omega) (by omega) e6.1 e6.2 hQ1 (fun q2 DK2 DL2 hQ2 => k541 q2 DK2 DL2 _ ?_ hQ2))
            rw [hrk, List.map_append, List.map_append, List.append_assoc, List.append_assoc]
            rfl
          refine br_c (fun _ => R) (fun w1 => br_c (fun _ => R) (fun w2 => br_c (fun _ => R) (fun w3 => br_t ?_ R)))
          exact ((hc.resolve_left w1).resolve_left w2).resolve_left w3
        · have hrk : me_rk sz st = me_lst (sz 5) (st 5) := by unfold me_rk; rw [if_neg hc, List.append_nil]
          exact br_f (fun w => hc (Or.inl w)) (br_f (fun w => hc (Or.inr (Or.inl w))) (br_f (fun w => hc (Or.inr (Or.inr (Or.inl w)))) (br_f (fun w => hc (Or.inr (Or.inr (Or.inr w)))) (k541 q a_dueKey a_dueLevel (me_pend fr) (by rw [hrk]) hQ))))
      refine br_f (by decide) (br_f (by decide) (br_f (by decide) (br_f (by decide) (br_f (by decide) (br_f (by decide) (br_f (by decide) (br_f (by decide) (br_f (by decide) (br_f (by decide) (br_f (by decide) (br_f (by decide) (br_t rfl (br_f ?_ (pk_eq k1 0 (fun e => k469 _ ?_) (fun e => k469 _ ?_)))))))))))))))
      · rw [e5.1]; exact nI_ne0 h5' (by omega)
      · rw [if_pos e]
      · rw [if_neg e]
end
end
section
/-! plain commands by their keys -/
section
variable {tcap : Nat} {ncap : Nat} {lvs : Nat} {t : Nat → Int32} {len : Nat} {cur : Nat} {mks : Nat → Option Nat} {kd : Nat → Nat} {sz : Nat → Nat} {st : Nat → Nat → Int32} {cnt : Nat} {now : Nat} {par : Nat → Option Nat} {rd : Nat → Option Nat} {nt : Nat → Nat → Int32} {nl : Nat → Nat} {nc : Nat → Nat} {nm : Nat → Nat → Option Nat} {reg : Option Nat} {k1 : Nat} {op : Int32} {k2 : Nat} {wt : Int32} {ss : Option Nat} {cp : Nat} {rr : Option Nat} {cr : Option Nat} {cc : Nat} {fr : List (List Int32 × Nat × Nat × Nat)} {kl : Nat} {tk : Nat}
theorem me_ck_34 {rep : Int32} (I : me_Inv (tcap, ncap, lvs, t, len, cur, mks, kd, sz, st, cnt, now, par, rd, nt, nl, nc, nm, reg, k1, op, k2, wt, ss, cp, rr, cr, cc, fr, kl, tk)) (hss : ss = none) (hwt : wt = 0) (ho : op = 0) :
    me_Cmd (tcap, ncap, lvs, t, len, cur, mks, kd, sz, st, cnt, now, par, rd, nt, nl, nc, nm, reg, k1, op, k2, wt, ss, cp, rr, cr, cc, fr, kl, tk) (fun c' => c' = (tcap, ncap, lvs, t, len, cur, mks, kd, sz, st, cnt, now, par, rd, nt, nl, nc, nm, reg, k1, op, k2, 34, ss, cp, rr, cr, cc, fr, kl, tk)) (fun post u => wpX_commandKey post u 34) (fun post v => wpY_command post v 34 rep) := by
  have hk1 := I.2.2.2.2.1.2.1
  have hk2 := I.2.2.2.2.1.2.2.1
  refine Or.inl ⟨(tcap, ncap, lvs, t, len, cur, mks, kd, sz, st, cnt, now, par, rd, nt, nl, nc, nm, reg, k1, op, k2, 34, ss, cp, rr, cr, cc, fr, kl, tk), ⟨I.1, I.2.1, I.2.2.1, I.2.2.2.1, ⟨I.2.2.2.2.1.1, hk1, hk2, I.2.2.2.2.1.2.2.2.1, Or.inr (Or.inl rfl), fun h => absurd h (by decide)⟩, I.2.2.2.2.2⟩, rfl, me_mkX fun post f_spanFrom f_spanTo f_spanTextEnd f_spanKind a_text a_marks a_regKinds a_regLens a_regCodes a_nodeParent a_nodeRedo a_nodeLen a_nodeCur a_nodeMarks a_nodeText a_recCodes a_chKeys a_chText a_frameCodes a_frameLen a_framePos a_frameTimes a_frameLevel hT hG hN hF H => ?_, me_mkY fun post q a_text a_marks a_info a_held a_strips a_size a_kind a_dueKey a_dueLevel hT hG hN hQ H => ?_⟩
  · exact br_f (by decide) (br_t hwt (br_t ho (br_t (by decide) (br_t rfl (br_t ho (br_f (by decide) (br_f (by decide) (br_f (by decide) (br_f (by decide) (br_f (by decide) (br_f (by decide) (br_f (by decide) (br_f (by decide) (br_t rfl (br_t rfl (H _ (me_inX hT hG hN hF)))))))))))))))))
  · exact ye_times hk1 hk2 (br_t ho (br_f (by decide) (br_t (by decide) (br_f (by decide) (br_f (by decide) (br_f (by decide) (br_f (by decide) (br_f (by decide) (br_f (by decide) (br_f (by decide) (br_f (by decide) (br_f (by decide) (br_t rfl (br_f (fun e => absurd (e.trans ho) (by decide)) (br_t rfl (br_f (by decide) (br_f (by decide) (br_t ho (br_f (by decide) (H _ (me_inY hT hG hN hQ)))))))))))))))))))))
theorem me_ck_102 {rep : Int32} (I : me_Inv (tcap, ncap, lvs, t, len, cur, mks, kd, sz, st, cnt, now, par, rd, nt, nl, nc, nm, reg, k1, op, k2, wt, ss, cp, rr, cr, cc, fr, kl, tk)) (hss : ss = none) (hwt : wt = 0) (ho : op = 0) :
    me_Cmd (tcap, ncap, lvs, t, len, cur, mks, kd, sz, st, cnt, now, par, rd, nt, nl, nc, nm, reg, k1, op, k2, wt, ss, cp, rr, cr, cc, fr, kl, tk) (fun c' => c' = (tcap, ncap, lvs, t, len, cur, mks, kd, sz, st, cnt, now, par, rd, nt, nl, nc, nm, reg, k1, op, k2, 102, ss, cp, rr, cr, cc, fr, kl, tk)) (fun post u => wpX_commandKey post u 102) (fun post v => wpY_command post v 102 rep) := by
  have hk1 := I.2.2.2.2.1.2.1
  have hk2 := I.2.2.2.2.1.2.2.1
  refine Or.inl ⟨(tcap, ncap, lvs, t, len, cur, mks, kd, sz, st, cnt, now, par, rd, nt, nl, nc, nm, reg, k1, op, k2, 102, ss, cp, rr, cr, cc, fr, kl, tk), ⟨I.1, I.2.1, I.2.2.1, I.2.2.2.1, ⟨I.2.2.2.2.1.1, hk1, hk2, I.2.2.2.2.1.2.2.2.1, Or.inr (Or.inr (Or.inr (Or.inr (Or.inl rfl)))), fun h => absurd h (by decide)⟩, I.2.2.2.2.2⟩, rfl, me_mkX fun post f_spanFrom f_spanTo f_spanTextEnd f_spanKind a_text a_marks a_regKinds a_regLens a_regCodes a_nodeParent a_nodeRedo a_nodeLen a_nodeCur a_nodeMarks a_nodeText a_recCodes a_chKeys a_chText a_frameCodes a_frameLen a_framePos a_frameTimes a_frameLevel hT hG hN hF H => ?_, me_mkY fun post q a_text a_marks a_info a_held a_strips a_size a_kind a_dueKey a_dueLevel hT hG hN hQ H => ?_⟩
  · exact br_f (by decide) (br_t hwt (br_t ho (br_f (by decide) (br_t (by decide) (br_t rfl (br_t ho (br_f (by decide) (br_f (by decide) (br_f (by decide) (br_f (by decide) (br_f (by decide) (br_f (by decide) (br_f (by decide) (br_f (by decide) (br_t rfl (br_f (by decide) (br_f (by decide) (br_f (by decide) (br_f (by decide) (br_f (by decide) (br_f (by decide) (br_f (by decide) (br_f (by decide) (br_f (by decide) (br_t rfl (H _ (me_inX hT hG hN hF)))))))))))))))))))))))))))
  · exact ye_times hk1 hk2 (br_t ho (br_f (by decide) (br_f (by decide) (br_f (by decide) (br_f (by decide) (br_f (by decide) (br_f (by decide) (br_f (by decide) (br_f (by decide) (br_f (by decide) (br_f (by decide) (br_f (by decide) (br_f (by decide) (br_t rfl (br_f (fun e => absurd (e.trans ho) (by decide)) (br_f (by decide) (br_f (by decide) (br_f (by decide) (br_f (by decide) (br_t rfl (H _ (me_inY hT hG hN hQ))))))))))))))))))))))
theorem me_ck_96 {rep : Int32} (I : me_Inv (tcap, ncap, lvs, t, len, cur, mks, kd, sz, st, cnt, now, par, rd, nt, nl, nc, nm, reg, k1, op, k2, wt, ss, cp, rr, cr, cc, fr, kl, tk)) (hss : ss = none) (hwt : wt = 0) (ho : op = 0) :
    me_Cmd (tcap, ncap, lvs, t, len, cur, mks, kd, sz, st, cnt, now, par, rd, nt, nl, nc, nm, reg, k1, op, k2, wt, ss, cp, rr, cr, cc, fr, kl, tk) (fun c' => c' = (tcap, ncap, lvs, t, len, cur, mks, kd, sz, st, cnt, now, par, rd, nt, nl, nc, nm, reg, k1, op, k2, 96, ss, cp, rr, cr, cc, fr, kl, tk)) (fun post u => wpX_commandKey post u 96) (fun post v => wpY_command post v 96 rep) := by
  have hk1 := I.2.2.2.2.1.2.1
  have hk2 := I.2.2.2.2.1.2.2.1
  refine Or.inl ⟨(tcap, ncap, lvs, t, len, cur, mks, kd, sz, st, cnt, now, par, rd, nt, nl, nc, nm, reg, k1, op, k2, 96, ss, cp, rr, cr, cc, fr, kl, tk), ⟨I.1, I.2.1, I.2.2.1, I.2.2.2.1, ⟨I.2.2.2.2.1.1, hk1, hk2, I.2.2.2.2.1.2.2.2.1, Or.inr (Or.inr (Or.inr (Or.inl rfl))), fun h => absurd h (by decide)⟩, I.2.2.2.2.2⟩, rfl, me_mkX fun post f_spanFrom f_spanTo f_spanTextEnd f_spanKind a_text a_marks a_regKinds a_regLens a_regCodes a_nodeParent a_nodeRedo a_nodeLen a_nodeCur a_nodeMarks a_nodeText a_recCodes a_chKeys a_chText a_frameCodes a_frameLen a_framePos a_frameTimes a_frameLevel hT hG hN hF H => ?_, me_mkY fun post q a_text a_marks a_info a_held a_strips a_size a_kind a_dueKey a_dueLevel hT hG hN hQ H => ?_⟩
  · exact br_f (by decide) (br_t hwt (br_t ho (br_f (by decide) (br_t (by decide) (br_t rfl (br_t ho (br_f (by decide) (br_f (by decide) (br_f (by decide) (br_f (by decide) (br_f (by decide) (br_f (by decide) (br_f (by decide) (br_f (by decide) (br_t rfl (br_f (by decide) (br_f (by decide) (br_f (by decide) (br_f (by decide) (br_f (by decide) (br_t rfl (H _ (me_inX hT hG hN hF)))))))))))))))))))))))
  · exact ye_times hk1 hk2 (br_t ho (br_f (by decide) (br_f (by decide) (br_f (by decide) (br_f (by decide) (br_f (by decide) (br_f (by decide) (br_f (by decide) (br_f (by decide) (br_f (by decide) (br_f (by decide) (br_f (by decide) (br_f (by decide) (br_t rfl (br_f (fun e => absurd (e.trans ho) (by decide)) (br_f (by decide) (br_f (by decide) (br_f (by decide) (br_f (by decide) (br_f (by decide) (br_t rfl (H _ (me_inY hT hG hN hQ)))))))))))))))))))))))
theorem me_ck_109 {rep : Int32} (I : me_Inv (tcap, ncap, lvs, t, len, cur, mks, kd, sz, st, cnt, now, par, rd, nt, nl, nc, nm, reg, k1, op, k2, wt, ss, cp, rr, cr, cc, fr, kl, tk)) (hss : ss = none) (hwt : wt = 0) (ho : op = 0) :
    me_Cmd (tcap, ncap, lvs, t, len, cur, mks, kd, sz, st, cnt, now, par, rd, nt, nl, nc, nm, reg, k1, op, k2, wt, ss, cp, rr, cr, cc, fr, kl, tk) (fun c' => c' = (tcap, ncap, lvs, t, len, cur, mks, kd, sz, st, cnt, now, par, rd, nt, nl, nc, nm, reg, k1, op, k2, 109, ss, cp, rr, cr, cc, fr, kl, tk)) (fun post u => wpX_commandKey post u 109) (fun post v => wpY_command post v 109 rep) := by
  have hk1 := I.2.2.2.2.1.2.1
  have hk2 := I.2.2.2.2.1.2.2.1
  refine Or.inl ⟨(tcap, ncap, lvs, t, len, cur, mks, kd, sz, st, cnt, now, par, rd, nt, nl, nc, nm, reg, k1, op, k2, 109, ss, cp, rr, cr, cc, fr, kl, tk), ⟨I.1, I.2.1, I.2.2.1, I.2.2.2.1, ⟨I.2.2.2.2.1.1, hk1, hk2, I.2.2.2.2.1.2.2.2.1, Or.inr (Or.inr (Or.inr (Or.inr (Or.inr (Or.inr (Or.inl rfl)))))), fun h => absurd h (by decide)⟩, I.2.2.2.2.2⟩, rfl, me_mkX fun post f_spanFrom f_spanTo f_spanTextEnd f_spanKind a_text a_marks a_regKinds a_regLens a_regCodes a_nodeParent a_nodeRedo a_nodeLen a_nodeCur a_nodeMarks a_nodeText a_recCodes a_chKeys a_chText a_frameCodes a_frameLen a_framePos a_frameTimes a_frameLevel hT hG hN hF H => ?_, me_mkY fun post q a_text a_marks a_info a_held a_strips a_size a_kind a_dueKey a_dueLevel hT hG hN hQ H => ?_⟩
  · exact br_f (by decide) (br_t hwt (br_t ho (br_f (by decide) (br_t (by decide) (br_t rfl (br_t ho (br_f (by decide) (br_f (by decide) (br_f (by decide) (br_f (by decide) (br_f (by decide) (br_f (by decide) (br_f (by decide) (br_f (by decide) (br_t rfl (br_f (by decide) (br_f (by decide) (br_f (by decide) (br_f (by decide) (br_f (by decide) (br_f (by decide) (br_f (by decide) (br_f (by decide) (br_f (by decide) (br_f (by decide) (br_f (by decide) (br_t rfl (H _ (me_inX hT hG hN hF)))))))))))))))))))))))))))))
  · exact ye_times hk1 hk2 (br_t ho (br_f (by decide) (br_f (by decide) (br_f (by decide) (br_f (by decide) (br_f (by decide) (br_f (by decide) (br_f (by decide) (br_f (by decide) (br_f (by decide) (br_f (by decide) (br_f (by decide) (br_f (by decide) (br_t rfl (br_f (fun e => absurd (e.trans ho) (by decide)) (br_f (by decide) (br_t rfl (br_f (by decide) (br_f (by decide) (br_t ho (br_f (by decide) (H _ (me_inY hT hG hN hQ)))))))))))))))))))))))
theorem me_ck_64 {rep : Int32} (I : me_Inv (tcap, ncap, lvs, t, len, cur, mks, kd, sz, st, cnt, now, par, rd, nt, nl, nc, nm, reg, k1, op, k2, wt, ss, cp, rr, cr, cc, fr, kl, tk)) (hss : ss = none) (hwt : wt = 0) (ho : op = 0) :
    me_Cmd (tcap, ncap, lvs, t, len, cur, mks, kd, sz, st, cnt, now, par, rd, nt, nl, nc, nm, reg, k1, op, k2, wt, ss, cp, rr, cr, cc, fr, kl, tk) (fun c' => c' = (tcap, ncap, lvs, t, len, cur, mks, kd, sz, st, cnt, now, par, rd, nt, nl, nc, nm, reg, k1, op, k2, 64, ss, cp, rr, cr, cc, fr, kl, tk)) (fun post u => wpX_commandKey post u 64) (fun post v => wpY_command post v 64 rep) := by
  have hk1 := I.2.2.2.2.1.2.1
  have hk2 := I.2.2.2.2.1.2.2.1
  refine Or.inl ⟨(tcap, ncap, lvs, t, len, cur, mks, kd, sz, st, cnt, now, par, rd, nt, nl, nc, nm, reg, k1, op, k2, 64, ss, cp, rr, cr, cc, fr, kl, tk), ⟨I.1, I.2.1, I.2.2.1, I.2.2.2.1, ⟨I.2.2.2.2.1.1, hk1, hk2, I.2.2.2.2.1.2.2.2.1, Or.inr (Or.inr (Or.inl rfl)), fun h => absurd h (by decide)⟩, I.2.2.2.2.2⟩, rfl, me_mkX fun post f_spanFrom f_spanTo f_spanTextEnd f_spanKind a_text a_marks a_regKinds a_regLens a_regCodes a_nodeParent a_nodeRedo a_nodeLen a_nodeCur a_nodeMarks a_nodeText a_recCodes a_chKeys a_chText a_frameCodes a_frameLen a_framePos a_frameTimes a_frameLevel hT hG hN hF H => ?_, me_mkY fun post q a_text a_marks a_info a_held a_strips a_size a_kind a_dueKey a_dueLevel hT hG hN hQ H => ?_⟩
  · exact br_f (by decide) (br_t hwt (br_t ho (br_f (by decide) (br_t (by decide) (br_t rfl (br_t ho (br_f (by decide) (br_f (by decide) (br_f (by decide) (br_f (by decide) (br_f (by decide) (br_f (by decide) (br_f (by decide) (br_f (by decide) (br_t rfl (br_f (by decide) (br_f (by decide) (br_t rfl (H _ (me_inX hT hG hN hF))))))))))))))))))))
  · exact ye_times hk1 hk2 (br_t ho (br_f (by decide) (br_f (by decide) (br_f (by decide) (br_f (by decide) (br_f (by decide) (br_f (by decide) (br_f (by decide) (br_f (by decide) (br_f (by decide) (br_f (by decide) (br_f (by decide) (br_f (by decide) (br_t rfl (br_f (fun e => absurd (e.trans ho) (by decide)) (br_f (by decide) (br_f (by decide) (br_t rfl (br_f (by decide) (br_f (by decide) (br_t ho (br_f (by decide) (H _ (me_inY hT hG hN hQ))))))))))))))))))))))))
theorem me_ck_100 {rep : Int32} (I : me_Inv (tcap, ncap, lvs, t, len, cur, mks, kd, sz, st, cnt, now, par, rd, nt, nl, nc, nm, reg, k1, op, k2, wt, ss, cp, rr, cr, cc, fr, kl, tk)) (hss : ss = none) (hwt : wt = 0) (ho : op = 0) :
    me_Cmd (tcap, ncap, lvs, t, len, cur, mks, kd, sz, st, cnt, now, par, rd, nt, nl, nc, nm, reg, k1, op, k2, wt, ss, cp, rr, cr, cc, fr, kl, tk) (fun c' => c' = (tcap, ncap, lvs, t, len, cur, mks, kd, sz, st, cnt, now, par, rd, nt, nl, nc, nm, reg, k1, 100, k2, wt, ss, cp, rr, cr, cc, fr, kl, tk)) (fun post u => wpX_commandKey post u 100) (fun post v => wpY_command post v 100 rep) := by
  have hk1 := I.2.2.2.2.1.2.1
  have hk2 := I.2.2.2.2.1.2.2.1
  refine Or.inl ⟨(tcap, ncap, lvs, t, len, cur, mks, kd, sz, st, cnt, now, par, rd, nt, nl, nc, nm, reg, k1, 100, k2, wt, ss, cp, rr, cr, cc, fr, kl, tk), ⟨I.1, I.2.1, I.2.2.1, I.2.2.2.1, ⟨I.2.2.2.2.1.1, hk1, hk2, Or.inr (Or.inr (Or.inl rfl)), I.2.2.2.2.1.2.2.2.2.1, fun _ => by decide⟩, I.2.2.2.2.2⟩, rfl, me_mkX fun post f_spanFrom f_spanTo f_spanTextEnd f_spanKind a_text a_marks a_regKinds a_regLens a_regCodes a_nodeParent a_nodeRedo a_nodeLen a_nodeCur a_nodeMarks a_nodeText a_recCodes a_chKeys a_chText a_frameCodes a_frameLen a_framePos a_frameTimes a_frameLevel hT hG hN hF H => ?_, me_mkY fun post q a_text a_marks a_info a_held a_strips a_size a_kind a_dueKey a_dueLevel hT hG hN hQ H => ?_⟩
  · exact br_f (by decide) (br_t hwt (br_t ho (br_f (by decide) (br_t (by decide) (br_t rfl (br_t ho (br_f (by decide) (br_f (by decide) (br_f (by decide) (br_f (by decide) (br_f (by decide) (br_f (by decide) (br_f (by decide) (br_f (by decide) (br_t rfl (br_f (by decide) (br_f (by decide) (br_f (by decide) (br_f (by decide) (br_f (by decide) (br_f (by decide) (br_f (by decide) (br_f (by decide) (br_t rfl (H _ (me_inX hT hG hN hF))))))))))))))))))))))))))
  · exact ye_times hk1 hk2 (br_t ho (br_f (by decide) (br_f (by decide) (br_f (by decide) (br_f (by decide) (br_f (by decide) (br_f (by decide) (br_f (by decide) (br_f (by decide) (br_f (by decide) (br_f (by decide) (br_f (by decide) (br_f (by decide) (br_t rfl (br_f (fun e => absurd (e.trans ho) (by decide)) (br_f (by decide) (br_f (by decide) (br_f (by decide) (br_f (by decide) (br_f (by decide) (br_f (by decide) (br_t ho (br_t rfl (br_t ho (br_f (by decide) (br_t rfl (H _ (me_inY hT hG hN hQ))))))))))))))))))))))))))))
theorem me_ck_99 {rep : Int32} (I : me_Inv (tcap, ncap, lvs, t, len, cur, mks, kd, sz, st, cnt, now, par, rd, nt, nl, nc, nm, reg, k1, op, k2, wt, ss, cp, rr, cr, cc, fr, kl, tk)) (hss : ss = none) (hwt : wt = 0) (ho : op = 0) :
    me_Cmd (tcap, ncap, lvs, t, len, cur, mks, kd, sz, st, cnt, now, par, rd, nt, nl, nc, nm, reg, k1, op, k2, wt, ss, cp, rr, cr, cc, fr, kl, tk) (fun c' => c' = (tcap, ncap, lvs, t, len, cur, mks, kd, sz, st, cnt, now, par, rd, nt, nl, nc, nm, reg, k1, 99, k2, wt, ss, cp, rr, cr, cc, fr, kl, tk)) (fun post u => wpX_commandKey post u 99) (fun post v => wpY_command post v 99 rep) := by
  have hk1 := I.2.2.2.2.1.2.1
  have hk2 := I.2.2.2.2.1.2.2.1
  refine Or.inl ⟨(tcap, ncap, lvs, t, len, cur, mks, kd, sz, st, cnt, now, par, rd, nt, nl, nc, nm, reg, k1, 99, k2, wt, ss, cp, rr, cr, cc, fr, kl, tk), ⟨I.1, I.2.1, I.2.2.1, I.2.2.2.1, ⟨I.2.2.2.2.1.1, hk1, hk2, Or.inr (Or.inl rfl), I.2.2.2.2.1.2.2.2.2.1, fun _ => by decide⟩, I.2.2.2.2.2⟩, rfl, me_mkX fun post f_spanFrom f_spanTo f_spanTextEnd f_spanKind a_text a_marks a_regKinds a_regLens a_regCodes a_nodeParent a_nodeRedo a_nodeLen a_nodeCur a_nodeMarks a_nodeText a_recCodes a_chKeys a_chText a_frameCodes a_frameLen a_framePos a_frameTimes a_frameLevel hT hG hN hF H => ?_, me_mkY fun post q a_text a_marks a_info a_held a_strips a_size a_kind a_dueKey a_dueLevel hT hG hN hQ H => ?_⟩
  · exact br_f (by decide) (br_t hwt (br_t ho (br_f (by decide) (br_t (by decide) (br_t rfl (br_t ho (br_f (by decide) (br_f (by decide) (br_f (by decide) (br_f (by decide) (br_f (by decide) (br_f (by decide) (br_f (by decide) (br_f (by decide) (br_t rfl (br_f (by decide) (br_f (by decide) (br_f (by decide) (br_f (by decide) (br_f (by decide) (br_f (by decide) (br_f (by decide) (br_t rfl (H _ (me_inX hT hG hN hF)))))))))))))))))))))))))
  · exact ye_times hk1 hk2 (br_t ho (br_f (by decide) (br_f (by decide) (br_f (by decide) (br_f (by decide) (br_f (by decide) (br_f (by decide) (br_f (by decide) (br_f (by decide) (br_f (by decide) (br_f (by decide) (br_f (by decide) (br_f (by decide) (br_t rfl (br_f (fun e => absurd (e.trans ho) (by decide)) (br_f (by decide) (br_f (by decide) (br_f (by decide) (br_f (by decide) (br_f (by decide) (br_f (by decide) (br_t ho (br_t rfl (br_t ho (br_f (by decide) (br_f (by decide) (br_t rfl (H _ (me_inY hT hG hN hQ)))))))))))))))))))))))))))))
theorem me_ck_121 {rep : Int32} (I : me_Inv (tcap, ncap, lvs, t, len, cur, mks, kd, sz, st, cnt, now, par, rd, nt, nl, nc, nm, reg, k1, op, k2, wt, ss, cp, rr, cr, cc, fr, kl, tk)) (hss : ss = none) (hwt : wt = 0) (ho : op = 0) :
    me_Cmd (tcap, ncap, lvs, t, len, cur, mks, kd, sz, st, cnt, now, par, rd, nt, nl, nc, nm, reg, k1, op, k2, wt, ss, cp, rr, cr, cc, fr, kl, tk) (fun c' => c' = (tcap, ncap, lvs, t, len, cur, mks, kd, sz, st, cnt, now, par, rd, nt, nl, nc, nm, reg, k1, 121, k2, wt, ss, cp, rr, cr, cc, fr, kl, tk)) (fun post u => wpX_commandKey post u 121) (fun post v => wpY_command post v 121 rep) := by
  have hk1 := I.2.2.2.2.1.2.1
  have hk2 := I.2.2.2.2.1.2.2.1
  refine Or.inl ⟨(tcap, ncap, lvs, t, len, cur, mks, kd, sz, st, cnt, now, par, rd, nt, nl, nc, nm, reg, k1, 121, k2, wt, ss, cp, rr, cr, cc, fr, kl, tk), ⟨I.1, I.2.1, I.2.2.1, I.2.2.2.1, ⟨I.2.2.2.2.1.1, hk1, hk2, Or.inr (Or.inr (Or.inr rfl)), I.2.2.2.2.1.2.2.2.2.1, fun _ => by decide⟩, I.2.2.2.2.2⟩, rfl, me_mkX fun post f_spanFrom f_spanTo f_spanTextEnd f_spanKind a_text a_marks a_regKinds a_regLens a_regCodes a_nodeParent a_nodeRedo a_nodeLen a_nodeCur a_nodeMarks a_nodeText a_recCodes a_chKeys a_chText a_frameCodes a_frameLen a_framePos a_frameTimes a_frameLevel hT hG hN hF H => ?_, me_mkY fun post q a_text a_marks a_info a_held a_strips a_size a_kind a_dueKey a_dueLevel hT hG hN hQ H => ?_⟩
  · exact br_f (by decide) (br_t hwt (br_t ho (br_f (by decide) (br_t (by decide) (br_t rfl (br_t ho (br_f (by decide) (br_f (by decide) (br_f (by decide) (br_f (by decide) (br_f (by decide) (br_f (by decide) (br_f (by decide) (br_f (by decide) (br_t rfl (br_f (by decide) (br_f (by decide) (br_f (by decide) (br_f (by decide) (br_f (by decide) (br_f (by decide) (br_f (by decide) (br_f (by decide) (br_f (by decide) (br_f (by decide) (br_f (by decide) (br_f (by decide) (br_f (by decide) (br_f (by decide) (br_f (by decide) (br_f (by decide) (br_f (by decide) (br_t rfl (H _ (me_inX hT hG hN hF)))))))))))))))))))))))))))))))))))
  · exact ye_times hk1 hk2 (br_t ho (br_f (by decide) (br_f (by decide) (br_f (by decide) (br_f (by decide) (br_f (by decide) (br_f (by decide) (br_f (by decide) (br_f (by decide) (br_f (by decide) (br_f (by decide) (br_f (by decide) (br_f (by decide) (br_t rfl (br_f (fun e => absurd (e.trans ho) (by decide)) (br_f (by decide) (br_f (by decide) (br_f (by decide) (br_f (by decide) (br_f (by decide) (br_f (by decide) (br_t ho (br_t rfl (br_t ho (br_f (by decide) (br_f (by decide) (br_f (by decide) (br_t rfl (H _ (me_inY hT hG hN hQ))))))))))))))))))))))))))))))
theorem me_ck_112 {rep : Int32} (I : me_Inv (tcap, ncap, lvs, t, len, cur, mks, kd, sz, st, cnt, now, par, rd, nt, nl, nc, nm, reg, k1, op, k2, wt, ss, cp, rr, cr, cc, fr, kl, tk)) (hss : ss = none) (hwt : wt = 0) (ho : op = 0) :
    me_Cmd (tcap, ncap, lvs, t, len, cur, mks, kd, sz, st, cnt, now, par, rd, nt, nl, nc, nm, reg, k1, op, k2, wt, ss, cp, rr, cr, cc, fr, kl, tk) (fun c' => me_keep (tcap, ncap, lvs, t, len, cur, mks, kd, sz, st, cnt, now, par, rd, nt, nl, nc, nm, reg, k1, op, k2, wt, ss, cp, rr, cr, cc, fr, kl, tk) c') (fun post u => wpX_commandKey post u 112) (fun post v => wpY_command post v 112 rep) := by
  have hk1 := I.2.2.2.2.1.2.1
  have hk2 := I.2.2.2.2.1.2.2.1
  refine me_Cmd_W (me_put I hss (Or.inl rfl)) ?_ ?_
  · intro post u R
    refine me_elX (P := fun u => (∀ post' : Int32 → SX → Prop, (∀ r u, post r u → post' r u) → wpX_put post' u 112) → wpX_commandKey post u 112) R ?_
    intro f_spanFrom f_spanTo f_spanTextEnd f_spanKind a_text a_marks a_regKinds a_regLens a_regCodes a_nodeParent a_nodeRedo a_nodeLen a_nodeCur a_nodeMarks a_nodeText a_recCodes a_chKeys a_chText a_frameCodes a_frameLen a_framePos a_frameTimes a_frameLevel hT hG hN hF H
    exact br_f (by decide) (br_t hwt (br_t ho (br_f (by decide) (br_t (by decide) (br_t rfl (br_t ho (br_f (by decide) (br_f (by decide) (br_f (by decide) (br_f (by decide) (br_f (by decide) (br_f (by decide) (br_f (by decide) (br_f (by decide) (br_t rfl (br_f (by decide) (br_f (by decide) (br_f (by decide) (br_f (by decide) (br_f (by decide) (br_f (by decide) (br_f (by decide) (br_f (by decide) (br_f (by decide) (br_f (by decide) (br_f (by decide) (br_f (by decide) (br_f (by decide) (br_t rfl (H _ (me_impX fun _ _ _ _ _ _ _ _ _ _ _ _ _ _ _ _ _ _ _ _ _ _ _ _ _ _ _ _ _ _ _ _ _ _ _ _ _ _ _ _ _ _ _ _ _ _ h => h)))))))))))))))))))))))))))))))
  · intro post v R
    refine me_elY (P := fun v => (∀ post' : Int32 → SY → Prop, (∀ r u, post r u → post' r u) → wpY_put post' v 112 (nI (me_nt k1 k2))) → wpY_command post v 112 rep) R ?_
    intro q a_text a_marks a_info a_held a_strips a_size a_kind a_dueKey a_dueLevel hT hG hN hQ H
    exact ye_times hk1 hk2 (br_t ho (br_f (by decide) (br_f (by decide) (br_f (by decide) (br_f (by decide) (br_f (by decide) (br_f (by decide) (br_f (by decide) (br_f (by decide) (br_f (by decide) (br_f (by decide) (br_f (by decide) (br_f (by decide) (br_t rfl (br_f (fun e => absurd (e.trans ho) (by decide)) (br_f (by decide) (br_f (by decide) (br_f (by decide) (br_f (by decide) (br_f (by decide) (br_f (by decide) (br_t ho (br_t rfl (br_t ho (br_f (by decide) (br_f (by decide) (br_f (by decide) (br_f (by decide) (br_f (by decide) (br_f (by decide) (br_t rfl (H _ (me_impY fun _ _ _ _ _ _ _ _ _ _ _ _ _ _ _ _ _ _ _ _ _ _ _ _ _ _ _ _ h => h)))))))))))))))))))))))))))))))))
theorem me_ck_80 {rep : Int32} (I : me_Inv (tcap, ncap, lvs, t, len, cur, mks, kd, sz, st, cnt, now, par, rd, nt, nl, nc, nm, reg, k1, op, k2, wt, ss, cp, rr, cr, cc, fr, kl, tk)) (hss : ss = none) (hwt : wt = 0) (ho : op = 0) :
    me_Cmd (tcap, ncap, lvs, t, len, cur, mks, kd, sz, st, cnt, now, par, rd, nt, nl, nc, nm, reg, k1, op, k2, wt, ss, cp, rr, cr, cc, fr, kl, tk) (fun c' => me_keep (tcap, ncap, lvs, t, len, cur, mks, kd, sz, st, cnt, now, par, rd, nt, nl, nc, nm, reg, k1, op, k2, wt, ss, cp, rr, cr, cc, fr, kl, tk) c') (fun post u => wpX_commandKey post u 80) (fun post v => wpY_command post v 80 rep) := by
  have hk1 := I.2.2.2.2.1.2.1
  have hk2 := I.2.2.2.2.1.2.2.1
  refine me_Cmd_W (me_put I hss (Or.inr rfl)) ?_ ?_
  · intro post u R
    refine me_elX (P := fun u => (∀ post' : Int32 → SX → Prop, (∀ r u, post r u → post' r u) → wpX_put post' u 80) → wpX_commandKey post u 80) R ?_
    intro f_spanFrom f_spanTo f_spanTextEnd f_spanKind a_text a_marks a_regKinds a_regLens a_regCodes a_nodeParent a_nodeRedo a_nodeLen a_nodeCur a_nodeMarks a_nodeText a_recCodes a_chKeys a_chText a_frameCodes a_frameLen a_framePos a_frameTimes a_frameLevel hT hG hN hF H
    exact br_f (by decide) (br_t hwt (br_t ho (br_f (by decide) (br_t (by decide) (br_t rfl (br_t ho (br_f (by decide) (br_f (by decide) (br_f (by decide) (br_f (by decide) (br_f (by decide) (br_f (by decide) (br_f (by decide) (br_f (by decide) (br_t rfl (br_f (by decide) (br_f (by decide) (br_f (by decide) (br_t rfl (H _ (me_impX fun _ _ _ _ _ _ _ _ _ _ _ _ _ _ _ _ _ _ _ _ _ _ _ _ _ _ _ _ _ _ _ _ _ _ _ _ _ _ _ _ _ _ _ _ _ _ h => h)))))))))))))))))))))
  · intro post v R
    refine me_elY (P := fun v => (∀ post' : Int32 → SY → Prop, (∀ r u, post r u → post' r u) → wpY_put post' v 80 (nI (me_nt k1 k2))) → wpY_command post v 80 rep) R ?_
    intro q a_text a_marks a_info a_held a_strips a_size a_kind a_dueKey a_dueLevel hT hG hN hQ H
    exact ye_times hk1 hk2 (br_t ho (br_f (by decide) (br_f (by decide) (br_f (by decide) (br_f (by decide) (br_f (by decide) (br_f (by decide) (br_f (by decide) (br_f (by decide) (br_f (by decide) (br_f (by decide) (br_f (by decide) (br_f (by decide) (br_t rfl (br_f (fun e => absurd (e.trans ho) (by decide)) (br_f (by decide) (br_f (by decide) (br_f (by decide) (br_f (by decide) (br_f (by decide) (br_f (by decide) (br_t ho (br_t rfl (br_t ho (br_f (by decide) (br_f (by decide) (br_f (by decide) (br_f (by decide) (br_f (by decide) (br_f (by decide) (br_f (by decide) (br_t rfl (H _ (me_impY fun _ _ _ _ _ _ _ _ _ _ _ _ _ _ _ _ _ _ _ _ _ _ _ _ _ _ _ _ h => h))))))))))))))))))))))))))))))))))
theorem me_ck_105 {rep : Int32} (I : me_Inv (tcap, ncap, lvs, t, len, cur, mks, kd, sz, st, cnt, now, par, rd, nt, nl, nc, nm, reg, k1, op, k2, wt, ss, cp, rr, cr, cc, fr, kl, tk)) (hss : ss = none) (hwt : wt = 0) (ho : op = 0) :
    me_Cmd (tcap, ncap, lvs, t, len, cur, mks, kd, sz, st, cnt, now, par, rd, nt, nl, nc, nm, reg, k1, op, k2, wt, ss, cp, rr, cr, cc, fr, kl, tk) (fun c' => me_keep (tcap, ncap, lvs, t, len, cur, mks, kd, sz, st, cnt, now, par, rd, nt, nl, nc, nm, reg, k1, op, k2, wt, ss, cp, rr, cr, cc, fr, kl, tk) c' ∧ me_ss c' ≠ none) (fun post u => wpX_commandKey post u 105) (fun post v => wpY_command post v 105 rep) := by
  have hk1 := I.2.2.2.2.1.2.1
  have hk2 := I.2.2.2.2.1.2.2.1
  refine me_Cmd_W (me_open I (Or.inl rfl)) ?_ ?_
  · intro post u R
    refine me_elX (P := fun u => (∀ post' : Int32 → SX → Prop, (∀ r u, post r u → post' r u) → wpX_startSession post' u 105) → wpX_commandKey post u 105) R ?_
    intro f_spanFrom f_spanTo f_spanTextEnd f_spanKind a_text a_marks a_regKinds a_regLens a_regCodes a_nodeParent a_nodeRedo a_nodeLen a_nodeCur a_nodeMarks a_nodeText a_recCodes a_chKeys a_chText a_frameCodes a_frameLen a_framePos a_frameTimes a_frameLevel hT hG hN hF H
    exact br_f (by decide) (br_t hwt (br_t ho (br_f (by decide) (br_t (by decide) (br_t rfl (br_t ho (br_f (by decide) (br_f (by decide) (br_f (by decide) (br_f (by decide) (br_f (by decide) (br_f (by decide) (br_f (by decide) (br_f (by decide) (br_t rfl (br_f (by decide) (br_f (by decide) (br_f (by decide) (br_f (by decide) (br_f (by decide) (br_f (by decide) (br_f (by decide) (br_f (by decide) (br_f (by decide) (br_f (by decide) (br_t rfl (H _ (me_impX fun _ _ _ _ _ _ _ _ _ _ _ _ _ _ _ _ _ _ _ _ _ _ _ _ _ _ _ _ _ _ _ _ _ _ _ _ _ _ _ _ _ _ _ _ _ _ h => h))))))))))))))))))))))))))))
  · intro post v R
    refine me_elY (P := fun v => (∀ post' : Int32 → SY → Prop, (∀ r u, post r u → post' r u) → wpY_open post' v 105 (nI (me_nt k1 k2))) → wpY_command post v 105 rep) R ?_
    intro q a_text a_marks a_info a_held a_strips a_size a_kind a_dueKey a_dueLevel hT hG hN hQ H
    exact ye_times hk1 hk2 (br_t ho (br_f (by decide) (br_f (by decide) (br_f (by decide) (br_f (by decide) (br_f (by decide) (br_f (by decide) (br_f (by decide) (br_f (by decide) (br_f (by decide) (br_f (by decide) (br_f (by decide) (br_f (by decide) (br_t rfl (br_f (fun e => absurd (e.trans ho) (by decide)) (br_f (by decide) (br_f (by decide) (br_f (by decide) (br_f (by decide) (br_f (by decide) (br_f (by decide) (br_t ho (br_t rfl (br_t ho (br_f (by decide) (br_f (by decide) (br_f (by decide) (br_f (by decide) (br_f (by decide) (br_f (by decide) (br_f (by decide) (br_f (by decide) (br_t rfl (H _ (me_impY fun _ _ _ _ _ _ _ _ _ _ _ _ _ _ _ _ _ _ _ _ _ _ _ _ _ _ _ _ h => h)))))))))))))))))))))))))))))))))))
theorem me_ck_97 {rep : Int32} (I : me_Inv (tcap, ncap, lvs, t, len, cur, mks, kd, sz, st, cnt, now, par, rd, nt, nl, nc, nm, reg, k1, op, k2, wt, ss, cp, rr, cr, cc, fr, kl, tk)) (hss : ss = none) (hwt : wt = 0) (ho : op = 0) :
    me_Cmd (tcap, ncap, lvs, t, len, cur, mks, kd, sz, st, cnt, now, par, rd, nt, nl, nc, nm, reg, k1, op, k2, wt, ss, cp, rr, cr, cc, fr, kl, tk) (fun c' => me_keep (tcap, ncap, lvs, t, len, cur, mks, kd, sz, st, cnt, now, par, rd, nt, nl, nc, nm, reg, k1, op, k2, wt, ss, cp, rr, cr, cc, fr, kl, tk) c' ∧ me_ss c' ≠ none) (fun post u => wpX_commandKey post u 97) (fun post v => wpY_command post v 97 rep) := by
  have hk1 := I.2.2.2.2.1.2.1
  have hk2 := I.2.2.2.2.1.2.2.1
  refine me_Cmd_W (me_open I (Or.inr (Or.inl rfl))) ?_ ?_
  · intro post u R
    refine me_elX (P := fun u => (∀ post' : Int32 → SX → Prop, (∀ r u, post r u → post' r u) → wpX_startSession post' u 97) → wpX_commandKey post u 97) R ?_
    intro f_spanFrom f_spanTo f_spanTextEnd f_spanKind a_text a_marks a_regKinds a_regLens a_regCodes a_nodeParent a_nodeRedo a_nodeLen a_nodeCur a_nodeMarks a_nodeText a_recCodes a_chKeys a_chText a_frameCodes a_frameLen a_framePos a_frameTimes a_frameLevel hT hG hN hF H
    exact br_f (by decide) (br_t hwt (br_t ho (br_f (by decide) (br_t (by decide) (br_t rfl (br_t ho (br_f (by decide) (br_f (by decide) (br_f (by decide) (br_f (by decide) (br_f (by decide) (br_f (by decide) (br_f (by decide) (br_f (by decide) (br_t rfl (br_f (by decide) (br_f (by decide) (br_f (by decide) (br_f (by decide) (br_f (by decide) (br_f (by decide) (br_t rfl (H _ (me_impX fun _ _ _ _ _ _ _ _ _ _ _ _ _ _ _ _ _ _ _ _ _ _ _ _ _ _ _ _ _ _ _ _ _ _ _ _ _ _ _ _ _ _ _ _ _ _ h => h))))))))))))))))))))))))
  · intro post v R
    refine me_elY (P := fun v => (∀ post' : Int32 → SY → Prop, (∀ r u, post r u → post' r u) → wpY_open post' v 97 (nI (me_nt k1 k2))) → wpY_command post v 97 rep) R ?_
    intro q a_text a_marks a_info a_held a_strips a_size a_kind a_dueKey a_dueLevel hT hG hN hQ H
    exact ye_times hk1 hk2 (br_t ho (br_f (by decide) (br_f (by decide) (br_f (by decide) (br_f (by decide) (br_f (by decide) (br_f (by decide) (br_f (by decide) (br_f (by decide) (br_f (by decide) (br_f (by decide) (br_f (by decide) (br_f (by decide) (br_t rfl (br_f (fun e => absurd (e.trans ho) (by decide)) (br_f (by decide) (br_f (by decide) (br_f (by decide) (br_f (by decide) (br_f (by decide) (br_f (by decide) (br_t ho (br_t rfl (br_t ho (br_f (by decide) (br_f (by decide) (br_f (by decide) (br_f (by decide) (br_f (by decide) (br_f (by decide) (br_f (by decide) (br_f (by decide) (br_f (by decide) (br_t rfl (H _ (me_impY fun _ _ _ _ _ _ _ _ _ _ _ _ _ _ _ _ _ _ _ _ _ _ _ _ _ _ _ _ h => h))))))))))))))))))))))))))))))))))))
theorem me_ck_111 {rep : Int32} (I : me_Inv (tcap, ncap, lvs, t, len, cur, mks, kd, sz, st, cnt, now, par, rd, nt, nl, nc, nm, reg, k1, op, k2, wt, ss, cp, rr, cr, cc, fr, kl, tk)) (hss : ss = none) (hwt : wt = 0) (ho : op = 0) :
    me_Cmd (tcap, ncap, lvs, t, len, cur, mks, kd, sz, st, cnt, now, par, rd, nt, nl, nc, nm, reg, k1, op, k2, wt, ss, cp, rr, cr, cc, fr, kl, tk) (fun c' => me_keep (tcap, ncap, lvs, t, len, cur, mks, kd, sz, st, cnt, now, par, rd, nt, nl, nc, nm, reg, k1, op, k2, wt, ss, cp, rr, cr, cc, fr, kl, tk) c' ∧ me_ss c' ≠ none) (fun post u => wpX_commandKey post u 111) (fun post v => wpY_command post v 111 rep) := by
  have hk1 := I.2.2.2.2.1.2.1
  have hk2 := I.2.2.2.2.1.2.2.1
  refine me_Cmd_W (me_open I (Or.inr (Or.inr rfl))) ?_ ?_
  · intro post u R
    refine me_elX (P := fun u => (∀ post' : Int32 → SX → Prop, (∀ r u, post r u → post' r u) → wpX_startSession post' u 111) → wpX_commandKey post u 111) R ?_
    intro f_spanFrom f_spanTo f_spanTextEnd f_spanKind a_text a_marks a_regKinds a_regLens a_regCodes a_nodeParent a_nodeRedo a_nodeLen a_nodeCur a_nodeMarks a_nodeText a_recCodes a_chKeys a_chText a_frameCodes a_frameLen a_framePos a_frameTimes a_frameLevel hT hG hN hF H
    exact br_f (by decide) (br_t hwt (br_t ho (br_f (by decide) (br_t (by decide) (br_t rfl (br_t ho (br_f (by decide) (br_f (by decide) (br_f (by decide) (br_f (by decide) (br_f (by decide) (br_f (by decide) (br_f (by decide) (br_f (by decide) (br_t rfl (br_f (by decide) (br_f (by decide) (br_f (by decide) (br_f (by decide) (br_f (by decide) (br_f (by decide) (br_f (by decide) (br_f (by decide) (br_f (by decide) (br_f (by decide) (br_f (by decide) (br_f (by decide) (br_t rfl (H _ (me_impX fun _ _ _ _ _ _ _ _ _ _ _ _ _ _ _ _ _ _ _ _ _ _ _ _ _ _ _ _ _ _ _ _ _ _ _ _ _ _ _ _ _ _ _ _ _ _ h => h))))))))))))))))))))))))))))))
  · intro post v R
    refine me_elY (P := fun v => (∀ post' : Int32 → SY → Prop, (∀ r u, post r u → post' r u) → wpY_open post' v 111 (nI (me_nt k1 k2))) → wpY_command post v 111 rep) R ?_
    intro q a_text a_marks a_info a_held a_strips a_size a_kind a_dueKey a_dueLevel hT hG hN hQ H
    exact ye_times hk1 hk2 (br_t ho (br_f (by decide) (br_f (by decide) (br_f (by decide) (br_f (by decide) (br_f (by decide) (br_f (by decide) (br_f (by decide) (br_f (by decide) (br_f (by decide) (br_f (by decide) (br_f (by decide) (br_f (by decide) (br_t rfl (br_f (fun e => absurd (e.trans ho) (by decide)) (br_f (by decide) (br_f (by decide) (br_f (by decide) (br_f (by decide) (br_f (by decide) (br_f (by decide) (br_t ho (br_t rfl (br_t ho (br_f (by decide) (br_f (by decide) (br_f (by decide) (br_f (by decide) (br_f (by decide) (br_f (by decide) (br_f (by decide) (br_f (by decide) (br_f (by decide) (br_f (by decide) (br_t rfl (H _ (me_impY fun _ _ _ _ _ _ _ _ _ _ _ _ _ _ _ _ _ _ _ _ _ _ _ _ _ _ _ _ h => h)))))))))))))))))))))))))))))))))))))
theorem me_ck_117 {rep : Int32} (I : me_Inv (tcap, ncap, lvs, t, len, cur, mks, kd, sz, st, cnt, now, par, rd, nt, nl, nc, nm, reg, k1, op, k2, wt, ss, cp, rr, cr, cc, fr, kl, tk)) (hss : ss = none) (hwt : wt = 0) (ho : op = 0) :
    me_Cmd (tcap, ncap, lvs, t, len, cur, mks, kd, sz, st, cnt, now, par, rd, nt, nl, nc, nm, reg, k1, op, k2, wt, ss, cp, rr, cr, cc, fr, kl, tk) (fun c' => me_keep (tcap, ncap, lvs, t, len, cur, mks, kd, sz, st, cnt, now, par, rd, nt, nl, nc, nm, reg, k1, op, k2, wt, ss, cp, rr, cr, cc, fr, kl, tk) c') (fun post u => wpX_commandKey post u 117) (fun post v => wpY_command post v 117 rep) := by
  have hk1 := I.2.2.2.2.1.2.1
  have hk2 := I.2.2.2.2.1.2.2.1
  refine me_Cmd_W (me_undo I hss) ?_ ?_
  · intro post u R
    refine me_elX (P := fun u => (∀ post' : Int32 → SX → Prop, (∀ r u, post r u → post' r u) → wpX_undo post' u) → wpX_commandKey post u 117) R ?_
    intro f_spanFrom f_spanTo f_spanTextEnd f_spanKind a_text a_marks a_regKinds a_regLens a_regCodes a_nodeParent a_nodeRedo a_nodeLen a_nodeCur a_nodeMarks a_nodeText a_recCodes a_chKeys a_chText a_frameCodes a_frameLen a_framePos a_frameTimes a_frameLevel hT hG hN hF H
    exact br_f (by decide) (br_t hwt (br_t ho (br_f (by decide) (br_t (by decide) (br_t rfl (br_t ho (br_f (by decide) (br_f (by decide) (br_f (by decide) (br_f (by decide) (br_f (by decide) (br_f (by decide) (br_f (by decide) (br_f (by decide) (br_t rfl (br_f (by decide) (br_f (by decide) (br_f (by decide) (br_f (by decide) (br_f (by decide) (br_f (by decide) (br_f (by decide) (br_f (by decide) (br_f (by decide) (br_f (by decide) (br_f (by decide) (br_f (by decide) (br_f (by decide) (br_f (by decide) (br_f (by decide) (br_t rfl (H _ (me_impX fun _ _ _ _ _ _ _ _ _ _ _ _ _ _ _ _ _ _ _ _ _ _ _ _ _ _ _ _ _ _ _ _ _ _ _ _ _ _ _ _ _ _ _ _ _ _ h => h)))))))))))))))))))))))))))))))))
  · intro post v R
    refine me_elY (P := fun v => (∀ post' : Int32 → SY → Prop, (∀ r u, post r u → post' r u) → wpY_walk post' v 0 (nI (me_nt k1 k2))) → wpY_command post v 117 rep) R ?_
    intro q a_text a_marks a_info a_held a_strips a_size a_kind a_dueKey a_dueLevel hT hG hN hQ H
    exact ye_times hk1 hk2 (br_t ho (br_f (by decide) (br_f (by decide) (br_f (by decide) (br_f (by decide) (br_f (by decide) (br_f (by decide) (br_f (by decide) (br_f (by decide) (br_f (by decide) (br_f (by decide) (br_f (by decide) (br_f (by decide) (br_t rfl (br_f (fun e => absurd (e.trans ho) (by decide)) (br_f (by decide) (br_f (by decide) (br_f (by decide) (br_f (by decide) (br_f (by decide) (br_f (by decide) (br_t ho (br_t rfl (br_t ho (br_f (by decide) (br_f (by decide) (br_f (by decide) (br_f (by decide) (br_f (by decide) (br_f (by decide) (br_f (by decide) (br_f (by decide) (br_f (by decide) (br_f (by decide) (br_f (by decide) (br_t rfl (br_t rfl (H _ (me_impY fun _ _ _ _ _ _ _ _ _ _ _ _ _ _ _ _ _ _ _ _ _ _ _ _ _ _ _ _ h => h)))))))))))))))))))))))))))))))))))))))
theorem me_ck_85 {rep : Int32} (I : me_Inv (tcap, ncap, lvs, t, len, cur, mks, kd, sz, st, cnt, now, par, rd, nt, nl, nc, nm, reg, k1, op, k2, wt, ss, cp, rr, cr, cc, fr, kl, tk)) (hss : ss = none) (hwt : wt = 0) (ho : op = 0) :
    me_Cmd (tcap, ncap, lvs, t, len, cur, mks, kd, sz, st, cnt, now, par, rd, nt, nl, nc, nm, reg, k1, op, k2, wt, ss, cp, rr, cr, cc, fr, kl, tk) (fun c' => me_keep (tcap, ncap, lvs, t, len, cur, mks, kd, sz, st, cnt, now, par, rd, nt, nl, nc, nm, reg, k1, op, k2, wt, ss, cp, rr, cr, cc, fr, kl, tk) c') (fun post u => wpX_commandKey post u 85) (fun post v => wpY_command post v 85 rep) := by
  have hk1 := I.2.2.2.2.1.2.1
  have hk2 := I.2.2.2.2.1.2.2.1
  refine me_Cmd_W (me_redo I hss) ?_ ?_
  · intro post u R
    refine me_elX (P := fun u => (∀ post' : Int32 → SX → Prop, (∀ r u, post r u → post' r u) → wpX_redo post' u) → wpX_commandKey post u 85) R ?_
    intro f_spanFrom f_spanTo f_spanTextEnd f_spanKind a_text a_marks a_regKinds a_regLens a_regCodes a_nodeParent a_nodeRedo a_nodeLen a_nodeCur a_nodeMarks a_nodeText a_recCodes a_chKeys a_chText a_frameCodes a_frameLen a_framePos a_frameTimes a_frameLevel hT hG hN hF H
    exact br_f (by decide) (br_t hwt (br_t ho (br_f (by decide) (br_t (by decide) (br_t rfl (br_t ho (br_f (by decide) (br_f (by decide) (br_f (by decide) (br_f (by decide) (br_f (by decide) (br_f (by decide) (br_f (by decide) (br_f (by decide) (br_t rfl (br_f (by decide) (br_f (by decide) (br_f (by decide) (br_f (by decide) (br_t rfl (H _ (me_impX fun _ _ _ _ _ _ _ _ _ _ _ _ _ _ _ _ _ _ _ _ _ _ _ _ _ _ _ _ _ _ _ _ _ _ _ _ _ _ _ _ _ _ _ _ _ _ h => h))))))))))))))))))))))
  · intro post v R
    refine me_elY (P := fun v => (∀ post' : Int32 → SY → Prop, (∀ r u, post r u → post' r u) → wpY_walk post' v 1 (nI (me_nt k1 k2))) → wpY_command post v 85 rep) R ?_
    intro q a_text a_marks a_info a_held a_strips a_size a_kind a_dueKey a_dueLevel hT hG hN hQ H
    exact ye_times hk1 hk2 (br_t ho (br_f (by decide) (br_f (by decide) (br_f (by decide) (br_f (by decide) (br_f (by decide) (br_f (by decide) (br_f (by decide) (br_f (by decide) (br_f (by decide) (br_f (by decide) (br_f (by decide) (br_f (by decide) (br_t rfl (br_f (fun e => absurd (e.trans ho) (by decide)) (br_f (by decide) (br_f (by decide) (br_f (by decide) (br_f (by decide) (br_f (by decide) (br_f (by decide) (br_t ho (br_t rfl (br_t ho (br_f (by decide) (br_f (by decide) (br_f (by decide) (br_f (by decide) (br_f (by decide) (br_f (by decide) (br_f (by decide) (br_f (by decide) (br_f (by decide) (br_f (by decide) (br_f (by decide) (br_f (by decide) (br_t rfl (br_f (by decide) (H _ (me_impY fun _ _ _ _ _ _ _ _ _ _ _ _ _ _ _ _ _ _ _ _ _ _ _ _ _ _ _ _ h => h))))))))))))))))))))))))))))))))))))))))
theorem me_ck_120 {rep : Int32} (I : me_Inv (tcap, ncap, lvs, t, len, cur, mks, kd, sz, st, cnt, now, par, rd, nt, nl, nc, nm, reg, k1, op, k2, wt, ss, cp, rr, cr, cc, fr, kl, tk)) (hss : ss = none) (hwt : wt = 0) (ho : op = 0) :
    me_Cmd (tcap, ncap, lvs, t, len, cur, mks, kd, sz, st, cnt, now, par, rd, nt, nl, nc, nm, reg, k1, op, k2, wt, ss, cp, rr, cr, cc, fr, kl, tk) (fun c' => me_keep (tcap, ncap, lvs, t, len, cur, mks, kd, sz, st, cnt, now, par, rd, nt, nl, nc, nm, reg, k1, op, k2, wt, ss, cp, rr, cr, cc, fr, kl, tk) c') (fun post u => wpX_commandKey post u 120) (fun post v => wpY_command post v 120 rep) := by
  have hk1 := I.2.2.2.2.1.2.1
  have hk2 := I.2.2.2.2.1.2.2.1
  refine me_Cmd_W (me_cutx (x3 := nI (me_nt k1 k2)) I hss ho) ?_ ?_
  · intro post u R
    refine me_elX (P := fun u => (∀ post' : Int32 → SX → Prop, (∀ r u, post r u → post' r u) → wpX_cutRight post' u) → wpX_commandKey post u 120) R ?_
    intro f_spanFrom f_spanTo f_spanTextEnd f_spanKind a_text a_marks a_regKinds a_regLens a_regCodes a_nodeParent a_nodeRedo a_nodeLen a_nodeCur a_nodeMarks a_nodeText a_recCodes a_chKeys a_chText a_frameCodes a_frameLen a_framePos a_frameTimes a_frameLevel hT hG hN hF H
    exact br_f (by decide) (br_t hwt (br_t ho (br_f (by decide) (br_t (by decide) (br_t rfl (br_t ho (br_f (by decide) (br_f (by decide) (br_f (by decide) (br_f (by decide) (br_f (by decide) (br_f (by decide) (br_f (by decide) (br_f (by decide) (br_t rfl (br_f (by decide) (br_f (by decide) (br_f (by decide) (br_f (by decide) (br_f (by decide) (br_f (by decide) (br_f (by decide) (br_f (by decide) (br_f (by decide) (br_f (by decide) (br_f (by decide) (br_f (by decide) (br_f (by decide) (br_f (by decide) (br_f (by decide) (br_f (by decide) (br_t rfl (H _ (me_impX fun _ _ _ _ _ _ _ _ _ _ _ _ _ _ _ _ _ _ _ _ _ _ _ _ _ _ _ _ _ _ _ _ _ _ _ _ _ _ _ _ _ _ _ _ _ _ h => h))))))))))))))))))))))))))))))))))
  · intro post v R
    refine me_elY (P := fun v => (∀ post' : Int32 → SY → Prop, (∀ r u, post r u → post' r u) → me_w279 120 (nI (me_nt k1 k2)) post' v) → wpY_command post v 120 rep) R ?_
    intro q a_text a_marks a_info a_held a_strips a_size a_kind a_dueKey a_dueLevel hT hG hN hQ H
    exact ye_times hk1 hk2 (br_t ho (br_f (by decide) (br_f (by decide) (br_f (by decide) (br_f (by decide) (br_f (by decide) (br_f (by decide) (br_f (by decide) (br_f (by decide) (br_f (by decide) (br_f (by decide) (br_f (by decide) (br_f (by decide) (br_t rfl (br_f (fun e => absurd (e.trans ho) (by decide)) (br_f (by decide) (br_f (by decide) (br_f (by decide) (br_f (by decide) (br_f (by decide) (br_f (by decide) (br_t ho (br_t rfl (br_t ho (br_f (by decide) (H _ (fun _ _ h => h)))))))))))))))))))))))))))
theorem me_ck_46 {rep : Int32} (I : me_Inv (tcap, ncap, lvs, t, len, cur, mks, kd, sz, st, cnt, now, par, rd, nt, nl, nc, nm, reg, k1, op, k2, wt, ss, cp, rr, cr, cc, fr, kl, tk)) (hss : ss = none) (hwt : wt = 0) (ho : op = 0) (hkl : kl ≤ 4) (hfl : fr.length = kl) :
    me_Cmd (tcap, ncap, lvs, t, len, cur, mks, kd, sz, st, cnt, now, par, rd, nt, nl, nc, nm, reg, k1, op, k2, wt, ss, cp, rr, cr, cc, fr, kl, tk) (fun c' => c' = me_rp (tcap, ncap, lvs, t, len, cur, mks, kd, sz, st, cnt, now, par, rd, nt, nl, nc, nm, reg, k1, op, k2, wt, ss, cp, rr, cr, cc, fr, kl, tk) (me_rk sz st, 0, 1, 5) ∧ 0 < sz 5) (fun post u => wpX_commandKey post u 46) (fun post v => wpY_command post v 46 rep) := by
  have hk1 := I.2.2.2.2.1.2.1
  have hk2 := I.2.2.2.2.1.2.2.1
  refine me_Cmd_W (me_repeat (x3 := nI (me_nt k1 k2)) I hkl hfl) ?_ ?_
  · intro post u R
    refine me_elX (P := fun u => (∀ post' : Int32 → SX → Prop, (∀ r u, post r u → post' r u) → wpX_repeat post' u) → wpX_commandKey post u 46) R ?_
    intro f_spanFrom f_spanTo f_spanTextEnd f_spanKind a_text a_marks a_regKinds a_regLens a_regCodes a_nodeParent a_nodeRedo a_nodeLen a_nodeCur a_nodeMarks a_nodeText a_recCodes a_chKeys a_chText a_frameCodes a_frameLen a_framePos a_frameTimes a_frameLevel hT hG hN hF H
    exact br_f (by decide) (br_t hwt (br_t ho (br_t (by decide) (br_t rfl (br_t ho (br_f (by decide) (br_f (by decide) (br_f (by decide) (br_f (by decide) (br_f (by decide) (br_f (by decide) (br_f (by decide) (br_f (by decide) (br_t rfl (br_f (by decide) (br_t rfl (H _ (me_impX fun _ _ _ _ _ _ _ _ _ _ _ _ _ _ _ _ _ _ _ _ _ _ _ _ _ _ _ _ _ _ _ _ _ _ _ _ _ _ _ _ _ _ _ _ _ _ h => h))))))))))))))))))
  · intro post v R
    refine me_elY (P := fun v => (∀ post' : Int32 → SY → Prop, (∀ r u, post r u → post' r u) → me_w279 46 (nI (me_nt k1 k2)) post' v) → wpY_command post v 46 rep) R ?_
    intro q a_text a_marks a_info a_held a_strips a_size a_kind a_dueKey a_dueLevel hT hG hN hQ H
    exact ye_times hk1 hk2 (br_t ho (br_f (by decide) (br_t (by decide) (br_f (by decide) (br_f (by decide) (br_f (by decide) (br_f (by decide) (br_f (by decide) (br_f (by decide) (br_f (by decide) (br_f (by decide) (br_f (by decide) (br_t rfl (br_f (fun e => absurd (e.trans ho) (by decide)) (br_f (by decide) (br_f (by decide) (br_f (by decide) (br_f (by decide) (br_f (by decide) (br_f (by decide) (br_t ho (br_t rfl (br_t ho (br_f (by decide) (H _ (fun _ _ h => h))))))))))))))))))))))))))
theorem me_ck_113 {rep : Int32} (I : me_Inv (tcap, ncap, lvs, t, len, cur, mks, kd, sz, st, cnt, now, par, rd, nt, nl, nc, nm, reg, k1, op, k2, wt, ss, cp, rr, cr, cc, fr, kl, tk)) (hss : ss = none) (hwt : wt = 0) (ho : op = 0) (hrep : (kl = 0 ∧ rep = 0) ∨ (kl ≠ 0 ∧ rep = 1)) (hkl : kl ≤ 5) :
    me_Cmd (tcap, ncap, lvs, t, len, cur, mks, kd, sz, st, cnt, now, par, rd, nt, nl, nc, nm, reg, k1, op, k2, wt, ss, cp, rr, cr, cc, fr, kl, tk) (fun c' => me_keep (tcap, ncap, lvs, t, len, cur, mks, kd, sz, st, cnt, now, par, rd, nt, nl, nc, nm, reg, k1, op, k2, wt, ss, cp, rr, cr, cc, fr, kl, tk) c') (fun post u => wpX_commandKey post u 113) (fun post v => wpY_command post v 113 rep) := by
  have hk1 := I.2.2.2.2.1.2.1
  have hk2 := I.2.2.2.2.1.2.2.1
  rcases hrep with ⟨hk0, rfl⟩ | ⟨hk0, rfl⟩
  · cases hrr : rr with
    | none =>
      subst hrr
      refine Or.inl ⟨(tcap, ncap, lvs, t, len, cur, mks, kd, sz, st, cnt, now, par, rd, nt, nl, nc, nm, reg, k1, op, k2, 113, ss, cp, none, cr, cc, fr, kl, tk), ⟨I.1, I.2.1, I.2.2.1, I.2.2.2.1, ⟨I.2.2.2.2.1.1, hk1, hk2, I.2.2.2.2.1.2.2.2.1, Or.inr (Or.inr (Or.inr (Or.inr (Or.inr (Or.inr (Or.inr rfl)))))), fun h => absurd h (by decide)⟩, I.2.2.2.2.2⟩, me_keepI rfl rfl, me_mkX fun post f_spanFrom f_spanTo f_spanTextEnd f_spanKind a_text a_marks a_regKinds a_regLens a_regCodes a_nodeParent a_nodeRedo a_nodeLen a_nodeCur a_nodeMarks a_nodeText a_recCodes a_chKeys a_chText a_frameCodes a_frameLen a_framePos a_frameTimes a_frameLevel hT hG hN hF H => ?_, me_mkY fun post q a_text a_marks a_info a_held a_strips a_size a_kind a_dueKey a_dueLevel hT hG hN hQ H => ?_⟩
      · subst hk0
        exact br_f (by decide) (br_t hwt (br_t ho (br_f (by decide) (br_t (by decide) (br_t rfl (br_t ho (br_f (by decide) (br_f (by decide) (br_f (by decide) (br_f (by decide) (br_f (by decide) (br_f (by decide) (br_f (by decide) (br_f (by decide) (br_t rfl (br_f (by decide) (br_f (by decide) (br_f (by decide) (br_f (by decide) (br_f (by decide) (br_f (by decide) (br_f (by decide) (br_f (by decide) (br_f (by decide) (br_f (by decide) (br_f (by decide) (br_f (by decide) (br_f (by decide) (br_f (by decide) (br_t rfl (br_t rfl (br_f (by decide) (H _ (me_inX hT hG hN hF))))))))))))))))))))))))))))))))))
      · exact ye_times hk1 hk2 (br_t ho (br_f (by decide) (br_f (by decide) (br_f (by decide) (br_f (by decide) (br_f (by decide) (br_f (by decide) (br_f (by decide) (br_f (by decide) (br_f (by decide) (br_f (by decide) (br_f (by decide) (br_f (by decide) (br_t rfl (br_f (fun e => absurd (e.trans ho) (by decide)) (br_f (by decide) (br_f (by decide) (br_f (by decide) (br_t rfl (br_t rfl (br_f (by decide) (br_f (by decide) (br_f (by decide) (br_t ho (br_f (by decide) (H _ (me_inY hT hG hN hQ)))))))))))))))))))))))))))
    | some r =>
      subst hrr
      refine me_Cmd_W (me_endRec I rfl hk0) ?_ ?_
      · intro post u R
        refine me_elX (P := fun u => (∀ post' : Int32 → SX → Prop, (∀ r u, post r u → post' r u) → wpX_recordKey post' u) → wpX_commandKey post u 113) R ?_
        intro f_spanFrom f_spanTo f_spanTextEnd f_spanKind a_text a_marks a_regKinds a_regLens a_regCodes a_nodeParent a_nodeRedo a_nodeLen a_nodeCur a_nodeMarks a_nodeText a_recCodes a_chKeys a_chText a_frameCodes a_frameLen a_framePos a_frameTimes a_frameLevel hT hG hN hF H
        exact br_f (by decide) (br_t hwt (br_t ho (br_f (by decide) (br_t (by decide) (br_t rfl (br_t ho (br_f (by decide) (br_f (by decide) (br_f (by decide) (br_f (by decide) (br_f (by decide) (br_f (by decide) (br_f (by decide) (br_f (by decide) (br_t rfl (br_f (by decide) (br_f (by decide) (br_f (by decide) (br_f (by decide) (br_f (by decide) (br_f (by decide) (br_f (by decide) (br_f (by decide) (br_f (by decide) (br_f (by decide) (br_f (by decide) (br_f (by decide) (br_f (by decide) (br_f (by decide) (br_t rfl (H _ (me_impX fun _ _ _ _ _ _ _ _ _ _ _ _ _ _ _ _ _ _ _ _ _ _ _ _ _ _ _ _ _ _ _ _ _ _ _ _ _ _ _ _ _ _ _ _ _ _ h => h))))))))))))))))))))))))))))))))
      · intro post v R
        refine me_elY (P := fun v => (∀ post' : Int32 → SY → Prop, (∀ r u, post r u → post' r u) → wpY_endRecording post' v) → wpY_command post v 113 0) R ?_
        intro q a_text a_marks a_info a_held a_strips a_size a_kind a_dueKey a_dueLevel hT hG hN hQ H
        have hr4 := I.2.2.2.2.2.1.2.2.1 r rfl
        have hp : (0 : Int32) ≤ me_o (some r) := nI_pos' (by omega)
        exact ye_times hk1 hk2 (br_t ho (br_f (by decide) (br_f (by decide) (br_f (by decide) (br_f (by decide) (br_f (by decide) (br_f (by decide) (br_f (by decide) (br_f (by decide) (br_f (by decide) (br_f (by decide) (br_f (by decide) (br_f (by decide) (br_t rfl (br_f (fun e => absurd (e.trans ho) (by decide)) (br_f (by decide) (br_f (by decide) (br_f (by decide) (br_t rfl (br_t rfl (br_t hp (br_f (by decide) (br_f (by decide) (br_t ho (br_t rfl (br_t ho (br_t rfl (br_t rfl (br_f (by decide) (br_f (by decide) (br_f (by decide) (br_t rfl (H _ (me_impY fun _ _ _ _ _ _ _ _ _ _ _ _ _ _ _ _ _ _ _ _ _ _ _ _ _ _ _ _ h => h))))))))))))))))))))))))))))))))))
  · have hn : ¬ nI kl = 0 := nI_ne0 (by omega) (by omega)
    refine Or.inr (Or.inr ⟨me_mkX fun post f_spanFrom f_spanTo f_spanTextEnd f_spanKind a_text a_marks a_regKinds a_regLens a_regCodes a_nodeParent a_nodeRedo a_nodeLen a_nodeCur a_nodeMarks a_nodeText a_recCodes a_chKeys a_chText a_frameCodes a_frameLen a_framePos a_frameTimes a_frameLevel hT hG hN hF H => ?_, (tcap, ncap, lvs, t, len, cur, mks, kd, sz, st, cnt, now, par, rd, nt, nl, nc, nm, reg, k1, op, k2, wt, ss, cp, rr, cr, cc, fr, kl, tk), rfl, me_mkY fun post q a_text a_marks a_info a_held a_strips a_size a_kind a_dueKey a_dueLevel hT hG hN hQ H => ?_⟩)
    · exact br_f (by decide) (br_t hwt (br_t ho (br_f (by decide) (br_t (by decide) (br_t rfl (br_t ho (br_f (by decide) (br_f (by decide) (br_f (by decide) (br_f (by decide) (br_f (by decide) (br_f (by decide) (br_f (by decide) (br_f (by decide) (br_t rfl (br_f (by decide) (br_f (by decide) (br_f (by decide) (br_f (by decide) (br_f (by decide) (br_f (by decide) (br_f (by decide) (br_f (by decide) (br_f (by decide) (br_f (by decide) (br_f (by decide) (br_f (by decide) (br_f (by decide) (br_f (by decide) (br_t rfl (br_f hn (H _ (me_inX hT hG hN hF)))))))))))))))))))))))))))))))))
    · exact ye_times hk1 hk2 (br_t ho (br_f (by decide) (br_f (by decide) (br_f (by decide) (br_f (by decide) (br_f (by decide) (br_f (by decide) (br_f (by decide) (br_f (by decide) (br_f (by decide) (br_f (by decide) (br_f (by decide) (br_f (by decide) (br_t rfl (br_f (fun e => absurd (e.trans ho) (by decide)) (br_f (by decide) (br_f (by decide) (br_f (by decide) (br_t rfl (br_f (by decide) (br_f (by decide) (br_f (by decide) (br_t ho (br_t rfl (br_t ho (br_t rfl (br_f (by decide) (H _ (me_inY hT hG hN hQ)))))))))))))))))))))))))))))
end
end
section
/-! the keys of a repeat under way, and what a key leaves behind -/
def me_Tl (op : Int32) (ks : List Int32) : Prop := (op = 99 ∧ ∃ xs : List Int32, ks = xs ++ [27] ∧ ∀ x, x ∈ xs → x ≠ 27) ∨ (op ≠ 99 ∧ ks = [])
def me_Ph2 (op : Int32) : List Int32 → Prop
  | [] => False
  | k :: tl => k ≠ 27 ∧ me_Tl op tl
def me_Ph1 (op : Int32) : List Int32 → Prop
  | [] => False
  | k :: tl => ((me_mo k ∨ k = op) ∧ me_Tl op tl) ∨ ((k = 102 ∨ k = 96 ∨ k = 105) ∧ me_Ph2 op tl)
def me_Ph0 : List Int32 → Prop
  | [] => False
  | k :: tl => ((k = 120 ∨ k = 112 ∨ k = 80) ∧ tl = []) ∨ ((k = 105 ∨ k = 97 ∨ k = 111) ∧ me_Tl 99 tl) ∨ ((k = 100 ∨ k = 99) ∧ me_Ph1 k tl)
def me_P5f (ss : Option Nat) (op : Int32) (k2 : Nat) (wt : Int32) (ks : List Int32) : Prop :=
  ks = [] ∨ (ss ≠ none ∧ me_Tl 99 ks) ∨ (ss = none ∧ wt = 0 ∧ op = 0 ∧ k2 = 0 ∧ me_Ph0 ks) ∨ (ss = none ∧ wt = 0 ∧ (op = 100 ∨ op = 99) ∧ k2 = 0 ∧ me_Ph1 op ks) ∨ (ss = none ∧ (wt = 102 ∨ wt = 96 ∨ wt = 105) ∧ (op = 100 ∨ op = 99) ∧ me_Ph2 op ks)
def me_P5 (c : me_CC) (ks : List Int32) : Prop := match c with
  | (tcap, ncap, lvs, t, len, cur, mks, kd, sz, st, cnt, now, par, rd, nt, nl, nc, nm, reg, k1, op, k2, wt, ss, cp, rr, cr, cc, fr, kl, tk) => me_P5f ss op k2 wt ks
def me_nx (c : me_CC) (key : Int32) (c' : me_CC) : Prop :=
  me_tk c' = me_tk c ∧ ((me_fr c' = me_fr c ∧ ∀ ks, me_P5 c (key :: ks) → me_P5 c' ks) ∨
    (me_kl' c ≤ 4 ∧ ∃ f : me_Fr, me_fr c' = f :: me_fr c ∧ ((f.2.2.2 = me_kl' c + 1 ∧ f.2.2.2 ≤ 4) ∨ (f.2.2.2 = 5 ∧ f.2.1 = 0 ∧ f.2.2.1 = 1 ∧ me_P5 c' f.1))))
theorem me_nxI {tcap : Nat} {ncap : Nat} {lvs : Nat} {t : Nat → Int32} {len : Nat} {cur : Nat} {mks : Nat → Option Nat} {kd : Nat → Nat} {sz : Nat → Nat} {st : Nat → Nat → Int32} {cnt : Nat} {now : Nat} {par : Nat → Option Nat} {rd : Nat → Option Nat} {nt : Nat → Nat → Int32} {nl : Nat → Nat} {nc : Nat → Nat} {nm : Nat → Nat → Option Nat} {reg : Option Nat} {k1 : Nat} {op : Int32} {k2 : Nat} {wt : Int32} {ss : Option Nat} {cp : Nat} {rr : Option Nat} {cr : Option Nat} {cc : Nat} {fr : List (List Int32 × Nat × Nat × Nat)} {kl : Nat} {tk : Nat} {tcap2 : Nat} {ncap2 : Nat} {lvs2 : Nat} {t2 : Nat → Int32} {len2 : Nat} {cur2 : Nat} {mks2 : Nat → Option Nat} {kd2 : Nat → Nat} {sz2 : Nat → Nat} {st2 : Nat → Nat → Int32} {cnt2 : Nat} {now2 : Nat} {par2 : Nat → Option Nat} {rd2 : Nat → Option Nat} {nt2 : Nat → Nat → Int32} {nl2 : Nat → Nat} {nc2 : Nat → Nat} {nm2 : Nat → Nat → Option Nat} {reg2 : Option Nat} {k12 : Nat} {op2 : Int32} {k22 : Nat} {wt2 : Int32} {ss2 : Option Nat} {cp2 : Nat} {rr2 : Option Nat} {cr2 : Option Nat} {cc2 : Nat} {fr2 : List (List Int32 × Nat × Nat × Nat)} {kl2 : Nat} {tk2 : Nat} {key : Int32} (h1 : tk2 = tk) (h2 : fr2 = fr) (h3 : ∀ ks, me_P5f ss op k2 wt (key :: ks) → me_P5f ss2 op2 k22 wt2 ks) : me_nx (tcap, ncap, lvs, t, len, cur, mks, kd, sz, st, cnt, now, par, rd, nt, nl, nc, nm, reg, k1, op, k2, wt, ss, cp, rr, cr, cc, fr, kl, tk) key (tcap2, ncap2, lvs2, t2, len2, cur2, mks2, kd2, sz2, st2, cnt2, now2, par2, rd2, nt2, nl2, nc2, nm2, reg2, k12, op2, k22, wt2, ss2, cp2, rr2, cr2, cc2, fr2, kl2, tk2) := ⟨h1, Or.inl ⟨h2, h3⟩⟩
theorem me_P5_S {c : me_CC} {ks : List Int32} (h : ks = [] ∨ (me_ss c ≠ none ∧ me_Tl 99 ks)) : me_P5 c ks := by
  revert h
  refine me_tupC (P := fun c => ks = [] ∨ (me_ss c ≠ none ∧ me_Tl 99 ks) → me_P5 c ks) ?_ c
  intro tcap ncap lvs t len cur mks kd sz st cnt now par rd nt nl nc nm reg k1 op k2 wt ss cp rr cr cc fr kl tk h
  rcases h with h | h
  · exact Or.inl h
  · exact Or.inr (Or.inl h)
theorem me_nx_S {c c' : me_CC} {key : Int32} (hk : me_keep c c') (h : ∀ ks, me_P5 c (key :: ks) → ks = [] ∨ (me_ss c' ≠ none ∧ me_Tl 99 ks)) : me_nx c key c' :=
  ⟨hk.2, Or.inl ⟨hk.1, fun ks hP => me_P5_S (h ks hP)⟩⟩
/-- what the phase says with no session -/
theorem me_P5_no {op wt : Int32} {k2 : Nat} {key : Int32} {ks : List Int32} (h : me_P5f none op k2 wt (key :: ks)) :
    (wt = 0 ∧ op = 0 ∧ k2 = 0 ∧ (((key = 120 ∨ key = 112 ∨ key = 80) ∧ ks = []) ∨ ((key = 105 ∨ key = 97 ∨ key = 111) ∧ me_Tl 99 ks) ∨ ((key = 100 ∨ key = 99) ∧ me_Ph1 key ks))) ∨
    (wt = 0 ∧ (op = 100 ∨ op = 99) ∧ k2 = 0 ∧ (((me_mo key ∨ key = op) ∧ me_Tl op ks) ∨ ((key = 102 ∨ key = 96 ∨ key = 105) ∧ me_Ph2 op ks))) ∨
    ((wt = 102 ∨ wt = 96 ∨ wt = 105) ∧ (op = 100 ∨ op = 99) ∧ key ≠ 27 ∧ me_Tl op ks) := by
  rcases h with h | h | h | h | h
  · cases h
  · exact absurd rfl h.1
  · exact Or.inl ⟨h.2.1, h.2.2.1, h.2.2.2.1, h.2.2.2.2⟩
  · exact Or.inr (Or.inl ⟨h.2.1, h.2.2.1, h.2.2.2.1, h.2.2.2.2⟩)
  · exact Or.inr (Or.inr ⟨h.2.1, h.2.2.1, h.2.2.2⟩)
/-- with no operator and nothing awaited: the first key of a record -/
theorem me_P5_0 {k2 : Nat} {key : Int32} {ks : List Int32} (h : me_P5f none 0 k2 0 (key :: ks)) : k2 = 0 ∧ (((key = 120 ∨ key = 112 ∨ key = 80) ∧ ks = []) ∨ ((key = 105 ∨ key = 97 ∨ key = 111) ∧ me_Tl 99 ks) ∨ ((key = 100 ∨ key = 99) ∧ me_Ph1 key ks)) := by
  rcases me_P5_no h with h | h | h
  · exact ⟨h.2.2.1, h.2.2.2⟩
  · exact absurd h.2.1 (by decide)
  · exact absurd h.1 (by decide)
theorem me_P5_1 {op : Int32} {k2 : Nat} {key : Int32} {ks : List Int32} (ho : op ≠ 0) (h : me_P5f none op k2 0 (key :: ks)) : (op = 100 ∨ op = 99) ∧ k2 = 0 ∧ (((me_mo key ∨ key = op) ∧ me_Tl op ks) ∨ ((key = 102 ∨ key = 96 ∨ key = 105) ∧ me_Ph2 op ks)) := by
  rcases me_P5_no h with h | h | h
  · exact absurd h.2.1 ho
  · exact ⟨h.2.1, h.2.2.1, h.2.2.2⟩
  · exact absurd h.1 (by decide)
theorem me_P5_2 {op wt : Int32} {k2 : Nat} {key : Int32} {ks : List Int32} (hw : wt ≠ 0) (h : me_P5f none op k2 wt (key :: ks)) : (wt = 102 ∨ wt = 96 ∨ wt = 105) ∧ (op = 100 ∨ op = 99) ∧ key ≠ 27 ∧ me_Tl op ks := by
  rcases me_P5_no h with h | h | h
  · exact absurd h.1 hw
  · exact absurd h.1 hw
  · exact h
/-- the record's keys are a record's keys -/
theorem me_P5_rk {kd sz : Nat → Nat} {st : Nat → Nat → Int32} (hG : me_IG kd sz st) (h0 : 0 < sz 5) : me_Ph0 (me_rk sz st) := by
  obtain ⟨g1, g2, g3, g4⟩ := hG
  have hT : me_Tl 99 (me_lst (sz 6) (st 6) ++ [27]) := Or.inl ⟨rfl, _, rfl, fun x hx => by
    obtain ⟨i, hi, rfl⟩ := me_lst_mem hx
    exact g3 i hi⟩
  unfold me_rk
  rcases g4 with h | ⟨h, hk⟩ | ⟨h, hk, hm⟩ | ⟨h, hk, hm, h27⟩
  · omega
  · rw [h]
    show me_Ph0 (st 5 0 :: _)
    rcases hk with hk | hk | hk | hk | hk | hk
    · rw [if_neg (by rw [hk]; decide)]; exact Or.inl ⟨Or.inl hk, rfl⟩
    · rw [if_neg (by rw [hk]; decide)]; exact Or.inl ⟨Or.inr (Or.inl hk), rfl⟩
    · rw [if_neg (by rw [hk]; decide)]; exact Or.inl ⟨Or.inr (Or.inr hk), rfl⟩
    · rw [if_pos (Or.inr (Or.inl hk))]; exact Or.inr (Or.inl ⟨Or.inl hk, hT⟩)
    · rw [if_pos (Or.inr (Or.inr (Or.inl hk)))]; exact Or.inr (Or.inl ⟨Or.inr (Or.inl hk), hT⟩)
    · rw [if_pos (Or.inr (Or.inr (Or.inr hk)))]; exact Or.inr (Or.inl ⟨Or.inr (Or.inr hk), hT⟩)
  · rw [h]
    show me_Ph0 (st 5 0 :: st 5 1 :: _)
    refine Or.inr (Or.inr ⟨hk, Or.inl ⟨hm, ?_⟩⟩)
    rcases hk with hk | hk
    · rw [if_neg (by rw [hk]; decide), hk]; exact Or.inr ⟨by decide, rfl⟩
    · rw [if_pos (Or.inl hk), hk]; exact hT
  · rw [h]
    show me_Ph0 (st 5 0 :: st 5 1 :: st 5 2 :: _)
    refine Or.inr (Or.inr ⟨hk, Or.inr ⟨hm, h27, ?_⟩⟩)
    rcases hk with hk | hk
    · rw [if_neg (by rw [hk]; decide), hk]; exact Or.inr ⟨by decide, rfl⟩
    · rw [if_pos (Or.inl hk), hk]; exact hT
section
variable {f_textCap f_nodeCap f_levels f_len f_cur f_nodeCount f_node f_reg f_c1 f_op f_c2 f_waiting f_sessionStart f_copies f_recReg f_recLen f_chKeyLen f_chTextLen f_chReg f_chCount f_depth f_keyLevel f_spanFrom f_spanTo f_spanTextEnd f_spanKind : Int32} {a_text a_marks a_regKinds a_regLens a_regCodes a_nodeParent a_nodeRedo a_nodeLen a_nodeCur a_nodeMarks a_nodeText a_recCodes a_chKeys a_chText a_frameCodes a_frameLen a_framePos a_frameTimes a_frameLevel : Nat → Int32}
theorem xe_isMotion_t {post : Int32 → Prop} {key : Int32} (h : me_mo key) (H : post 1) : wpX_isMotion post (f_textCap, f_nodeCap, f_levels, f_len, f_cur, f_nodeCount, f_node, f_reg, f_c1, f_op, f_c2, f_waiting, f_sessionStart, f_copies, f_recReg, f_recLen, f_chKeyLen, f_chTextLen, f_chReg, f_chCount, f_depth, f_keyLevel, f_spanFrom, f_spanTo, f_spanTextEnd, f_spanKind, a_text, a_marks, a_regKinds, a_regLens, a_regCodes, a_nodeParent, a_nodeRedo, a_nodeLen, a_nodeCur, a_nodeMarks, a_nodeText, a_recCodes, a_chKeys, a_chText, a_frameCodes, a_frameLen, a_framePos, a_frameTimes, a_frameLevel) key :=
  br_c (fun _ => H) (fun w1 => br_c (fun _ => H) (fun w2 => br_c (fun _ => H) (fun w3 => br_c (fun _ => H) (fun w4 => br_c (fun _ => H) (fun w5 => br_c (fun _ => H) (fun w6 => br_c (fun _ => H) (fun w7 => br_t (((((((h.resolve_left w1).resolve_left w2).resolve_left w3).resolve_left w4).resolve_left w5).resolve_left w6).resolve_left w7) H)))))))
theorem xe_isMotion_f {post : Int32 → Prop} {key : Int32} (h : ¬ me_mo key) (H : post 0) : wpX_isMotion post (f_textCap, f_nodeCap, f_levels, f_len, f_cur, f_nodeCount, f_node, f_reg, f_c1, f_op, f_c2, f_waiting, f_sessionStart, f_copies, f_recReg, f_recLen, f_chKeyLen, f_chTextLen, f_chReg, f_chCount, f_depth, f_keyLevel, f_spanFrom, f_spanTo, f_spanTextEnd, f_spanKind, a_text, a_marks, a_regKinds, a_regLens, a_regCodes, a_nodeParent, a_nodeRedo, a_nodeLen, a_nodeCur, a_nodeMarks, a_nodeText, a_recCodes, a_chKeys, a_chText, a_frameCodes, a_frameLen, a_framePos, a_frameTimes, a_frameLevel) key :=
  br_f (fun w => h (Or.inl w)) (br_f (fun w => h (Or.inr (Or.inl w))) (br_f (fun w => h (Or.inr (Or.inr (Or.inl w)))) (br_f (fun w => h (Or.inr (Or.inr (Or.inr (Or.inl w))))) (br_f (fun w => h (Or.inr (Or.inr (Or.inr (Or.inr (Or.inl w)))))) (br_f (fun w => h (Or.inr (Or.inr (Or.inr (Or.inr (Or.inr (Or.inl w))))))) (br_f (fun w => h (Or.inr (Or.inr (Or.inr (Or.inr (Or.inr (Or.inr (Or.inl w)))))))) (br_f (fun w => h (Or.inr (Or.inr (Or.inr (Or.inr (Or.inr (Or.inr (Or.inr w)))))))) H)))))))
theorem xe_takes0 {F : Int32 → SX → Prop} {n k1 k2 : Nat} (hn : n ≤ 126) (h1 : k1 ≤ 32) (h2 : k2 ≤ 32) (nd : n < 48 ∨ 57 < n ∨ (n = 48 ∧ (f_op = 0 → k1 = 0) ∧ (¬ f_op = 0 → k2 = 0))) (H : F 0 (f_textCap, f_nodeCap, f_levels, f_len, f_cur, f_nodeCount, f_node, f_reg, nI k1, f_op, nI k2, f_waiting, f_sessionStart, f_copies, f_recReg, f_recLen, f_chKeyLen, f_chTextLen, f_chReg, f_chCount, f_depth, f_keyLevel, f_spanFrom, f_spanTo, f_spanTextEnd, f_spanKind, a_text, a_marks, a_regKinds, a_regLens, a_regCodes, a_nodeParent, a_nodeRedo, a_nodeLen, a_nodeCur, a_nodeMarks, a_nodeText, a_recCodes, a_chKeys, a_chText, a_frameCodes, a_frameLen, a_framePos, a_frameTimes, a_frameLevel)) : wpX_takesDigit F (f_textCap, f_nodeCap, f_levels, f_len, f_cur, f_nodeCount, f_node, f_reg, nI k1, f_op, nI k2, f_waiting, f_sessionStart, f_copies, f_recReg, f_recLen, f_chKeyLen, f_chTextLen, f_chReg, f_chCount, f_depth, f_keyLevel, f_spanFrom, f_spanTo, f_spanTextEnd, f_spanKind, a_text, a_marks, a_regKinds, a_regLens, a_regCodes, a_nodeParent, a_nodeRedo, a_nodeLen, a_nodeCur, a_nodeMarks, a_nodeText, a_recCodes, a_chKeys, a_chText, a_frameCodes, a_frameLen, a_framePos, a_frameTimes, a_frameLevel) (nI n) := by
  have k18 : ∀ k, k ≤ 32 → (n = 48 → k = 0) → wX_takesDigit_18 F (nI n) (nI k) f_textCap f_nodeCap f_levels f_len f_cur f_nodeCount f_node f_reg (nI k1) f_op (nI k2) f_waiting f_sessionStart f_copies f_recReg f_recLen f_chKeyLen f_chTextLen f_chReg f_chCount f_depth f_keyLevel f_spanFrom f_spanTo f_spanTextEnd f_spanKind a_text a_marks a_regKinds a_regLens a_regCodes a_nodeParent a_nodeRedo a_nodeLen a_nodeCur a_nodeMarks a_nodeText a_recCodes a_chKeys a_chText a_frameCodes a_frameLen a_framePos a_frameTimes a_frameLevel := by
    intro k hk e
    refine pk_lt n 48 (fun _ => H) (fun w => pk_lt 57 n (fun _ => H) (fun w2 => ?_))
    have e48 : n = 48 := by omega
    exact br_t (by rw [e48]; rfl) (br_t (by rw [e e48]; rfl) H)
  exact br_c (fun w => k18 k1 h1 (fun e => by rcases nd with q | q | q; omega; omega; exact q.2.1 w)) (fun w => k18 k2 h2 (fun e => by rcases nd with q | q | q; omega; omega; exact q.2.2 w))
theorem xe_takes1 {F : Int32 → SX → Prop} {n k1 k2 : Nat} (hn1 : 48 ≤ n) (hn2 : n ≤ 57) (h1 : k1 ≤ 32) (h2 : k2 ≤ 32) (nd : ¬ (n = 48 ∧ (f_op = 0 → k1 = 0) ∧ (¬ f_op = 0 → k2 = 0)))
    (H1 : f_op = 0 → F 1 (f_textCap, f_nodeCap, f_levels, f_len, f_cur, f_nodeCount, f_node, f_reg, nI (if k1 * 10 + n - 48 ≤ 32 then k1 * 10 + n - 48 else 32), f_op, nI k2, f_waiting, f_sessionStart, f_copies, f_recReg, f_recLen, f_chKeyLen, f_chTextLen, f_chReg, f_chCount, f_depth, f_keyLevel, f_spanFrom, f_spanTo, f_spanTextEnd, f_spanKind, a_text, a_marks, a_regKinds, a_regLens, a_regCodes, a_nodeParent, a_nodeRedo, a_nodeLen, a_nodeCur, a_nodeMarks, a_nodeText, a_recCodes, a_chKeys, a_chText, a_frameCodes, a_frameLen, a_framePos, a_frameTimes, a_frameLevel)) (H2 : ¬ f_op = 0 → F 1 (f_textCap, f_nodeCap, f_levels, f_len, f_cur, f_nodeCount, f_node, f_reg, nI k1, f_op, nI (if k2 * 10 + n - 48 ≤ 32 then k2 * 10 + n - 48 else 32), f_waiting, f_sessionStart, f_copies, f_recReg, f_recLen, f_chKeyLen, f_chTextLen, f_chReg, f_chCount, f_depth, f_keyLevel, f_spanFrom, f_spanTo, f_spanTextEnd, f_spanKind, a_text, a_marks, a_regKinds, a_regLens, a_regCodes, a_nodeParent, a_nodeRedo, a_nodeLen, a_nodeCur, a_nodeMarks, a_nodeText, a_recCodes, a_chKeys, a_chText, a_frameCodes, a_frameLen, a_framePos, a_frameTimes, a_frameLevel)) : wpX_takesDigit F (f_textCap, f_nodeCap, f_levels, f_len, f_cur, f_nodeCount, f_node, f_reg, nI k1, f_op, nI k2, f_waiting, f_sessionStart, f_copies, f_recReg, f_recLen, f_chKeyLen, f_chTextLen, f_chReg, f_chCount, f_depth, f_keyLevel, f_spanFrom, f_spanTo, f_spanTextEnd, f_spanKind, a_text, a_marks, a_regKinds, a_regLens, a_regCodes, a_nodeParent, a_nodeRedo, a_nodeLen, a_nodeCur, a_nodeMarks, a_nodeText, a_recCodes, a_chKeys, a_chText, a_frameCodes, a_frameLen, a_framePos, a_frameTimes, a_frameLevel) (nI n) := by
  have e : ∀ k : Nat, nI k * 10 + nI n - 48 = nI (k * 10 + n - 48) := fun k => by
    rw [show (10 : Int32) = nI 10 from rfl, pk_mul, nI_add]
    exact pk_sub (b := 48) (by omega)
  have k43 : ∀ k, k ≤ 32 → (f_op = 0 → k = k1) → (¬ f_op = 0 → k = k2) → wX_takesDigit_43 F (nI n) (nI k) f_textCap f_nodeCap f_levels f_len f_cur f_nodeCount f_node f_reg (nI k1) f_op (nI k2) f_waiting f_sessionStart f_copies f_recReg f_recLen f_chKeyLen f_chTextLen f_chReg f_chCount f_depth f_keyLevel f_spanFrom f_spanTo f_spanTextEnd f_spanKind a_text a_marks a_regKinds a_regLens a_regCodes a_nodeParent a_nodeRedo a_nodeLen a_nodeCur a_nodeMarks a_nodeText a_recCodes a_chKeys a_chText a_frameCodes a_frameLen a_framePos a_frameTimes a_frameLevel := by
    intro k hk e1 e2
    show wpX_clamp _ _ (nI k * 10 + nI n - 48) 0 32
    rw [e k]
    refine br_t (nI_pos' (by omega)) (pk_le (k * 10 + n - 48) 32 (fun w => br_c (fun w2 => ?_) (fun w2 => ?_)) (fun w => br_c (fun w2 => ?_) (fun w2 => ?_)))
    · have := H1 w2
      rw [← e1 w2, if_pos w] at this; rw [e1 w2] at this ⊢; exact this
    · have := H2 w2
      rw [← e2 w2, if_pos w] at this; rw [e2 w2] at this ⊢; exact this
    · have := H1 w2
      rw [← e1 w2, if_neg (by omega)] at this; exact this
    · have := H2 w2
      rw [← e2 w2, if_neg (by omega)] at this; exact this
  have k18 : ∀ k, k ≤ 32 → (f_op = 0 → k = k1) → (¬ f_op = 0 → k = k2) → wX_takesDigit_18 F (nI n) (nI k) f_textCap f_nodeCap f_levels f_len f_cur f_nodeCount f_node f_reg (nI k1) f_op (nI k2) f_waiting f_sessionStart f_copies f_recReg f_recLen f_chKeyLen f_chTextLen f_chReg f_chCount f_depth f_keyLevel f_spanFrom f_spanTo f_spanTextEnd f_spanKind a_text a_marks a_regKinds a_regLens a_regCodes a_nodeParent a_nodeRedo a_nodeLen a_nodeCur a_nodeMarks a_nodeText a_recCodes a_chKeys a_chText a_frameCodes a_frameLen a_framePos a_frameTimes a_frameLevel := by
    intro k hk e1 e2
    refine br_f (nI_nlt (b := 48) (by omega) (by omega)) (br_f (nI_nlt (a := 57) (by omega) (by omega)) (pk_eq n 48 (fun w => pk_eq k 0 (fun w2 => ?_) (fun _ => k43 k hk e1 e2)) (fun _ => k43 k hk e1 e2)))
    exact absurd ⟨w, fun q => by rw [← e1 q]; exact w2, fun q => by rw [← e2 q]; exact w2⟩ nd
  exact br_c (fun w => k18 k1 h1 (fun _ => rfl) (fun q => absurd w q)) (fun w => k18 k2 h2 (fun q => absurd q w) (fun _ => rfl))
end
section
variable {f_cap f_nodeCap f_levels f_len f_cur f_now f_nodeCount f_queued f_c1 f_op f_c2 f_waits f_copies f_recCount f_reg f_begin f_recording f_recReg : Int32} {a_text a_marks a_info a_held a_strips a_size a_kind a_dueKey a_dueLevel : Nat → Int32}
theorem ye_nd {post : Int32 → SY → Prop} {n k1 k2 : Nat} {rep : Int32} (hn : n ≤ 126) (h27 : n ≠ 27) (h1 : k1 ≤ 32) (h2 : k2 ≤ 32) (nd : n < 48 ∨ 57 < n ∨ (n = 48 ∧ (f_op = 0 → k1 = 0) ∧ (¬ f_op = 0 → k2 = 0))) (H : wY_command_103 post (nI n) rep (nI (me_nt k1 k2)) f_cap f_nodeCap f_levels f_len f_cur f_now f_nodeCount f_queued (nI k1) f_op (nI k2) f_waits f_copies f_recCount f_reg f_begin f_recording f_recReg a_text a_marks a_info a_held a_strips a_size a_kind a_dueKey a_dueLevel) : wpY_command post (f_cap, f_nodeCap, f_levels, f_len, f_cur, f_now, f_nodeCount, f_queued, nI k1, f_op, nI k2, f_waits, f_copies, f_recCount, f_reg, f_begin, f_recording, f_recReg, a_text, a_marks, a_info, a_held, a_strips, a_size, a_kind, a_dueKey, a_dueLevel) (nI n) rep := by
  have k45 : ∀ k, k ≤ 32 → (n = 48 → k = 0) → wY_command_45 post (nI n) rep (nI (me_nt k1 k2)) (nI k) f_cap f_nodeCap f_levels f_len f_cur f_now f_nodeCount f_queued (nI k1) f_op (nI k2) f_waits f_copies f_recCount f_reg f_begin f_recording f_recReg a_text a_marks a_info a_held a_strips a_size a_kind a_dueKey a_dueLevel := fun k hk e =>
    pk_eq n 48 (fun w => br_t (by rw [e w]; rfl) H) (fun _ => H)
  have k23 : ∀ k, k ≤ 32 → (n = 48 → k = 0) → wY_command_23 post (nI n) rep (nI (me_nt k1 k2)) (nI k) f_cap f_nodeCap f_levels f_len f_cur f_now f_nodeCount f_queued (nI k1) f_op (nI k2) f_waits f_copies f_recCount f_reg f_begin f_recording f_recReg a_text a_marks a_info a_held a_strips a_size a_kind a_dueKey a_dueLevel := fun k hk e =>
    pk_eq n 27 (fun w => absurd w h27) (fun _ => pk_lt n 49 (fun _ => k45 k hk e) (fun w => pk_le n 57 (fun w2 => by omega) (fun _ => k45 k hk e)))
  refine ye_times h1 h2 (br_c (fun w => k23 k1 h1 (fun e => ?_)) (fun w => k23 k2 h2 (fun e => ?_)))
  · rcases nd with q | q | q
    · omega
    · omega
    · exact q.2.1 w
  · rcases nd with q | q | q
    · omega
    · omega
    · exact q.2.2 w
theorem ye_digit {post : Int32 → SY → Prop} {n k1 k2 : Nat} {rep : Int32} (hn1 : 48 ≤ n) (hn2 : n ≤ 57) (h1 : k1 ≤ 32) (h2 : k2 ≤ 32) (nd : ¬ (n = 48 ∧ (f_op = 0 → k1 = 0) ∧ (¬ f_op = 0 → k2 = 0)))
    (H1 : f_op = 0 → post 3 (f_cap, f_nodeCap, f_levels, f_len, f_cur, f_now, f_nodeCount, f_queued, nI (if k1 * 10 + n - 48 ≤ 32 then k1 * 10 + n - 48 else 32), f_op, nI k2, f_waits, f_copies, f_recCount, f_reg, f_begin, f_recording, f_recReg, a_text, a_marks, a_info, a_held, a_strips, a_size, a_kind, a_dueKey, a_dueLevel)) (H2 : ¬ f_op = 0 → post 3 (f_cap, f_nodeCap, f_levels, f_len, f_cur, f_now, f_nodeCount, f_queued, nI k1, f_op, nI (if k2 * 10 + n - 48 ≤ 32 then k2 * 10 + n - 48 else 32), f_waits, f_copies, f_recCount, f_reg, f_begin, f_recording, f_recReg, a_text, a_marks, a_info, a_held, a_strips, a_size, a_kind, a_dueKey, a_dueLevel)) : wpY_command post (f_cap, f_nodeCap, f_levels, f_len, f_cur, f_now, f_nodeCount, f_queued, nI k1, f_op, nI k2, f_waits, f_copies, f_recCount, f_reg, f_begin, f_recording, f_recReg, a_text, a_marks, a_info, a_held, a_strips, a_size, a_kind, a_dueKey, a_dueLevel) (nI n) rep := by
  have e : ∀ k : Nat, nI k * 10 + nI n - 48 = nI (k * 10 + n - 48) := fun k => by
    rw [show (10 : Int32) = nI 10 from rfl, pk_mul, nI_add]
    exact pk_sub (b := 48) (by omega)
  have k56 : ∀ k, k ≤ 32 → (f_op = 0 → k = k1) → (¬ f_op = 0 → k = k2) → wY_command_56 post (nI n) (nI k) f_cap f_nodeCap f_levels f_len f_cur f_now f_nodeCount f_queued (nI k1) f_op (nI k2) f_waits f_copies f_recCount f_reg f_begin f_recording f_recReg a_text a_marks a_info a_held a_strips a_size a_kind a_dueKey a_dueLevel := by
    intro k hk e1 e2
    refine nm_r (e k) (pk_le (k * 10 + n - 48) 32 (fun w => br_c (fun w2 => ?_) (fun w2 => ?_)) (fun w => br_c (fun w2 => ?_) (fun w2 => ?_)))
    · have := H1 w2
      rw [← e1 w2, if_pos w] at this; rw [e1 w2] at this ⊢; exact this
    · have := H2 w2
      rw [← e2 w2, if_pos w] at this; rw [e2 w2] at this ⊢; exact this
    · have := H1 w2
      rw [← e1 w2, if_neg (by omega)] at this; exact this
    · have := H2 w2
      rw [← e2 w2, if_neg (by omega)] at this; exact this
  have k23 : ∀ k, k ≤ 32 → (f_op = 0 → k = k1) → (¬ f_op = 0 → k = k2) → wY_command_23 post (nI n) rep (nI (me_nt k1 k2)) (nI k) f_cap f_nodeCap f_levels f_len f_cur f_now f_nodeCount f_queued (nI k1) f_op (nI k2) f_waits f_copies f_recCount f_reg f_begin f_recording f_recReg a_text a_marks a_info a_held a_strips a_size a_kind a_dueKey a_dueLevel := by
    intro k hk e1 e2
    refine pk_eq n 27 (fun w => by omega) (fun _ => pk_lt n 49 (fun w => ?_) (fun w => br_t (nI_le (b := 57) hn2 (by omega)) (k56 k hk e1 e2)))
    have e48 : n = 48 := by omega
    refine br_t (by rw [e48]; rfl) (pk_eq k 0 (fun w2 => ?_) (fun _ => k56 k hk e1 e2))
    exact absurd ⟨e48, fun q => by rw [← e1 q]; exact w2, fun q => by rw [← e2 q]; exact w2⟩ nd
  exact ye_times h1 h2 (br_c (fun w => k23 k1 h1 (fun _ => rfl) (fun q => absurd w q)) (fun w => k23 k2 h2 (fun q => absurd q w) (fun _ => rfl)))
theorem ye_103_t {post : Int32 → SY → Prop} {key rep x3 : Int32} (h : me_mo key) (H : wY_command_171 post key f_cap f_nodeCap f_levels f_len f_cur f_now f_nodeCount f_queued f_c1 f_op f_c2 f_waits f_copies f_recCount f_reg f_begin f_recording f_recReg a_text a_marks a_info a_held a_strips a_size a_kind a_dueKey a_dueLevel) : wY_command_103 post key rep x3 f_cap f_nodeCap f_levels f_len f_cur f_now f_nodeCount f_queued f_c1 f_op f_c2 f_waits f_copies f_recCount f_reg f_begin f_recording f_recReg a_text a_marks a_info a_held a_strips a_size a_kind a_dueKey a_dueLevel := by
  have H' : wY_command_151 post key rep x3 f_cap f_nodeCap f_levels f_len f_cur f_now f_nodeCount f_queued f_c1 f_op f_c2 f_waits f_copies f_recCount f_reg f_begin f_recording f_recReg a_text a_marks a_info a_held a_strips a_size a_kind a_dueKey a_dueLevel := br_f (by decide) H
  exact br_c (fun _ => H') (fun w1 => br_c (fun _ => H') (fun w2 => br_c (fun _ => H') (fun w3 => br_c (fun _ => H') (fun w4 => br_c (fun _ => H') (fun w5 => br_c (fun _ => H') (fun w6 => br_c (fun _ => H') (fun w7 => br_t (((((((h.resolve_left w1).resolve_left w2).resolve_left w3).resolve_left w4).resolve_left w5).resolve_left w6).resolve_left w7) H')))))))
theorem ye_103_f {post : Int32 → SY → Prop} {key rep x3 : Int32} (h : ¬ me_mo key) (H : wY_command_156 post key rep x3 0 f_cap f_nodeCap f_levels f_len f_cur f_now f_nodeCount f_queued f_c1 f_op f_c2 f_waits f_copies f_recCount f_reg f_begin f_recording f_recReg a_text a_marks a_info a_held a_strips a_size a_kind a_dueKey a_dueLevel) : wY_command_103 post key rep x3 f_cap f_nodeCap f_levels f_len f_cur f_now f_nodeCount f_queued f_c1 f_op f_c2 f_waits f_copies f_recCount f_reg f_begin f_recording f_recReg a_text a_marks a_info a_held a_strips a_size a_kind a_dueKey a_dueLevel :=
  br_f (fun w => h (Or.inl w)) (br_f (fun w => h (Or.inr (Or.inl w))) (br_f (fun w => h (Or.inr (Or.inr (Or.inl w)))) (br_f (fun w => h (Or.inr (Or.inr (Or.inr (Or.inl w))))) (br_f (fun w => h (Or.inr (Or.inr (Or.inr (Or.inr (Or.inl w)))))) (br_f (fun w => h (Or.inr (Or.inr (Or.inr (Or.inr (Or.inr (Or.inl w))))))) (br_f (fun w => h (Or.inr (Or.inr (Or.inr (Or.inr (Or.inr (Or.inr (Or.inl w)))))))) (br_f (fun w => h (Or.inr (Or.inr (Or.inr (Or.inr (Or.inr (Or.inr (Or.inr w)))))))) H)))))))
end
end
section
/-! a command key -/
section
variable {f_textCap f_nodeCap f_levels f_len f_cur f_nodeCount f_node f_reg f_c1 f_op f_c2 f_waiting f_sessionStart f_copies f_recReg f_recLen f_chKeyLen f_chTextLen f_chReg f_chCount f_depth f_keyLevel f_spanFrom f_spanTo f_spanTextEnd f_spanKind : Int32} {a_text a_marks a_regKinds a_regLens a_regCodes a_nodeParent a_nodeRedo a_nodeLen a_nodeCur a_nodeMarks a_nodeText a_recCodes a_chKeys a_chText a_frameCodes a_frameLen a_framePos a_frameTimes a_frameLevel : Nat → Int32}
theorem xe_plain_t {post : Int32 → SX → Prop} {key : Int32} (h : me_mo key) (H : ∀ post' : Int32 → SX → Prop, (∀ r u, post r u → post' r u) → wpX_finishMotion post' (f_textCap, f_nodeCap, f_levels, f_len, f_cur, f_nodeCount, f_node, f_reg, f_c1, f_op, f_c2, f_waiting, f_sessionStart, f_copies, f_recReg, f_recLen, f_chKeyLen, f_chTextLen, f_chReg, f_chCount, f_depth, f_keyLevel, f_spanFrom, f_spanTo, f_spanTextEnd, f_spanKind, a_text, a_marks, a_regKinds, a_regLens, a_regCodes, a_nodeParent, a_nodeRedo, a_nodeLen, a_nodeCur, a_nodeMarks, a_nodeText, a_recCodes, a_chKeys, a_chText, a_frameCodes, a_frameLen, a_framePos, a_frameTimes, a_frameLevel) key 0) : wpX_plainKey post (f_textCap, f_nodeCap, f_levels, f_len, f_cur, f_nodeCount, f_node, f_reg, f_c1, f_op, f_c2, f_waiting, f_sessionStart, f_copies, f_recReg, f_recLen, f_chKeyLen, f_chTextLen, f_chReg, f_chCount, f_depth, f_keyLevel, f_spanFrom, f_spanTo, f_spanTextEnd, f_spanKind, a_text, a_marks, a_regKinds, a_regLens, a_regCodes, a_nodeParent, a_nodeRedo, a_nodeLen, a_nodeCur, a_nodeMarks, a_nodeText, a_recCodes, a_chKeys, a_chText, a_frameCodes, a_frameLen, a_framePos, a_frameTimes, a_frameLevel) key := by
  unfold wpX_plainKey
  refine xe_isMotion_t h (br_f ?_ (H _ (me_impX fun _ _ _ _ _ _ _ _ _ _ _ _ _ _ _ _ _ _ _ _ _ _ _ _ _ _ _ _ _ _ _ _ _ _ _ _ _ _ _ _ _ _ _ _ _ _ h => h)))
  decide
theorem xe_plain_bad {post : Int32 → SX → Prop} {n : Nat} (h2 : n ≤ 126) (h : ¬ me_mo (nI n)) (qq : n ≠ 34 ∧ n ≠ 46 ∧ n ≠ 64 ∧ n ≠ 80 ∧ n ≠ 85 ∧ n ≠ 96 ∧ n ≠ 97 ∧ n ≠ 99 ∧ n ≠ 100 ∧ n ≠ 102 ∧ n ≠ 105 ∧ n ≠ 109 ∧ n ≠ 111 ∧ n ≠ 112 ∧ n ≠ 113 ∧ n ≠ 117 ∧ n ≠ 120 ∧ n ≠ 121) (H : post 1 (f_textCap, f_nodeCap, f_levels, f_len, f_cur, f_nodeCount, f_node, f_reg, f_c1, f_op, f_c2, f_waiting, f_sessionStart, f_copies, f_recReg, f_recLen, f_chKeyLen, f_chTextLen, f_chReg, f_chCount, f_depth, f_keyLevel, f_spanFrom, f_spanTo, f_spanTextEnd, f_spanKind, a_text, a_marks, a_regKinds, a_regLens, a_regCodes, a_nodeParent, a_nodeRedo, a_nodeLen, a_nodeCur, a_nodeMarks, a_nodeText, a_recCodes, a_chKeys, a_chText, a_frameCodes, a_frameLen, a_framePos, a_frameTimes, a_frameLevel)) : wpX_plainKey post (f_textCap, f_nodeCap, f_levels, f_len, f_cur, f_nodeCount, f_node, f_reg, f_c1, f_op, f_c2, f_waiting, f_sessionStart, f_copies, f_recReg, f_recLen, f_chKeyLen, f_chTextLen, f_chReg, f_chCount, f_depth, f_keyLevel, f_spanFrom, f_spanTo, f_spanTextEnd, f_spanKind, a_text, a_marks, a_regKinds, a_regLens, a_regCodes, a_nodeParent, a_nodeRedo, a_nodeLen, a_nodeCur, a_nodeMarks, a_nodeText, a_recCodes, a_chKeys, a_chText, a_frameCodes, a_frameLen, a_framePos, a_frameTimes, a_frameLevel) (nI n) := by
  unfold wpX_plainKey
  refine xe_isMotion_f h (br_t rfl ?_)
  exact pk_eq n 34 (fun e => by omega) (fun _ => pk_eq n 46 (fun e => by omega) (fun _ => pk_eq n 64 (fun e => by omega) (fun _ => pk_eq n 80 (fun e => by omega) (fun _ => pk_eq n 85 (fun e => by omega) (fun _ => pk_eq n 96 (fun e => by omega) (fun _ => pk_eq n 97 (fun e => by omega) (fun _ => pk_eq n 99 (fun e => by omega) (fun _ => pk_eq n 100 (fun e => by omega) (fun _ => pk_eq n 102 (fun e => by omega) (fun _ => pk_eq n 105 (fun e => by omega) (fun _ => pk_eq n 109 (fun e => by omega) (fun _ => pk_eq n 111 (fun e => by omega) (fun _ => pk_eq n 112 (fun e => by omega) (fun _ => pk_eq n 113 (fun e => by omega) (fun _ => pk_eq n 117 (fun e => by omega) (fun _ => pk_eq n 120 (fun e => by omega) (fun _ => pk_eq n 121 (fun e => by omega) (fun _ => H))))))))))))))))))
end
section
variable {tcap : Nat} {ncap : Nat} {lvs : Nat} {t : Nat → Int32} {len : Nat} {cur : Nat} {mks : Nat → Option Nat} {kd : Nat → Nat} {sz : Nat → Nat} {st : Nat → Nat → Int32} {cnt : Nat} {now : Nat} {par : Nat → Option Nat} {rd : Nat → Option Nat} {nt : Nat → Nat → Int32} {nl : Nat → Nat} {nc : Nat → Nat} {nm : Nat → Nat → Option Nat} {reg : Option Nat} {k1 : Nat} {op : Int32} {k2 : Nat} {wt : Int32} {ss : Option Nat} {cp : Nat} {rr : Option Nat} {cr : Option Nat} {cc : Nat} {fr : List (List Int32 × Nat × Nat × Nat)} {kl : Nat} {tk : Nat}
/-- a motion key or a doubled operator -/
theorem me_ck_move {n : Nat} {rep : Int32} (I : me_Inv (tcap, ncap, lvs, t, len, cur, mks, kd, sz, st, cnt, now, par, rd, nt, nl, nc, nm, reg, k1, op, k2, wt, ss, cp, rr, cr, cc, fr, kl, tk)) (hss : ss = none) (h1 : 1 ≤ n) (h2 : n ≤ 126) (h27 : n ≠ 27) (hwt : wt = 0) (nd : n < 48 ∨ 57 < n ∨ (n = 48 ∧ (op = 0 → k1 = 0) ∧ (¬ op = 0 → k2 = 0))) (hm : me_mo (nI n) ∨ nI n = op) :
    me_Cmd (tcap, ncap, lvs, t, len, cur, mks, kd, sz, st, cnt, now, par, rd, nt, nl, nc, nm, reg, k1, op, k2, wt, ss, cp, rr, cr, cc, fr, kl, tk) (fun c' => me_keep (tcap, ncap, lvs, t, len, cur, mks, kd, sz, st, cnt, now, par, rd, nt, nl, nc, nm, reg, k1, op, k2, wt, ss, cp, rr, cr, cc, fr, kl, tk) c' ∧ (op = 99 → me_ss c' ≠ none)) (fun post u => wpX_commandKey post u (nI n)) (fun post v => wpY_command post v (nI n) rep) := by
  have hk1 := I.2.2.2.2.1.2.1
  have hk2 := I.2.2.2.2.1.2.2.1
  have hop := I.2.2.2.2.1.2.2.2.1
  have hvk : me_vk (nI n) := ⟨n, rfl, h1, h2⟩
  have n27 : ¬ nI n = 27 := fun e => h27 ((nI_eq (b := 27) (by omega) (by omega)).mp e)
  have hk : me_mo (nI n) ∨ (nI n = op ∧ op ≠ 0) ∨ nI n = 102 ∨ (nI n = 96 ∧ me_vk 0) := by
    rcases hm with w | w
    · exact Or.inl w
    · exact Or.inr (Or.inl ⟨w, fun e => me_vk_0 hvk (w.trans e)⟩)
  have hm0 : op = 0 → me_mo (nI n) := fun e => by
    rcases hm with w | w
    · exact w
    · exact absurd (w.trans e) (me_vk_0 hvk)
  refine me_Cmd_W (me_move (key := nI n) (operand := 0) I hss hk hvk (Or.inl rfl) (fun h0 h121 => ?_)) ?_ ?_
  · rw [me_k3n, if_neg (me_vk_0 hvk), if_pos rfl]
    refine Or.inr (Or.inr (Or.inl ⟨rfl, ?_, hm⟩))
    rcases hop with q | q | q | q
    · exact absurd q h0
    · exact Or.inr q
    · exact Or.inl q
    · exact absurd q h121
  · intro post u R
    refine me_elX (P := fun u => (∀ post' : Int32 → SX → Prop, (∀ r u, post r u → post' r u) → wpX_finishMotion post' u (nI n) 0) → wpX_commandKey post u (nI n)) R ?_
    intro f_spanFrom f_spanTo f_spanTextEnd f_spanKind a_text a_marks a_regKinds a_regLens a_regCodes a_nodeParent a_nodeRedo a_nodeLen a_nodeCur a_nodeMarks a_nodeText a_recCodes a_chKeys a_chText a_frameCodes a_frameLen a_framePos a_frameTimes a_frameLevel hT hG hN hF H
    refine br_f n27 (br_t hwt (xe_takes0 h2 hk1 hk2 nd (br_t rfl (br_c (fun w => ?_) (fun w => ?_)))))
    · exact xe_plain_t (hm0 w) (fun post' imp => H _ (fun r u h => imp r u (me_impX (fun _ _ _ _ _ _ _ _ _ _ _ _ _ _ _ _ _ _ _ _ _ _ _ _ _ _ _ _ _ _ _ _ _ _ _ _ _ _ _ _ _ _ _ _ _ _ h => h) r u h)))
    · refine br_c (fun w2 => H _ (me_impX fun _ _ _ _ _ _ _ _ _ _ _ _ _ _ _ _ _ _ _ _ _ _ _ _ _ _ _ _ _ _ _ _ _ _ _ _ _ _ _ _ _ _ _ _ _ _ h => h)) (fun w2 => xe_isMotion_t (hm.resolve_right w2) (br_f (by decide) (H _ (me_impX fun _ _ _ _ _ _ _ _ _ _ _ _ _ _ _ _ _ _ _ _ _ _ _ _ _ _ _ _ _ _ _ _ _ _ _ _ _ _ _ _ _ _ _ _ _ _ h => h))))
  · intro post v R
    refine me_elY (P := fun v => (∀ post' : Int32 → SY → Prop, (∀ r u, post r u → post' r u) → wpY_move post' v (nI n) 0) → wpY_command post v (nI n) rep) R ?_
    intro q a_text a_marks a_info a_held a_strips a_size a_kind a_dueKey a_dueLevel hT hG hN hQ H
    refine ye_nd h2 h27 hk1 hk2 nd ?_
    by_cases w : me_mo (nI n)
    · exact ye_103_t w (H _ (me_impY fun _ _ _ _ _ _ _ _ _ _ _ _ _ _ _ _ _ _ _ _ _ _ _ _ _ _ _ _ h => h))
    · exact ye_103_f w (br_t rfl (br_t (hm.resolve_left w) (H _ (me_impY fun _ _ _ _ _ _ _ _ _ _ _ _ _ _ _ _ _ _ _ _ _ _ _ _ _ _ _ _ h => h))))
/-- an operand is awaited behind an operator -/
theorem me_ck_aw {n : Nat} {rep : Int32} (I : me_Inv (tcap, ncap, lvs, t, len, cur, mks, kd, sz, st, cnt, now, par, rd, nt, nl, nc, nm, reg, k1, op, k2, wt, ss, cp, rr, cr, cc, fr, kl, tk)) (h1 : 1 ≤ n) (h2 : n ≤ 126) (hwt : wt = 0) (ho : op ≠ 0) (hn : n = 102 ∨ n = 96 ∨ n = 105) (hmo : ¬ me_mo (nI n)) (hno : ¬ nI n = op) :
    me_Cmd (tcap, ncap, lvs, t, len, cur, mks, kd, sz, st, cnt, now, par, rd, nt, nl, nc, nm, reg, k1, op, k2, wt, ss, cp, rr, cr, cc, fr, kl, tk) (fun c' => c' = (tcap, ncap, lvs, t, len, cur, mks, kd, sz, st, cnt, now, par, rd, nt, nl, nc, nm, reg, k1, op, k2, nI n, ss, cp, rr, cr, cc, fr, kl, tk)) (fun post u => wpX_commandKey post u (nI n)) (fun post v => wpY_command post v (nI n) rep) := by
  have hk1 := I.2.2.2.2.1.2.1
  have hk2 := I.2.2.2.2.1.2.2.1
  have h27 : n ≠ 27 := by omega
  have n27 : ¬ nI n = 27 := fun e => h27 ((nI_eq (b := 27) (by omega) (by omega)).mp e)
  have nd : n < 48 ∨ 57 < n ∨ (n = 48 ∧ (op = 0 → k1 = 0) ∧ (¬ op = 0 → k2 = 0)) := by omega
  refine Or.inl ⟨(tcap, ncap, lvs, t, len, cur, mks, kd, sz, st, cnt, now, par, rd, nt, nl, nc, nm, reg, k1, op, k2, nI n, ss, cp, rr, cr, cc, fr, kl, tk), ⟨I.1, I.2.1, I.2.2.1, I.2.2.2.1, ⟨I.2.2.2.2.1.1, hk1, hk2, I.2.2.2.2.1.2.2.2.1, ?_, fun _ => ho⟩, I.2.2.2.2.2⟩, rfl, me_mkX fun post f_spanFrom f_spanTo f_spanTextEnd f_spanKind a_text a_marks a_regKinds a_regLens a_regCodes a_nodeParent a_nodeRedo a_nodeLen a_nodeCur a_nodeMarks a_nodeText a_recCodes a_chKeys a_chText a_frameCodes a_frameLen a_framePos a_frameTimes a_frameLevel hT hG hN hF H => ?_, me_mkY fun post q a_text a_marks a_info a_held a_strips a_size a_kind a_dueKey a_dueLevel hT hG hN hQ H => ?_⟩
  · rcases hn with rfl | rfl | rfl
    · exact Or.inr (Or.inr (Or.inr (Or.inr (Or.inl rfl))))
    · exact Or.inr (Or.inr (Or.inr (Or.inl rfl)))
    · exact Or.inr (Or.inr (Or.inr (Or.inr (Or.inr (Or.inl rfl)))))
  · have R := H _ (me_inX (f_spanFrom := f_spanFrom) (f_spanTo := f_spanTo) (f_spanTextEnd := f_spanTextEnd) (f_spanKind := f_spanKind) hT hG hN hF)
    refine br_f n27 (br_t hwt (xe_takes0 h2 hk1 hk2 nd (br_t rfl (br_f ho (br_f hno (xe_isMotion_f hmo (br_t rfl ?_)))))))
    exact pk_eq n 102 (fun _ => R) (fun w1 => pk_eq n 96 (fun _ => R) (fun w2 => pk_eq n 105 (fun _ => R) (fun w3 => by omega)))
  · have R := H _ (me_inY hT hG hN hQ)
    have k218 : ∀ z : Int32, wY_command_218 post (nI n) rep (nI (me_nt k1 k2)) z (nI tcap) (nI ncap) (nI lvs) (nI len) (nI cur) (nI now) (nI cnt) (nI q) (nI k1) op (nI k2) wt (nI cp) (nI cc) (me_o reg) (me_o ss) (me_o rr) (me_o cr) a_text a_marks a_info a_held a_strips a_size a_kind a_dueKey a_dueLevel := fun z =>
      pk_eq n 102 (fun _ => R) (fun w1 => pk_eq n 96 (fun _ => R) (fun w2 => br_f ho (pk_eq n 105 (fun _ => R) (fun w3 => by omega))))
    refine ye_nd h2 h27 hk1 hk2 nd (ye_103_f hmo (br_t rfl (br_f hno ?_)))
    exact pk_eq n 34 (fun w => by omega) (fun _ => pk_eq n 109 (fun w => by omega) (fun _ => pk_eq n 64 (fun w => by omega) (fun _ => pk_eq n 113 (fun w => by omega) (fun _ => k218 0))))
/-- a key that means nothing -/
theorem me_ck_bad {n : Nat} {rep : Int32} (I : me_Inv (tcap, ncap, lvs, t, len, cur, mks, kd, sz, st, cnt, now, par, rd, nt, nl, nc, nm, reg, k1, op, k2, wt, ss, cp, rr, cr, cc, fr, kl, tk)) (h1 : 1 ≤ n) (h2 : n ≤ 126) (h27 : n ≠ 27) (hwt : wt = 0) (nd : n < 48 ∨ 57 < n ∨ (n = 48 ∧ (op = 0 → k1 = 0) ∧ (¬ op = 0 → k2 = 0))) (hmo : ¬ me_mo (nI n)) (hno : ¬ nI n = op) (hb : op ≠ 0 → n ≠ 102 ∧ n ≠ 96 ∧ n ≠ 105) (hb0 : op = 0 → n ≠ 34 ∧ n ≠ 46 ∧ n ≠ 64 ∧ n ≠ 80 ∧ n ≠ 85 ∧ n ≠ 96 ∧ n ≠ 97 ∧ n ≠ 99 ∧ n ≠ 100 ∧ n ≠ 102 ∧ n ≠ 105 ∧ n ≠ 109 ∧ n ≠ 111 ∧ n ≠ 112 ∧ n ≠ 113 ∧ n ≠ 117 ∧ n ≠ 120 ∧ n ≠ 121) :
    me_Cmd (tcap, ncap, lvs, t, len, cur, mks, kd, sz, st, cnt, now, par, rd, nt, nl, nc, nm, reg, k1, op, k2, wt, ss, cp, rr, cr, cc, fr, kl, tk) (fun _ => False) (fun post u => wpX_commandKey post u (nI n)) (fun post v => wpY_command post v (nI n) rep) := by
  have hk1 := I.2.2.2.2.1.2.1
  have hk2 := I.2.2.2.2.1.2.2.1
  have n27 : ¬ nI n = 27 := fun e => h27 ((nI_eq (b := 27) (by omega) (by omega)).mp e)
  refine Or.inr (Or.inr ⟨me_mkX fun post f_spanFrom f_spanTo f_spanTextEnd f_spanKind a_text a_marks a_regKinds a_regLens a_regCodes a_nodeParent a_nodeRedo a_nodeLen a_nodeCur a_nodeMarks a_nodeText a_recCodes a_chKeys a_chText a_frameCodes a_frameLen a_framePos a_frameTimes a_frameLevel hT hG hN hF H => ?_, (tcap, ncap, lvs, t, len, cur, mks, kd, sz, st, cnt, now, par, rd, nt, nl, nc, nm, reg, k1, op, k2, wt, ss, cp, rr, cr, cc, fr, kl, tk), rfl, me_mkY fun post q a_text a_marks a_info a_held a_strips a_size a_kind a_dueKey a_dueLevel hT hG hN hQ H => ?_⟩)
  · have R := H _ (me_inX (f_spanFrom := f_spanFrom) (f_spanTo := f_spanTo) (f_spanTextEnd := f_spanTextEnd) (f_spanKind := f_spanKind) hT hG hN hF)
    refine br_f n27 (br_t hwt (xe_takes0 h2 hk1 hk2 nd (br_t rfl (br_c (fun w => xe_plain_bad h2 hmo (hb0 w) R) (fun w => br_f hno (xe_isMotion_f hmo (br_t rfl ?_)))))))
    · have qq := hb w
      exact pk_eq n 102 (fun e => by omega) (fun _ => pk_eq n 96 (fun e => by omega) (fun _ => pk_eq n 105 (fun e => by omega) (fun _ => R)))
  · have R := H _ (me_inY hT hG hN hQ)
    refine ye_nd h2 h27 hk1 hk2 nd (ye_103_f hmo (br_t rfl (br_f hno ?_)))
    by_cases w : op = 0
    · have qq := hb0 w
      have k279 : wY_command_279 post (nI n) (nI (me_nt k1 k2)) (nI tcap) (nI ncap) (nI lvs) (nI len) (nI cur) (nI now) (nI cnt) (nI q) (nI k1) op (nI k2) wt (nI cp) (nI cc) (me_o reg) (me_o ss) (me_o rr) (me_o cr) a_text a_marks a_info a_held a_strips a_size a_kind a_dueKey a_dueLevel := pk_eq n 100 (fun e => by omega) (fun _ => pk_eq n 99 (fun e => by omega) (fun _ => pk_eq n 121 (fun e => by omega) (fun _ => pk_eq n 113 (fun e => by omega) (fun _ => pk_eq n 120 (fun e => by omega) (fun _ => pk_eq n 112 (fun e => by omega) (fun _ => pk_eq n 80 (fun e => by omega) (fun _ => pk_eq n 105 (fun e => by omega) (fun _ => pk_eq n 97 (fun e => by omega) (fun _ => pk_eq n 111 (fun e => by omega) (fun _ => pk_eq n 117 (fun e => by omega) (fun _ => pk_eq n 85 (fun e => by omega) (fun _ => pk_eq n 46 (fun e => by omega) (fun _ => R)))))))))))))
      have k218 : wY_command_218 post (nI n) rep (nI (me_nt k1 k2)) 0 (nI tcap) (nI ncap) (nI lvs) (nI len) (nI cur) (nI now) (nI cnt) (nI q) (nI k1) op (nI k2) wt (nI cp) (nI cc) (me_o reg) (me_o ss) (me_o rr) (me_o cr) a_text a_marks a_info a_held a_strips a_size a_kind a_dueKey a_dueLevel :=
        pk_eq n 102 (fun e => by omega) (fun _ => pk_eq n 96 (fun e => by omega) (fun _ => br_t w (br_t rfl (br_t w (pk_eq n 113 (fun e => by omega) (fun _ => k279))))))
      exact pk_eq n 34 (fun e => by omega) (fun _ => pk_eq n 109 (fun e => by omega) (fun _ => pk_eq n 64 (fun e => by omega) (fun _ => pk_eq n 113 (fun e => by omega) (fun _ => k218))))
    · have qq := hb w
      have k218 : ∀ z : Int32, wY_command_218 post (nI n) rep (nI (me_nt k1 k2)) z (nI tcap) (nI ncap) (nI lvs) (nI len) (nI cur) (nI now) (nI cnt) (nI q) (nI k1) op (nI k2) wt (nI cp) (nI cc) (me_o reg) (me_o ss) (me_o rr) (me_o cr) a_text a_marks a_info a_held a_strips a_size a_kind a_dueKey a_dueLevel := fun z =>
        pk_eq n 102 (fun e => by omega) (fun _ => pk_eq n 96 (fun e => by omega) (fun _ => br_f w (pk_eq n 105 (fun e => by omega) (fun _ => br_f w R))))
      refine pk_eq n 34 (fun _ => k218 1) (fun _ => pk_eq n 109 (fun _ => k218 1) (fun _ => pk_eq n 64 (fun _ => k218 1) (fun _ => pk_eq n 113 (fun _ => br_c (fun _ => br_c (fun _ => k218 0) (fun _ => k218 1)) (fun _ => k218 0)) (fun _ => k218 0))))
end
end
section
/-! operands -/
section
variable {tcap : Nat} {ncap : Nat} {lvs : Nat} {t : Nat → Int32} {len : Nat} {cur : Nat} {mks : Nat → Option Nat} {kd : Nat → Nat} {sz : Nat → Nat} {st : Nat → Nat → Int32} {cnt : Nat} {now : Nat} {par : Nat → Option Nat} {rd : Nat → Option Nat} {nt : Nat → Nat → Int32} {nl : Nat → Nat} {nc : Nat → Nat} {nm : Nat → Nat → Option Nat} {reg : Option Nat} {k1 : Nat} {op : Int32} {k2 : Nat} {wt : Int32} {ss : Option Nat} {cp : Nat} {rr : Option Nat} {cr : Option Nat} {cc : Nat} {fr : List (List Int32 × Nat × Nat × Nat)} {kl : Nat} {tk : Nat}
/-- the operand of a register's sign -/
theorem me_op_34 {n : Nat} {lv : Int32} (I : me_Inv (tcap, ncap, lvs, t, len, cur, mks, kd, sz, st, cnt, now, par, rd, nt, nl, nc, nm, reg, k1, op, k2, wt, ss, cp, rr, cr, cc, fr, kl, tk)) (h2 : n ≤ 126) (hwt : wt = 34) :
    me_Cmd (tcap, ncap, lvs, t, len, cur, mks, kd, sz, st, cnt, now, par, rd, nt, nl, nc, nm, reg, k1, op, k2, wt, ss, cp, rr, cr, cc, fr, kl, tk) (fun c' => ∃ r, c' = (tcap, ncap, lvs, t, len, cur, mks, kd, sz, st, cnt, now, par, rd, nt, nl, nc, nm, some r, k1, op, k2, 0, ss, cp, rr, cr, cc, fr, kl, tk)) (fun post u => wpX_nameRegister post u (nI n)) (fun post v => wpY_operand post v (nI n) lv) := by
  have hk1 := I.2.2.2.2.1.2.1
  have hk2 := I.2.2.2.2.1.2.2.1
  subst hwt
  cases hrn : me_rn n with
  | none =>
    refine Or.inr (Or.inr ⟨me_mkX fun post f_spanFrom f_spanTo f_spanTextEnd f_spanKind a_text a_marks a_regKinds a_regLens a_regCodes a_nodeParent a_nodeRedo a_nodeLen a_nodeCur a_nodeMarks a_nodeText a_recCodes a_chKeys a_chText a_frameCodes a_frameLen a_framePos a_frameTimes a_frameLevel hT hG hN hF H => ?_, (tcap, ncap, lvs, t, len, cur, mks, kd, sz, st, cnt, now, par, rd, nt, nl, nc, nm, reg, k1, op, k2, 34, ss, cp, rr, cr, cc, fr, kl, tk), rfl, me_mkY fun post q a_text a_marks a_info a_held a_strips a_size a_kind a_dueKey a_dueLevel hT hG hN hQ H => ?_⟩)
    · unfold wpX_nameRegister
      refine xe_regNumber h2 ?_
      rw [hrn]
      exact br_f (by decide) (H _ (me_inX hT hG hN hF))
    · refine ye_operand_head h2 (ye_times hk1 hk2 (br_f (by decide) (br_f (by decide) (br_f (by decide) ?_))))
      rw [hrn]
      exact br_f (by decide) (H _ (me_inY hT hG hN hQ))
  | some r =>
    have hr4 := me_rn_b hrn
    refine Or.inl ⟨(tcap, ncap, lvs, t, len, cur, mks, kd, sz, st, cnt, now, par, rd, nt, nl, nc, nm, some r, k1, op, k2, 0, ss, cp, rr, cr, cc, fr, kl, tk), ⟨I.1, I.2.1, I.2.2.1, I.2.2.2.1, ⟨fun q h => (by cases h; exact hr4), hk1, hk2, I.2.2.2.2.1.2.2.2.1, Or.inl rfl, fun h => absurd h (by decide)⟩, I.2.2.2.2.2⟩, ⟨r, rfl⟩, me_mkX fun post f_spanFrom f_spanTo f_spanTextEnd f_spanKind a_text a_marks a_regKinds a_regLens a_regCodes a_nodeParent a_nodeRedo a_nodeLen a_nodeCur a_nodeMarks a_nodeText a_recCodes a_chKeys a_chText a_frameCodes a_frameLen a_framePos a_frameTimes a_frameLevel hT hG hN hF H => ?_, me_mkY fun post q a_text a_marks a_info a_held a_strips a_size a_kind a_dueKey a_dueLevel hT hG hN hQ H => ?_⟩
    · unfold wpX_nameRegister
      refine xe_regNumber h2 ?_
      rw [hrn]
      exact br_t (nI_pos' (by omega)) (H _ (me_inX hT hG hN hF))
    · refine ye_operand_head h2 (ye_times hk1 hk2 (br_f (by decide) (br_f (by decide) (br_f (by decide) ?_))))
      rw [hrn]
      exact br_t (nI_pos' (by omega)) (br_t rfl (H _ (me_inY hT hG hN hQ)))
/-- the operand of m -/
theorem me_op_109 {n : Nat} {lv : Int32} (I : me_Inv (tcap, ncap, lvs, t, len, cur, mks, kd, sz, st, cnt, now, par, rd, nt, nl, nc, nm, reg, k1, op, k2, wt, ss, cp, rr, cr, cc, fr, kl, tk)) (h2 : n ≤ 126) (hwt : wt = 109) :
    me_Cmd (tcap, ncap, lvs, t, len, cur, mks, kd, sz, st, cnt, now, par, rd, nt, nl, nc, nm, reg, k1, op, k2, wt, ss, cp, rr, cr, cc, fr, kl, tk) (fun c' => me_keep (tcap, ncap, lvs, t, len, cur, mks, kd, sz, st, cnt, now, par, rd, nt, nl, nc, nm, reg, k1, op, k2, wt, ss, cp, rr, cr, cc, fr, kl, tk) c') (fun post u => wpX_setMark post u (nI n)) (fun post v => wpY_operand post v (nI n) lv) := by
  have I' := I
  obtain ⟨⟨a1, a2, a3, a4, a5, a6⟩, ⟨t1, t2, t3, t4⟩, hIG, hIN, ⟨hr, hk1, hk2, hop, hw1, hw2⟩, hIS, hIF⟩ := I
  subst hwt
  by_cases hn : 97 ≤ n ∧ n ≤ 99
  · have hrn : me_rn n = some (n - 96) := by unfold me_rn; rw [if_neg (by omega), if_pos hn]
    have hT' : ∀ a_text a_marks : Nat → Int32, me_TX t len mks a_text a_marks → me_TX t len (me_set mks (n - 97) (some cur)) a_text (upd a_marks (n - 97) (nI cur)) := fun a_text a_marks hT => ⟨hT.1, fun m hm => by
      by_cases e : m = n - 97
      · rw [e, pk_us, me_set_s]; rfl
      · rw [pk_un e, me_set_n e]; exact hT.2 m hm⟩
    refine Or.inr (Or.inl ⟨(tcap, ncap, lvs, t, len, cur, me_set mks (n - 97) (some cur), kd, sz, st, cnt, now, par, rd, nt, nl, nc, nm, reg, k1, op, k2, 109, ss, cp, rr, cr, cc, fr, kl, tk), ⟨I'.1, ⟨t1, t2, t3, fun m hm j hj => ?_⟩, I'.2.2⟩, ?_, me_mkX fun post f_spanFrom f_spanTo f_spanTextEnd f_spanKind a_text a_marks a_regKinds a_regLens a_regCodes a_nodeParent a_nodeRedo a_nodeLen a_nodeCur a_nodeMarks a_nodeText a_recCodes a_chKeys a_chText a_frameCodes a_frameLen a_framePos a_frameTimes a_frameLevel hT hG hN hF H => ?_, me_mkY fun post q a_text a_marks a_info a_held a_strips a_size a_kind a_dueKey a_dueLevel hT hG hN hQ H => ?_⟩)
    · by_cases e : m = n - 97
      · rw [e, me_set_s] at hj; cases hj; exact t2
      · rw [me_set_n e] at hj; exact t4 m hm j hj
    · exact me_keepI rfl rfl
    · refine br_f (nI_nlt (b := 97) (by omega) (by omega)) (br_t (nI_le (b := 99) (by omega) (by omega)) ⟨pk_in (n - 97) 3 (by omega) (me_sub97 (by omega)), nm_r (e' := upd a_marks (n - 97) (nI cur)) (by rw [pk_cl (n - 97) (me_sub97 (by omega))]) (H _ (me_inX (hT' _ _ hT) hG hN hF))⟩)
    · refine ye_operand_head h2 (ye_times hk1 hk2 (br_f (by decide) (br_f (by decide) (br_f (by decide) ?_))))
      rw [hrn]
      have e : nI (n - 96) - 1 = nI (n - 97) := by rw [me_sub1 (by omega)]; exact congrArg nI (by omega)
      refine br_t (nI_pos' (by omega)) (br_f (by decide) (br_t rfl (br_f (nI_nle (by omega) (by omega)) ⟨pk_in (n - 97) 3 (by omega) e, nm_r (e' := upd a_marks (n - 97) (nI cur)) ?_ (H _ (me_inY (hT' _ _ hT) hG hN hQ))⟩)))
      rw [me_o_some, pk_cl (n - 97) e]
  · refine Or.inr (Or.inr ⟨me_mkX fun post f_spanFrom f_spanTo f_spanTextEnd f_spanKind a_text a_marks a_regKinds a_regLens a_regCodes a_nodeParent a_nodeRedo a_nodeLen a_nodeCur a_nodeMarks a_nodeText a_recCodes a_chKeys a_chText a_frameCodes a_frameLen a_framePos a_frameTimes a_frameLevel hT hG hN hF H => ?_, (tcap, ncap, lvs, t, len, cur, mks, kd, sz, st, cnt, now, par, rd, nt, nl, nc, nm, reg, k1, op, k2, 109, ss, cp, rr, cr, cc, fr, kl, tk), rfl, me_mkY fun post q a_text a_marks a_info a_held a_strips a_size a_kind a_dueKey a_dueLevel hT hG hN hQ H => ?_⟩)
    · have R := H _ (me_inX (f_spanFrom := f_spanFrom) (f_spanTo := f_spanTo) (f_spanTextEnd := f_spanTextEnd) (f_spanKind := f_spanKind) hT hG hN hF)
      exact pk_lt n 97 (fun _ => R) (fun w => pk_le n 99 (fun w2 => by omega) (fun _ => R))
    · have R := H _ (me_inY hT hG hN hQ)
      refine ye_operand_head h2 (ye_times hk1 hk2 (br_f (by decide) (br_f (by decide) (br_f (by decide) ?_))))
      by_cases h34 : n = 34
      · subst h34
        exact br_t (by decide) (br_f (by decide) (br_t rfl (br_t (by decide) (br_f (by decide) (br_f (by decide) R)))))
      · have hrn : me_rn n = none := by unfold me_rn; rw [if_neg h34, if_neg hn]
        rw [hrn]
        exact br_f (by decide) R
/-- the operand of q -/
theorem me_op_113 {n : Nat} {lv : Int32} (I : me_Inv (tcap, ncap, lvs, t, len, cur, mks, kd, sz, st, cnt, now, par, rd, nt, nl, nc, nm, reg, k1, op, k2, wt, ss, cp, rr, cr, cc, fr, kl, tk)) (h2 : n ≤ 126) (hwt : wt = 113) :
    me_Cmd (tcap, ncap, lvs, t, len, cur, mks, kd, sz, st, cnt, now, par, rd, nt, nl, nc, nm, reg, k1, op, k2, wt, ss, cp, rr, cr, cc, fr, kl, tk) (fun c' => me_keep (tcap, ncap, lvs, t, len, cur, mks, kd, sz, st, cnt, now, par, rd, nt, nl, nc, nm, reg, k1, op, k2, wt, ss, cp, rr, cr, cc, fr, kl, tk) c') (fun post u => wpX_startRecording post u (nI n)) (fun post v => wpY_operand post v (nI n) lv) := by
  have I' := I
  obtain ⟨hA, hIT, ⟨g1, g2, g3, g4⟩, hIN, ⟨hr, hk1, hk2, hop, hw1, hw2⟩, ⟨s1, s2, s3, s4, s5⟩, hIF⟩ := I
  subst hwt
  cases hrn : me_rn n with
  | none =>
    refine Or.inr (Or.inr ⟨me_mkX fun post f_spanFrom f_spanTo f_spanTextEnd f_spanKind a_text a_marks a_regKinds a_regLens a_regCodes a_nodeParent a_nodeRedo a_nodeLen a_nodeCur a_nodeMarks a_nodeText a_recCodes a_chKeys a_chText a_frameCodes a_frameLen a_framePos a_frameTimes a_frameLevel hT hG hN hF H => ?_, (tcap, ncap, lvs, t, len, cur, mks, kd, sz, st, cnt, now, par, rd, nt, nl, nc, nm, reg, k1, op, k2, 113, ss, cp, rr, cr, cc, fr, kl, tk), rfl, me_mkY fun post q a_text a_marks a_info a_held a_strips a_size a_kind a_dueKey a_dueLevel hT hG hN hQ H => ?_⟩)
    · unfold wpX_startRecording
      refine xe_regNumber h2 ?_
      rw [hrn]
      exact br_f (by decide) (H _ (me_inX hT hG hN hF))
    · refine ye_operand_head h2 (ye_times hk1 hk2 (br_f (by decide) (br_f (by decide) (br_f (by decide) ?_))))
      rw [hrn]
      exact br_f (by decide) (H _ (me_inY hT hG hN hQ))
  | some r =>
    have hr4 := me_rn_b hrn
    refine Or.inr (Or.inl ⟨(tcap, ncap, lvs, t, len, cur, mks, kd, me_set sz 4 0, st, cnt, now, par, rd, nt, nl, nc, nm, reg, k1, op, k2, 113, ss, cp, some r, cr, cc, fr, kl, tk), ⟨hA, hIT, ⟨fun q hq => ?_, fun q hq => ?_, ?_, ?_⟩, hIN, I'.2.2.2.2.1, ⟨s1, s2, fun q h => (by cases h; exact hr4), s4, s5⟩, hIF⟩, me_keepI rfl rfl, me_mkX fun post f_spanFrom f_spanTo f_spanTextEnd f_spanKind a_text a_marks a_regKinds a_regLens a_regCodes a_nodeParent a_nodeRedo a_nodeLen a_nodeCur a_nodeMarks a_nodeText a_recCodes a_chKeys a_chText a_frameCodes a_frameLen a_framePos a_frameTimes a_frameLevel hT hG hN hF H => ?_, me_mkY fun post q a_text a_marks a_info a_held a_strips a_size a_kind a_dueKey a_dueLevel hT hG hN hQ H => ?_⟩)
    · rw [me_set_n (by omega)]; exact g1 q hq
    · by_cases e : q = 4
      · subst e; rw [me_set_s]; exact ⟨by omega, fun i hi => by omega⟩
      · rw [me_set_n e]; exact g2 q hq
    · rw [me_set_n (by omega)]; exact g3
    · rw [me_set_n (by omega)]; exact g4
    · unfold wpX_startRecording
      refine xe_regNumber h2 ?_
      rw [hrn]
      refine br_t (nI_pos' (by omega)) (H _ (me_inX' (by rfl) (by rfl) (by rfl) hT ⟨fun q hq => ?_, ?_, ?_, ?_⟩ hN hF))
      · rw [me_set_n (by omega)]; exact hG.1 q hq
      · rw [me_set_s]; intro i hi; omega
      · rw [me_set_n (by omega)]; exact hG.2.2.1
      · rw [me_set_n (by omega)]; exact hG.2.2.2
    · refine ye_operand_head h2 (ye_times hk1 hk2 (br_f (by decide) (br_f (by decide) (br_f (by decide) ?_))))
      rw [hrn]
      refine br_t (nI_pos' (by omega)) (br_f (by decide) (br_f (by decide) (br_t rfl (nm_e (H _ (me_inY hT ⟨fun q hq => ?_, hG.2⟩ hN hQ))))))
      by_cases e : q = 4
      · subst e; rw [me_set_s, pk_us]; exact ⟨rfl, fun i hi => by omega⟩
      · rw [me_set_n e, pk_un e]; exact hG.1 q hq
end
end
section
/-! a key, no session under way -/
theorem me_vac {k2 : Nat} {key : Int32} {ks : List Int32} (hk : ¬ (key = 120 ∨ key = 112 ∨ key = 80 ∨ key = 105 ∨ key = 97 ∨ key = 111 ∨ key = 100 ∨ key = 99)) (h : me_P5f none 0 k2 0 (key :: ks)) : False := by
  rcases (me_P5_0 h).2 with ⟨q | q | q, _⟩ | ⟨q | q | q, _⟩ | ⟨q | q, _⟩
  · exact hk (Or.inl q)
  · exact hk (Or.inr (Or.inl q))
  · exact hk (Or.inr (Or.inr (Or.inl q)))
  · exact hk (Or.inr (Or.inr (Or.inr (Or.inl q))))
  · exact hk (Or.inr (Or.inr (Or.inr (Or.inr (Or.inl q)))))
  · exact hk (Or.inr (Or.inr (Or.inr (Or.inr (Or.inr (Or.inl q))))))
  · exact hk (Or.inr (Or.inr (Or.inr (Or.inr (Or.inr (Or.inr (Or.inl q)))))))
  · exact hk (Or.inr (Or.inr (Or.inr (Or.inr (Or.inr (Or.inr (Or.inr q)))))))
theorem me_mo_not {key : Int32} (hm : me_mo key) : ¬ (key = 120 ∨ key = 112 ∨ key = 80 ∨ key = 105 ∨ key = 97 ∨ key = 111 ∨ key = 100 ∨ key = 99) := by
  rcases hm with rfl | rfl | rfl | rfl | rfl | rfl | rfl | rfl <;> decide
theorem me_mo_not2 {key : Int32} (hm : me_mo key) : ¬ (key = 102 ∨ key = 96 ∨ key = 105) := by
  rcases hm with rfl | rfl | rfl | rfl | rfl | rfl | rfl | rfl <;> decide
theorem me_Tl_S {op : Int32} {ks : List Int32} {o : Option Nat} (h : me_Tl op ks) (hs : op = 99 → o ≠ none) : ks = [] ∨ (o ≠ none ∧ me_Tl 99 ks) := by
  rcases h with ⟨h1, h2⟩ | ⟨h1, h2⟩
  · exact Or.inr ⟨hs h1, Or.inl ⟨rfl, h2⟩⟩
  · exact Or.inl h2
section
variable {tcap : Nat} {ncap : Nat} {lvs : Nat} {t : Nat → Int32} {len : Nat} {cur : Nat} {mks : Nat → Option Nat} {kd : Nat → Nat} {sz : Nat → Nat} {st : Nat → Nat → Int32} {cnt : Nat} {now : Nat} {par : Nat → Option Nat} {rd : Nat → Option Nat} {nt : Nat → Nat → Int32} {nl : Nat → Nat} {nc : Nat → Nat} {nm : Nat → Nat → Option Nat} {reg : Option Nat} {k1 : Nat} {op : Int32} {k2 : Nat} {wt : Int32} {ss : Option Nat} {cp : Nat} {rr : Option Nat} {cr : Option Nat} {cc : Nat} {fr : List (List Int32 × Nat × Nat × Nat)} {kl : Nat} {tk : Nat}
theorem me_nxR {key : Int32} {codes : List Int32} (hkl : kl ≤ 4) (hss : ss = none) (h : me_Ph0 codes) : me_nx (tcap, ncap, lvs, t, len, cur, mks, kd, sz, st, cnt, now, par, rd, nt, nl, nc, nm, reg, k1, op, k2, wt, ss, cp, rr, cr, cc, fr, kl, tk) key (me_rp (tcap, ncap, lvs, t, len, cur, mks, kd, sz, st, cnt, now, par, rd, nt, nl, nc, nm, reg, k1, op, k2, wt, ss, cp, rr, cr, cc, fr, kl, tk) (codes, 0, 1, 5)) := by
  subst hss
  refine ⟨?_, Or.inr ⟨?_, (codes, 0, 1, 5), ?_, Or.inr ⟨rfl, rfl, rfl, ?_⟩⟩⟩
  · show tk = tk
    rfl
  · show kl ≤ 4
    exact hkl
  · show (codes, 0, 1, 5) :: fr = (codes, 0, 1, 5) :: fr
    rfl
  · exact Or.inr (Or.inr (Or.inl ⟨rfl, rfl, rfl, rfl, h⟩))
theorem me_ck {n : Nat} {rep : Int32} (I : me_Inv (tcap, ncap, lvs, t, len, cur, mks, kd, sz, st, cnt, now, par, rd, nt, nl, nc, nm, reg, k1, op, k2, wt, ss, cp, rr, cr, cc, fr, kl, tk)) (hss : ss = none) (h1 : 1 ≤ n) (h2 : n ≤ 126) (hwt : wt = 0 ∨ n = 27) (hrep : (kl = 0 ∧ rep = 0) ∨ (kl ≠ 0 ∧ rep = 1)) (hkl5 : kl ≤ 5) (HK : (kl ≤ 4 ∧ fr.length = kl) ∨ (kl = 5 ∧ ∃ ks, me_P5f ss op k2 wt (nI n :: ks))) :
    me_Cmd (tcap, ncap, lvs, t, len, cur, mks, kd, sz, st, cnt, now, par, rd, nt, nl, nc, nm, reg, k1, op, k2, wt, ss, cp, rr, cr, cc, fr, kl, tk) (me_nx (tcap, ncap, lvs, t, len, cur, mks, kd, sz, st, cnt, now, par, rd, nt, nl, nc, nm, reg, k1, op, k2, wt, ss, cp, rr, cr, cc, fr, kl, tk) (nI n)) (fun post u => wpX_commandKey post u (nI n)) (fun post v => wpY_command post v (nI n) rep) := by
  have hk1 := I.2.2.2.2.1.2.1
  have hk2 := I.2.2.2.2.1.2.2.1
  have hop := I.2.2.2.2.1.2.2.2.1
  subst hss
  by_cases h27 : n = 27
  · subst h27
    refine Or.inr (Or.inl ⟨(tcap, ncap, lvs, t, len, cur, mks, kd, sz, st, cnt, now, par, rd, nt, nl, nc, nm, reg, k1, op, k2, wt, none, cp, rr, cr, cc, fr, kl, tk), I, me_nx_S ⟨me_fr_drop _, me_tk_drop _⟩ (fun ks h => ?_), me_mkX fun post f_spanFrom f_spanTo f_spanTextEnd f_spanKind a_text a_marks a_regKinds a_regLens a_regCodes a_nodeParent a_nodeRedo a_nodeLen a_nodeCur a_nodeMarks a_nodeText a_recCodes a_chKeys a_chText a_frameCodes a_frameLen a_framePos a_frameTimes a_frameLevel hT hG hN hF H => ?_, me_mkY fun post q a_text a_marks a_info a_held a_strips a_size a_kind a_dueKey a_dueLevel hT hG hN hQ H => ?_⟩)
    · exfalso
      rcases me_P5_no h with ⟨_, _, _, q⟩ | ⟨_, qo, _, q⟩ | ⟨_, _, q, _⟩
      · rcases q with ⟨q | q | q, _⟩ | ⟨q | q | q, _⟩ | ⟨q | q, _⟩ <;> exact absurd q (by decide)
      · rcases q with ⟨q | q, _⟩ | ⟨q, _⟩
        · exact absurd q (by unfold me_mo; decide)
        · rcases qo with w | w <;> (rw [w] at q; exact absurd q (by decide))
        · exact absurd q (by decide)
      · exact q rfl
    · exact br_t rfl (H _ (me_inX hT hG hN hF))
    · have R := H _ (me_inY hT hG hN hQ)
      exact ye_times hk1 hk2 (br_c (fun _ => br_t rfl R) (fun _ => br_t rfl R))
  have hwt' := hwt.resolve_right h27
  subst hwt'
  have n27 : ¬ nI n = 27 := fun e => h27 ((nI_eq (b := 27) (by omega) (by omega)).mp e)
  by_cases hd : (48 ≤ n ∧ n ≤ 57) ∧ ¬ (n = 48 ∧ (op = 0 → k1 = 0) ∧ (¬ op = 0 → k2 = 0))
  · obtain ⟨⟨d1, d2⟩, d3⟩ := hd
    have hdig : ∀ K : Nat, K < 48 ∨ 57 < K → K < 2 ^ 31 → ¬ nI n = nI K := fun K hK hK2 e => by
      have := (nI_eq (by omega) hK2).mp e
      omega
    have hPv : ∀ ks, me_P5f none op k2 0 (nI n :: ks) → False := fun ks h => by
      rcases me_P5_no h with ⟨_, _, _, q⟩ | ⟨_, qo, q2, q⟩ | ⟨q, _⟩
      · rcases q with ⟨q | q | q, _⟩ | ⟨q | q | q, _⟩ | ⟨q | q, _⟩
        · exact hdig 120 (by omega) (by omega) q
        · exact hdig 112 (by omega) (by omega) q
        · exact hdig 80 (by omega) (by omega) q
        · exact hdig 105 (by omega) (by omega) q
        · exact hdig 97 (by omega) (by omega) q
        · exact hdig 111 (by omega) (by omega) q
        · exact hdig 100 (by omega) (by omega) q
        · exact hdig 99 (by omega) (by omega) q
      · have ho : ¬ op = 0 := by rcases qo with w | w <;> (rw [w]; decide)
        rcases q with ⟨q | q, _⟩ | ⟨q | q | q, _⟩
        · rcases q with q | q | q | q | q | q | q | q
          · exact hdig 104 (by omega) (by omega) q
          · exact hdig 108 (by omega) (by omega) q
          · exact hdig 119 (by omega) (by omega) q
          · exact hdig 98 (by omega) (by omega) q
          · have e48 := (nI_eq (b := 48) (by omega) (by omega)).mp q
            exact d3 ⟨e48, fun w => absurd w ho, fun _ => q2⟩
          · exact hdig 36 (by omega) (by omega) q
          · exact hdig 106 (by omega) (by omega) q
          · exact hdig 107 (by omega) (by omega) q
        · rcases qo with w | w
          · rw [w] at q; exact hdig 100 (by omega) (by omega) q
          · rw [w] at q; exact hdig 99 (by omega) (by omega) q
        · exact hdig 102 (by omega) (by omega) q
        · exact hdig 96 (by omega) (by omega) q
        · exact hdig 105 (by omega) (by omega) q
      · exact absurd q (by decide)
    by_cases ho : op = 0
    · refine Or.inl ⟨(tcap, ncap, lvs, t, len, cur, mks, kd, sz, st, cnt, now, par, rd, nt, nl, nc, nm, reg, if k1 * 10 + n - 48 ≤ 32 then k1 * 10 + n - 48 else 32, op, k2, 0, none, cp, rr, cr, cc, fr, kl, tk), ⟨I.1, I.2.1, I.2.2.1, I.2.2.2.1, ⟨I.2.2.2.2.1.1, ?_, hk2, hop, I.2.2.2.2.1.2.2.2.2⟩, I.2.2.2.2.2⟩, me_nxI rfl rfl (fun ks h => (hPv ks h).elim), me_mkX fun post f_spanFrom f_spanTo f_spanTextEnd f_spanKind a_text a_marks a_regKinds a_regLens a_regCodes a_nodeParent a_nodeRedo a_nodeLen a_nodeCur a_nodeMarks a_nodeText a_recCodes a_chKeys a_chText a_frameCodes a_frameLen a_framePos a_frameTimes a_frameLevel hT hG hN hF H => ?_, me_mkY fun post q a_text a_marks a_info a_held a_strips a_size a_kind a_dueKey a_dueLevel hT hG hN hQ H => ?_⟩
      · split <;> omega
      · exact br_f n27 (br_t rfl (xe_takes1 d1 d2 hk1 hk2 d3 (fun _ => br_f (by decide) (H _ (me_inX hT hG hN hF))) (fun w => absurd ho w)))
      · exact ye_digit d1 d2 hk1 hk2 d3 (fun _ => H _ (me_inY hT hG hN hQ)) (fun w => absurd ho w)
    · refine Or.inl ⟨(tcap, ncap, lvs, t, len, cur, mks, kd, sz, st, cnt, now, par, rd, nt, nl, nc, nm, reg, k1, op, if k2 * 10 + n - 48 ≤ 32 then k2 * 10 + n - 48 else 32, 0, none, cp, rr, cr, cc, fr, kl, tk), ⟨I.1, I.2.1, I.2.2.1, I.2.2.2.1, ⟨I.2.2.2.2.1.1, hk1, ?_, hop, I.2.2.2.2.1.2.2.2.2⟩, I.2.2.2.2.2⟩, me_nxI rfl rfl (fun ks h => (hPv ks h).elim), me_mkX fun post f_spanFrom f_spanTo f_spanTextEnd f_spanKind a_text a_marks a_regKinds a_regLens a_regCodes a_nodeParent a_nodeRedo a_nodeLen a_nodeCur a_nodeMarks a_nodeText a_recCodes a_chKeys a_chText a_frameCodes a_frameLen a_framePos a_frameTimes a_frameLevel hT hG hN hF H => ?_, me_mkY fun post q a_text a_marks a_info a_held a_strips a_size a_kind a_dueKey a_dueLevel hT hG hN hQ H => ?_⟩
      · split <;> omega
      · exact br_f n27 (br_t rfl (xe_takes1 d1 d2 hk1 hk2 d3 (fun w => absurd w ho) (fun _ => br_f (by decide) (H _ (me_inX hT hG hN hF)))))
      · exact ye_digit d1 d2 hk1 hk2 d3 (fun w => absurd w ho) (fun _ => H _ (me_inY hT hG hN hQ))
  have nd : n < 48 ∨ 57 < n ∨ (n = 48 ∧ (op = 0 → k1 = 0) ∧ (¬ op = 0 → k2 = 0)) := by
    by_cases w1 : n < 48
    · exact Or.inl w1
    · by_cases w2 : 57 < n
      · exact Or.inr (Or.inl w2)
      · by_cases w3 : n = 48 ∧ (op = 0 → k1 = 0) ∧ (¬ op = 0 → k2 = 0)
        · exact Or.inr (Or.inr w3)
        · exact absurd ⟨⟨by omega, by omega⟩, w3⟩ hd
  by_cases hm : me_mo (nI n) ∨ nI n = op
  · refine me_Cmd_P (me_ck_move I rfl h1 h2 h27 rfl nd hm) (fun c' hP => me_nx_S hP.1 (fun ks h => ?_))
    by_cases ho : op = 0
    · subst ho
      rcases hm with w | w
      · exact (me_vac (me_mo_not w) h).elim
      · exact absurd w (nI_ne0 (by omega) (by omega))
    · obtain ⟨qo, _, q⟩ := me_P5_1 ho h
      rcases q with ⟨_, q⟩ | ⟨q, _⟩
      · exact me_Tl_S q hP.2
      · exfalso
        rcases hm with w | w
        · exact me_mo_not2 w q
        · rcases qo with z | z
          · rw [w, z] at q; exact absurd q (by decide)
          · rw [w, z] at q; exact absurd q (by decide)
  have hmo : ¬ me_mo (nI n) := fun w => hm (Or.inl w)
  have hno : ¬ nI n = op := fun w => hm (Or.inr w)
  by_cases ho : op = 0
  · subst ho
    by_cases e34 : n = 34
    · subst e34
      refine me_Cmd_P (me_ck_34 (rep := rep) I rfl rfl rfl) (fun c' hP => ?_)
      rw [hP]
      exact me_nxI rfl rfl (fun ks h => (me_vac (by decide) h).elim)
    by_cases e102 : n = 102
    · subst e102
      refine me_Cmd_P (me_ck_102 (rep := rep) I rfl rfl rfl) (fun c' hP => ?_)
      rw [hP]
      exact me_nxI rfl rfl (fun ks h => (me_vac (by decide) h).elim)
    by_cases e96 : n = 96
    · subst e96
      refine me_Cmd_P (me_ck_96 (rep := rep) I rfl rfl rfl) (fun c' hP => ?_)
      rw [hP]
      exact me_nxI rfl rfl (fun ks h => (me_vac (by decide) h).elim)
    by_cases e109 : n = 109
    · subst e109
      refine me_Cmd_P (me_ck_109 (rep := rep) I rfl rfl rfl) (fun c' hP => ?_)
      rw [hP]
      exact me_nxI rfl rfl (fun ks h => (me_vac (by decide) h).elim)
    by_cases e64 : n = 64
    · subst e64
      refine me_Cmd_P (me_ck_64 (rep := rep) I rfl rfl rfl) (fun c' hP => ?_)
      rw [hP]
      exact me_nxI rfl rfl (fun ks h => (me_vac (by decide) h).elim)
    by_cases e121 : n = 121
    · subst e121
      refine me_Cmd_P (me_ck_121 (rep := rep) I rfl rfl rfl) (fun c' hP => ?_)
      rw [hP]
      exact me_nxI rfl rfl (fun ks h => (me_vac (by decide) h).elim)
    by_cases e100 : n = 100
    · subst e100
      refine me_Cmd_P (me_ck_100 (rep := rep) I rfl rfl rfl) (fun c' hP => ?_)
      rw [hP]
      refine me_nxI rfl rfl (fun ks h => ?_)
      have q := me_P5_0 h
      rcases q.2 with ⟨w | w | w, _⟩ | ⟨w | w | w, _⟩ | ⟨_, w⟩
      · exact absurd w (by decide)
      · exact absurd w (by decide)
      · exact absurd w (by decide)
      · exact absurd w (by decide)
      · exact absurd w (by decide)
      · exact absurd w (by decide)
      · exact Or.inr (Or.inr (Or.inr (Or.inl ⟨rfl, rfl, Or.inl rfl, q.1, w⟩)))
    by_cases e99 : n = 99
    · subst e99
      refine me_Cmd_P (me_ck_99 (rep := rep) I rfl rfl rfl) (fun c' hP => ?_)
      rw [hP]
      refine me_nxI rfl rfl (fun ks h => ?_)
      have q := me_P5_0 h
      rcases q.2 with ⟨w | w | w, _⟩ | ⟨w | w | w, _⟩ | ⟨_, w⟩
      · exact absurd w (by decide)
      · exact absurd w (by decide)
      · exact absurd w (by decide)
      · exact absurd w (by decide)
      · exact absurd w (by decide)
      · exact absurd w (by decide)
      · exact Or.inr (Or.inr (Or.inr (Or.inl ⟨rfl, rfl, Or.inr rfl, q.1, w⟩)))
    by_cases e113 : n = 113
    · subst e113
      exact me_Cmd_P (me_ck_113 (rep := rep) I rfl rfl rfl hrep hkl5) (fun c' hP => me_nx_S hP (fun ks h => (me_vac (by decide) h).elim))
    by_cases e117 : n = 117
    · subst e117
      exact me_Cmd_P (me_ck_117 (rep := rep) I rfl rfl rfl) (fun c' hP => me_nx_S hP (fun ks h => (me_vac (by decide) h).elim))
    by_cases e85 : n = 85
    · subst e85
      exact me_Cmd_P (me_ck_85 (rep := rep) I rfl rfl rfl) (fun c' hP => me_nx_S hP (fun ks h => (me_vac (by decide) h).elim))
    by_cases e120 : n = 120
    · subst e120
      refine me_Cmd_P (me_ck_120 (rep := rep) I rfl rfl rfl) (fun c' hP => me_nx_S hP (fun ks h => ?_))
      rcases (me_P5_0 h).2 with ⟨_, w⟩ | ⟨w | w | w, _⟩ | ⟨w | w, _⟩
      · exact Or.inl w
      · exact absurd w (by decide)
      · exact absurd w (by decide)
      · exact absurd w (by decide)
      · exact absurd w (by decide)
      · exact absurd w (by decide)
    by_cases e112 : n = 112
    · subst e112
      refine me_Cmd_P (me_ck_112 (rep := rep) I rfl rfl rfl) (fun c' hP => me_nx_S hP (fun ks h => ?_))
      rcases (me_P5_0 h).2 with ⟨_, w⟩ | ⟨w | w | w, _⟩ | ⟨w | w, _⟩
      · exact Or.inl w
      · exact absurd w (by decide)
      · exact absurd w (by decide)
      · exact absurd w (by decide)
      · exact absurd w (by decide)
      · exact absurd w (by decide)
    by_cases e80 : n = 80
    · subst e80
      refine me_Cmd_P (me_ck_80 (rep := rep) I rfl rfl rfl) (fun c' hP => me_nx_S hP (fun ks h => ?_))
      rcases (me_P5_0 h).2 with ⟨_, w⟩ | ⟨w | w | w, _⟩ | ⟨w | w, _⟩
      · exact Or.inl w
      · exact absurd w (by decide)
      · exact absurd w (by decide)
      · exact absurd w (by decide)
      · exact absurd w (by decide)
      · exact absurd w (by decide)
    by_cases e105 : n = 105
    · subst e105
      refine me_Cmd_P (me_ck_105 (rep := rep) I rfl rfl rfl) (fun c' hP => me_nx_S hP.1 (fun ks h => ?_))
      rcases (me_P5_0 h).2 with ⟨w | w | w, _⟩ | ⟨_, w⟩ | ⟨w | w, _⟩
      · exact absurd w (by decide)
      · exact absurd w (by decide)
      · exact absurd w (by decide)
      · exact Or.inr ⟨hP.2, w⟩
      · exact absurd w (by decide)
      · exact absurd w (by decide)
    by_cases e97 : n = 97
    · subst e97
      refine me_Cmd_P (me_ck_97 (rep := rep) I rfl rfl rfl) (fun c' hP => me_nx_S hP.1 (fun ks h => ?_))
      rcases (me_P5_0 h).2 with ⟨w | w | w, _⟩ | ⟨_, w⟩ | ⟨w | w, _⟩
      · exact absurd w (by decide)
      · exact absurd w (by decide)
      · exact absurd w (by decide)
      · exact Or.inr ⟨hP.2, w⟩
      · exact absurd w (by decide)
      · exact absurd w (by decide)
    by_cases e111 : n = 111
    · subst e111
      refine me_Cmd_P (me_ck_111 (rep := rep) I rfl rfl rfl) (fun c' hP => me_nx_S hP.1 (fun ks h => ?_))
      rcases (me_P5_0 h).2 with ⟨w | w | w, _⟩ | ⟨_, w⟩ | ⟨w | w, _⟩
      · exact absurd w (by decide)
      · exact absurd w (by decide)
      · exact absurd w (by decide)
      · exact Or.inr ⟨hP.2, w⟩
      · exact absurd w (by decide)
      · exact absurd w (by decide)
    by_cases e46 : n = 46
    · subst e46
      rcases HK with ⟨w1, w2⟩ | ⟨_, ks, w⟩
      · refine me_Cmd_P (me_ck_46 (rep := rep) I rfl rfl rfl w1 w2) (fun c' hP => ?_)
        rw [hP.1]
        exact me_nxR w1 rfl (me_P5_rk I.2.2.1 hP.2)
      · exact (me_vac (by decide) w).elim
    exact me_Cmd_P (me_ck_bad I h1 h2 h27 rfl nd hmo hno (fun w => absurd rfl w) (fun _ => ⟨e34, e46, e64, e80, e85, e96, e97, e99, e100, e102, e105, e109, e111, e112, e113, e117, e120, e121⟩)) (fun _ h => h.elim)
  · by_cases haw : n = 102 ∨ n = 96 ∨ n = 105
    · refine me_Cmd_P (me_ck_aw I h1 h2 rfl ho haw hmo hno) (fun c' hP => ?_)
      rw [hP]
      refine me_nxI rfl rfl (fun ks h => ?_)
      obtain ⟨qo, _, q⟩ := me_P5_1 ho h
      rcases q with ⟨w | w, _⟩ | ⟨q1, q2⟩
      · exact absurd w hmo
      · exact absurd w hno
      · exact Or.inr (Or.inr (Or.inr (Or.inr ⟨rfl, q1, qo, q2⟩)))
    · exact me_Cmd_P (me_ck_bad I h1 h2 h27 rfl nd hmo hno (fun _ => ⟨fun w => haw (Or.inl w), fun w => haw (Or.inr (Or.inl w)), fun w => haw (Or.inr (Or.inr w))⟩) (fun w => absurd w ho)) (fun _ h => h.elim)
theorem me_opk {n : Nat} (I : me_Inv (tcap, ncap, lvs, t, len, cur, mks, kd, sz, st, cnt, now, par, rd, nt, nl, nc, nm, reg, k1, op, k2, wt, ss, cp, rr, cr, cc, fr, kl, tk)) (hss : ss = none) (h1 : 1 ≤ n) (h2 : n ≤ 126) (h27 : n ≠ 27) (hw : wt ≠ 0) (hkl5 : kl ≤ 5) (HK : (kl ≤ 4 ∧ fr.length = kl) ∨ (kl = 5 ∧ ∃ ks, me_P5f ss op k2 wt (nI n :: ks))) :
    me_Cmd (tcap, ncap, lvs, t, len, cur, mks, kd, sz, st, cnt, now, par, rd, nt, nl, nc, nm, reg, k1, op, k2, wt, ss, cp, rr, cr, cc, fr, kl, tk) (me_nx (tcap, ncap, lvs, t, len, cur, mks, kd, sz, st, cnt, now, par, rd, nt, nl, nc, nm, reg, k1, op, k2, wt, ss, cp, rr, cr, cc, fr, kl, tk) (nI n)) (fun post u => wpX_commandKey post u (nI n)) (fun post v => wpY_operand post v (nI n) (nI (me_yl kl))) := by
  have hk1 := I.2.2.2.2.1.2.1
  have hk2 := I.2.2.2.2.1.2.2.1
  have hop := I.2.2.2.2.1.2.2.2.1
  have hwts := I.2.2.2.2.1.2.2.2.2.1
  have hwo := I.2.2.2.2.1.2.2.2.2.2
  have hvk : me_vk (nI n) := ⟨n, rfl, h1, h2⟩
  have n27 : ¬ nI n = 27 := fun e => h27 ((nI_eq (b := 27) (by omega) (by omega)).mp e)
  subst hss
  rcases hwts with rfl | rfl | rfl | rfl | rfl | rfl | rfl | rfl
  · exact absurd rfl hw
  · refine me_Cmd_W (me_Cmd_P (me_op_34 (lv := nI (me_yl kl)) I h2 rfl) (fun c' hP => ?_)) ?_ ?_
    · obtain ⟨r, rfl⟩ := hP
      exact me_nxI rfl rfl (fun ks h => (absurd (me_P5_2 (by decide) h).1 (by decide)))
    · intro post u R
      refine me_elX (P := fun u => (∀ post' : Int32 → SX → Prop, (∀ r u, post r u → post' r u) → wpX_nameRegister post' u (nI n)) → wpX_commandKey post u (nI n)) R ?_
      intro f_spanFrom f_spanTo f_spanTextEnd f_spanKind a_text a_marks a_regKinds a_regLens a_regCodes a_nodeParent a_nodeRedo a_nodeLen a_nodeCur a_nodeMarks a_nodeText a_recCodes a_chKeys a_chText a_frameCodes a_frameLen a_framePos a_frameTimes a_frameLevel hT hG hN hF H
      exact br_f n27 (br_f (by decide) (br_t rfl (H _ (me_impX fun _ _ _ _ _ _ _ _ _ _ _ _ _ _ _ _ _ _ _ _ _ _ _ _ _ _ _ _ _ _ _ _ _ _ _ _ _ _ _ _ _ _ _ _ _ _ h => h))))
    · intro post v R H
      exact H post (fun _ _ h => h)
  · rcases HK with ⟨w1, w2⟩ | ⟨_, ks, w⟩
    · refine me_Cmd_W (me_Cmd_P (me_startReplay I h2 rfl w1 w2) (fun c' hP => ?_)) ?_ ?_
      · obtain ⟨p1, f, p2, p3, p4⟩ := hP
        exact ⟨p1, Or.inr ⟨w1, f, p2, Or.inl ⟨p3, p4⟩⟩⟩
      · intro post u R
        refine me_elX (P := fun u => (∀ post' : Int32 → SX → Prop, (∀ r u, post r u → post' r u) → wpX_startReplay post' u (nI n)) → wpX_commandKey post u (nI n)) R ?_
        intro f_spanFrom f_spanTo f_spanTextEnd f_spanKind a_text a_marks a_regKinds a_regLens a_regCodes a_nodeParent a_nodeRedo a_nodeLen a_nodeCur a_nodeMarks a_nodeText a_recCodes a_chKeys a_chText a_frameCodes a_frameLen a_framePos a_frameTimes a_frameLevel hT hG hN hF H
        exact br_f n27 (br_f (by decide) (br_f (by decide) (br_t rfl (H _ (me_impX fun _ _ _ _ _ _ _ _ _ _ _ _ _ _ _ _ _ _ _ _ _ _ _ _ _ _ _ _ _ _ _ _ _ _ _ _ _ _ _ _ _ _ _ _ _ _ h => h)))))
      · intro post v R H
        exact H post (fun _ _ h => h)
    · exact absurd (me_P5_2 (by decide) w).1 (by decide)
  · refine me_Cmd_W (me_Cmd_P (me_move (key := 96) (operand := nI n) I rfl (Or.inr (Or.inr (Or.inr ⟨rfl, hvk⟩))) ⟨96, rfl, by omega, by omega⟩ (Or.inr hvk) (fun h0 h121 => by
      rw [me_k3n, if_neg (by decide), if_neg (me_vk_0 hvk)]
      refine Or.inr (Or.inr (Or.inr ⟨rfl, ?_, Or.inr (Or.inl rfl), n27⟩))
      rcases hop with q | q | q | q
      · exact absurd q h0
      · exact Or.inr q
      · exact Or.inl q
      · exact absurd q h121)) (fun c' hP => ?_)) ?_ ?_
    · refine me_nx_S hP.1 (fun ks h => ?_)
      exact me_Tl_S (me_P5_2 (by decide) h).2.2.2 hP.2
    · intro post u R
      refine me_elX (P := fun u => (∀ post' : Int32 → SX → Prop, (∀ r u, post r u → post' r u) → wpX_finishMotion post' u 96 (nI n)) → wpX_commandKey post u (nI n)) R ?_
      intro f_spanFrom f_spanTo f_spanTextEnd f_spanKind a_text a_marks a_regKinds a_regLens a_regCodes a_nodeParent a_nodeRedo a_nodeLen a_nodeCur a_nodeMarks a_nodeText a_recCodes a_chKeys a_chText a_frameCodes a_frameLen a_framePos a_frameTimes a_frameLevel hT hG hN hF H
      exact br_f n27 (br_f (by decide) (br_f (by decide) (br_f (by decide) (br_t rfl (H _ (me_impX fun _ _ _ _ _ _ _ _ _ _ _ _ _ _ _ _ _ _ _ _ _ _ _ _ _ _ _ _ _ _ _ _ _ _ _ _ _ _ _ _ _ _ _ _ _ _ h => h))))))
    · intro post v R
      refine me_elY (P := fun v => (∀ post' : Int32 → SY → Prop, (∀ r u, post r u → post' r u) → wpY_move post' v 96 (nI n)) → wpY_operand post v (nI n) (nI (me_yl kl))) R ?_
      intro q a_text a_marks a_info a_held a_strips a_size a_kind a_dueKey a_dueLevel hT hG hN hQ H
      exact ye_operand_head h2 (ye_times hk1 hk2 (br_f (by decide) (br_t rfl (H _ (me_impY fun _ _ _ _ _ _ _ _ _ _ _ _ _ _ _ _ _ _ _ _ _ _ _ _ _ _ _ _ h => h)))))
  · refine me_Cmd_W (me_Cmd_P (me_move (key := 102) (operand := nI n) I rfl (Or.inr (Or.inr (Or.inl rfl))) ⟨102, rfl, by omega, by omega⟩ (Or.inr hvk) (fun h0 h121 => by
      rw [me_k3n, if_neg (by decide), if_neg (me_vk_0 hvk)]
      refine Or.inr (Or.inr (Or.inr ⟨rfl, ?_, Or.inl rfl, n27⟩))
      rcases hop with q | q | q | q
      · exact absurd q h0
      · exact Or.inr q
      · exact Or.inl q
      · exact absurd q h121)) (fun c' hP => ?_)) ?_ ?_
    · refine me_nx_S hP.1 (fun ks h => ?_)
      exact me_Tl_S (me_P5_2 (by decide) h).2.2.2 hP.2
    · intro post u R
      refine me_elX (P := fun u => (∀ post' : Int32 → SX → Prop, (∀ r u, post r u → post' r u) → wpX_finishMotion post' u 102 (nI n)) → wpX_commandKey post u (nI n)) R ?_
      intro f_spanFrom f_spanTo f_spanTextEnd f_spanKind a_text a_marks a_regKinds a_regLens a_regCodes a_nodeParent a_nodeRedo a_nodeLen a_nodeCur a_nodeMarks a_nodeText a_recCodes a_chKeys a_chText a_frameCodes a_frameLen a_framePos a_frameTimes a_frameLevel hT hG hN hF H
      exact br_f n27 (br_f (by decide) (br_f (by decide) (br_f (by decide) (br_f (by decide) (br_t rfl (H _ (me_impX fun _ _ _ _ _ _ _ _ _ _ _ _ _ _ _ _ _ _ _ _ _ _ _ _ _ _ _ _ _ _ _ _ _ _ _ _ _ _ _ _ _ _ _ _ _ _ h => h)))))))
    · intro post v R
      refine me_elY (P := fun v => (∀ post' : Int32 → SY → Prop, (∀ r u, post r u → post' r u) → wpY_move post' v 102 (nI n)) → wpY_operand post v (nI n) (nI (me_yl kl))) R ?_
      intro q a_text a_marks a_info a_held a_strips a_size a_kind a_dueKey a_dueLevel hT hG hN hQ H
      exact ye_operand_head h2 (ye_times hk1 hk2 (br_t rfl (H _ (me_impY fun _ _ _ _ _ _ _ _ _ _ _ _ _ _ _ _ _ _ _ _ _ _ _ _ _ _ _ _ h => h))))
  · refine me_Cmd_W (me_Cmd_P (me_tobj (key := nI n) I rfl (hwo rfl) hvk n27) (fun c' hP => ?_)) ?_ ?_
    · refine me_nx_S hP.1 (fun ks h => ?_)
      exact me_Tl_S (me_P5_2 (by decide) h).2.2.2 hP.2
    · intro post u R
      refine me_elX (P := fun u => (∀ post' : Int32 → SX → Prop, (∀ r u, post r u → post' r u) → wpX_textObject post' u (nI n)) → wpX_commandKey post u (nI n)) R ?_
      intro f_spanFrom f_spanTo f_spanTextEnd f_spanKind a_text a_marks a_regKinds a_regLens a_regCodes a_nodeParent a_nodeRedo a_nodeLen a_nodeCur a_nodeMarks a_nodeText a_recCodes a_chKeys a_chText a_frameCodes a_frameLen a_framePos a_frameTimes a_frameLevel hT hG hN hF H
      exact br_f n27 (br_f (by decide) (br_f (by decide) (br_f (by decide) (br_f (by decide) (br_f (by decide) (br_t rfl (H _ (me_impX fun _ _ _ _ _ _ _ _ _ _ _ _ _ _ _ _ _ _ _ _ _ _ _ _ _ _ _ _ _ _ _ _ _ _ _ _ _ _ _ _ _ _ _ _ _ _ h => h))))))))
    · intro post v R
      refine me_elY (P := fun v => (∀ post' : Int32 → SY → Prop, (∀ r u, post r u → post' r u) → wpY_move post' v 105 (nI n)) → wpY_operand post v (nI n) (nI (me_yl kl))) R ?_
      intro q a_text a_marks a_info a_held a_strips a_size a_kind a_dueKey a_dueLevel hT hG hN hQ H
      exact ye_operand_head h2 (ye_times hk1 hk2 (br_f (by decide) (br_f (by decide) (br_t rfl (H _ (me_impY fun _ _ _ _ _ _ _ _ _ _ _ _ _ _ _ _ _ _ _ _ _ _ _ _ _ _ _ _ h => h))))))
  · refine me_Cmd_W (me_Cmd_P (me_op_109 (lv := nI (me_yl kl)) I h2 rfl) (fun c' hP => ?_)) ?_ ?_
    · exact me_nx_S hP (fun ks h => (absurd (me_P5_2 (by decide) h).1 (by decide)))
    · intro post u R
      refine me_elX (P := fun u => (∀ post' : Int32 → SX → Prop, (∀ r u, post r u → post' r u) → wpX_setMark post' u (nI n)) → wpX_commandKey post u (nI n)) R ?_
      intro f_spanFrom f_spanTo f_spanTextEnd f_spanKind a_text a_marks a_regKinds a_regLens a_regCodes a_nodeParent a_nodeRedo a_nodeLen a_nodeCur a_nodeMarks a_nodeText a_recCodes a_chKeys a_chText a_frameCodes a_frameLen a_framePos a_frameTimes a_frameLevel hT hG hN hF H
      exact br_f n27 (br_f (by decide) (br_f (by decide) (br_f (by decide) (br_f (by decide) (br_f (by decide) (br_f (by decide) (br_t rfl (H _ (me_impX fun _ _ _ _ _ _ _ _ _ _ _ _ _ _ _ _ _ _ _ _ _ _ _ _ _ _ _ _ _ _ _ _ _ _ _ _ _ _ _ _ _ _ _ _ _ _ h => h)))))))))
    · intro post v R H
      exact H post (fun _ _ h => h)
  · refine me_Cmd_W (me_Cmd_P (me_op_113 (lv := nI (me_yl kl)) I h2 rfl) (fun c' hP => ?_)) ?_ ?_
    · exact me_nx_S hP (fun ks h => (absurd (me_P5_2 (by decide) h).1 (by decide)))
    · intro post u R
      refine me_elX (P := fun u => (∀ post' : Int32 → SX → Prop, (∀ r u, post r u → post' r u) → wpX_startRecording post' u (nI n)) → wpX_commandKey post u (nI n)) R ?_
      intro f_spanFrom f_spanTo f_spanTextEnd f_spanKind a_text a_marks a_regKinds a_regLens a_regCodes a_nodeParent a_nodeRedo a_nodeLen a_nodeCur a_nodeMarks a_nodeText a_recCodes a_chKeys a_chText a_frameCodes a_frameLen a_framePos a_frameTimes a_frameLevel hT hG hN hF H
      exact br_f n27 (br_f (by decide) (br_f (by decide) (br_f (by decide) (br_f (by decide) (br_f (by decide) (br_f (by decide) (br_f (by decide) (br_t rfl (H _ (me_impX fun _ _ _ _ _ _ _ _ _ _ _ _ _ _ _ _ _ _ _ _ _ _ _ _ _ _ _ _ _ _ _ _ _ _ _ _ _ _ _ _ _ _ _ _ _ _ h => h))))))))))
    · intro post v R H
      exact H post (fun _ _ h => h)
end
end
section
/-! carrying out a key -/
theorem xe_dropC {c : me_CC} {post : SX → Prop} {u : SX} (R : me_RX c u) (H : ∀ u', me_RX (me_drop c) u' → post u') : wpX_drop post u := by
  revert R H
  refine me_tupC (P := fun c => me_RX c u → (∀ u', me_RX (me_drop c) u' → post u') → wpX_drop post u) ?_ c
  intro tcap ncap lvs t len cur mks kd sz st cnt now par rd nt nl nc nm reg k1 op k2 wt ss cp rr cr cc fr kl tk R
  refine me_elX (P := fun u => (∀ u', me_RX (me_drop (tcap, ncap, lvs, t, len, cur, mks, kd, sz, st, cnt, now, par, rd, nt, nl, nc, nm, reg, k1, op, k2, wt, ss, cp, rr, cr, cc, fr, kl, tk)) u' → post u') → wpX_drop post u) R ?_
  intro f_spanFrom f_spanTo f_spanTextEnd f_spanKind a_text a_marks a_regKinds a_regLens a_regCodes a_nodeParent a_nodeRedo a_nodeLen a_nodeCur a_nodeMarks a_nodeText a_recCodes a_chKeys a_chText a_frameCodes a_frameLen a_framePos a_frameTimes a_frameLevel hT hG hN hF H
  exact H _ (me_inX hT hG hN hF)
theorem ye_dropC {c : me_CC} {post : SY → Prop} {u : SY} (R : me_RY c u) (H : ∀ u', me_RY (me_drop c) u' → post u') : wpY_drop post u := by
  revert R H
  refine me_tupC (P := fun c => me_RY c u → (∀ u', me_RY (me_drop c) u' → post u') → wpY_drop post u) ?_ c
  intro tcap ncap lvs t len cur mks kd sz st cnt now par rd nt nl nc nm reg k1 op k2 wt ss cp rr cr cc fr kl tk R
  refine me_elY (P := fun u => (∀ u', me_RY (me_drop (tcap, ncap, lvs, t, len, cur, mks, kd, sz, st, cnt, now, par, rd, nt, nl, nc, nm, reg, k1, op, k2, wt, ss, cp, rr, cr, cc, fr, kl, tk)) u' → post u') → wpY_drop post u) R ?_
  intro q a_text a_marks a_info a_held a_strips a_size a_kind a_dueKey a_dueLevel hT hG hN hQ H
  exact H _ (me_inY hT hG hN hQ)
theorem ye_41_m {c : me_CC} {post : Int32 → SY → Prop} {f_cap f_nodeCap f_levels f_len f_cur f_now f_nodeCount f_queued f_c1 f_op f_c2 f_waits f_copies f_recCount f_reg f_begin f_recording f_recReg : Int32} {a_text a_marks a_info a_held a_strips a_size a_kind a_dueKey a_dueLevel : Nat → Int32} (R : me_RY c (f_cap, f_nodeCap, f_levels, f_len, f_cur, f_now, f_nodeCount, f_queued, f_c1, f_op, f_c2, f_waits, f_copies, f_recCount, f_reg, f_begin, f_recording, f_recReg, a_text, a_marks, a_info, a_held, a_strips, a_size, a_kind, a_dueKey, a_dueLevel)) (H : ∀ v', me_RY c v' → post 0 v') : wY_carry_41 post 3 f_cap f_nodeCap f_levels f_len f_cur f_now f_nodeCount f_queued f_c1 f_op f_c2 f_waits f_copies f_recCount f_reg f_begin f_recording f_recReg a_text a_marks a_info a_held a_strips a_size a_kind a_dueKey a_dueLevel := br_t rfl (br_f (by decide) (H _ R))
theorem ye_41_o {c : me_CC} {post : Int32 → SY → Prop} {f_cap f_nodeCap f_levels f_len f_cur f_now f_nodeCount f_queued f_c1 f_op f_c2 f_waits f_copies f_recCount f_reg f_begin f_recording f_recReg : Int32} {a_text a_marks a_info a_held a_strips a_size a_kind a_dueKey a_dueLevel : Nat → Int32} (R : me_RY c (f_cap, f_nodeCap, f_levels, f_len, f_cur, f_now, f_nodeCount, f_queued, f_c1, f_op, f_c2, f_waits, f_copies, f_recCount, f_reg, f_begin, f_recording, f_recReg, a_text, a_marks, a_info, a_held, a_strips, a_size, a_kind, a_dueKey, a_dueLevel)) (H : ∀ v', me_RY (me_drop c) v' → post 0 v') : wY_carry_41 post 0 f_cap f_nodeCap f_levels f_len f_cur f_now f_nodeCount f_queued f_c1 f_op f_c2 f_waits f_copies f_recCount f_reg f_begin f_recording f_recReg a_text a_marks a_info a_held a_strips a_size a_kind a_dueKey a_dueLevel :=
  br_f (by decide) (ye_dropC R (me_allY fun _ _ _ _ _ _ _ _ _ _ _ _ _ _ _ _ _ _ _ _ _ _ _ _ _ _ _ R' => br_f (by decide) (H _ R')))
theorem ye_41_f {c : me_CC} {post : Int32 → SY → Prop} {f_cap f_nodeCap f_levels f_len f_cur f_now f_nodeCount f_queued f_c1 f_op f_c2 f_waits f_copies f_recCount f_reg f_begin f_recording f_recReg : Int32} {a_text a_marks a_info a_held a_strips a_size a_kind a_dueKey a_dueLevel : Nat → Int32} (R : me_RY c (f_cap, f_nodeCap, f_levels, f_len, f_cur, f_now, f_nodeCount, f_queued, f_c1, f_op, f_c2, f_waits, f_copies, f_recCount, f_reg, f_begin, f_recording, f_recReg, a_text, a_marks, a_info, a_held, a_strips, a_size, a_kind, a_dueKey, a_dueLevel)) (H : ∀ v', me_RY (me_drop c) v' → post 1 v') : wY_carry_41 post 1 f_cap f_nodeCap f_levels f_len f_cur f_now f_nodeCount f_queued f_c1 f_op f_c2 f_waits f_copies f_recCount f_reg f_begin f_recording f_recReg a_text a_marks a_info a_held a_strips a_size a_kind a_dueKey a_dueLevel :=
  br_f (by decide) (ye_dropC R (me_allY fun _ _ _ _ _ _ _ _ _ _ _ _ _ _ _ _ _ _ _ _ _ _ _ _ _ _ _ R' => br_t rfl (H _ R')))
/-- one outcome of a key for both sides -/
def me_Out (c : me_CC) (key rep : Int32) : Prop :=
  ∃ (r : Int32) (c' : me_CC), (r = 0 ∨ r = 1) ∧ me_Inv c' ∧ (r = 0 → me_nx c key c') ∧ me_oX c c' r (fun post u => wpX_carryOut post u key) ∧ me_oY c c' r (fun post v => wpY_carry post v key rep (nI (me_yl (me_kl' c)))) ∧ (r = 1 → me_keep c c')
theorem me_out_cmd {c : me_CC} {key rep : Int32} {wy : (Int32 → SY → Prop) → SY → Prop} (I : me_Inv c) (h : me_Cmd c (me_nx c key) (fun post u => wpX_commandKey post u key) wy)
    (hx : ∀ (post : Int32 → SX → Prop) (u : SX), me_RX c u → (∀ post' : Int32 → SX → Prop, (∀ (r : Int32) f_textCap f_nodeCap f_levels f_len f_cur f_nodeCount f_node f_reg f_c1 f_op f_c2 f_waiting f_sessionStart f_copies f_recReg f_recLen f_chKeyLen f_chTextLen f_chReg f_chCount f_depth f_keyLevel f_spanFrom f_spanTo f_spanTextEnd f_spanKind a_text a_marks a_regKinds a_regLens a_regCodes a_nodeParent a_nodeRedo a_nodeLen a_nodeCur a_nodeMarks a_nodeText a_recCodes a_chKeys a_chText a_frameCodes a_frameLen a_framePos a_frameTimes a_frameLevel, ((r = 1 → (wpX_drop (fun u => post r u) (f_textCap, f_nodeCap, f_levels, f_len, f_cur, f_nodeCount, f_node, f_reg, f_c1, f_op, f_c2, f_waiting, f_sessionStart, f_copies, f_recReg, f_recLen, f_chKeyLen, f_chTextLen, f_chReg, f_chCount, f_depth, f_keyLevel, f_spanFrom, f_spanTo, f_spanTextEnd, f_spanKind, a_text, a_marks, a_regKinds, a_regLens, a_regCodes, a_nodeParent, a_nodeRedo, a_nodeLen, a_nodeCur, a_nodeMarks, a_nodeText, a_recCodes, a_chKeys, a_chText, a_frameCodes, a_frameLen, a_framePos, a_frameTimes, a_frameLevel))) ∧ (¬ r = 1 → (post r (f_textCap, f_nodeCap, f_levels, f_len, f_cur, f_nodeCount, f_node, f_reg, f_c1, f_op, f_c2, f_waiting, f_sessionStart, f_copies, f_recReg, f_recLen, f_chKeyLen, f_chTextLen, f_chReg, f_chCount, f_depth, f_keyLevel, f_spanFrom, f_spanTo, f_spanTextEnd, f_spanKind, a_text, a_marks, a_regKinds, a_regLens, a_regCodes, a_nodeParent, a_nodeRedo, a_nodeLen, a_nodeCur, a_nodeMarks, a_nodeText, a_recCodes, a_chKeys, a_chText, a_frameCodes, a_frameLen, a_framePos, a_frameTimes, a_frameLevel)))) → post' r (f_textCap, f_nodeCap, f_levels, f_len, f_cur, f_nodeCount, f_node, f_reg, f_c1, f_op, f_c2, f_waiting, f_sessionStart, f_copies, f_recReg, f_recLen, f_chKeyLen, f_chTextLen, f_chReg, f_chCount, f_depth, f_keyLevel, f_spanFrom, f_spanTo, f_spanTextEnd, f_spanKind, a_text, a_marks, a_regKinds, a_regLens, a_regCodes, a_nodeParent, a_nodeRedo, a_nodeLen, a_nodeCur, a_nodeMarks, a_nodeText, a_recCodes, a_chKeys, a_chText, a_frameCodes, a_frameLen, a_framePos, a_frameTimes, a_frameLevel)) → wpX_commandKey post' u key) → wpX_carryOut post u key)
    (hy : ∀ (post : Int32 → SY → Prop) (v : SY), me_RY c v → (∀ post' : Int32 → SY → Prop, (∀ (r : Int32) f_cap f_nodeCap f_levels f_len f_cur f_now f_nodeCount f_queued f_c1 f_op f_c2 f_waits f_copies f_recCount f_reg f_begin f_recording f_recReg a_text a_marks a_info a_held a_strips a_size a_kind a_dueKey a_dueLevel, wY_carry_41 post r f_cap f_nodeCap f_levels f_len f_cur f_now f_nodeCount f_queued f_c1 f_op f_c2 f_waits f_copies f_recCount f_reg f_begin f_recording f_recReg a_text a_marks a_info a_held a_strips a_size a_kind a_dueKey a_dueLevel → post' r (f_cap, f_nodeCap, f_levels, f_len, f_cur, f_now, f_nodeCount, f_queued, f_c1, f_op, f_c2, f_waits, f_copies, f_recCount, f_reg, f_begin, f_recording, f_recReg, a_text, a_marks, a_info, a_held, a_strips, a_size, a_kind, a_dueKey, a_dueLevel)) → wy post' v) → wpY_carry post v key rep (nI (me_yl (me_kl' c)))) : me_Out c key rep := by
  rcases h with ⟨c', i, p, x, y⟩ | ⟨c', i, p, x, y⟩ | ⟨x, cy, e, y⟩
  · refine ⟨0, c', Or.inl rfl, i, fun _ => p, fun post u R H => hx post u R (fun post' imp => x post' u R (me_allX fun _ _ _ _ _ _ _ _ _ _ _ _ _ _ _ _ _ _ _ _ _ _ _ _ _ _ _ _ _ _ _ _ _ _ _ _ _ _ _ _ _ _ _ _ _ R' => imp 0 _ _ _ _ _ _ _ _ _ _ _ _ _ _ _ _ _ _ _ _ _ _ _ _ _ _ _ _ _ _ _ _ _ _ _ _ _ _ _ _ _ _ _ _ _ (br_f (by decide) (H _ R')))), fun post v R H => hy post v R (fun post' imp => y post' v R (me_allY fun _ _ _ _ _ _ _ _ _ _ _ _ _ _ _ _ _ _ _ _ _ _ _ _ _ _ _ R' => imp 3 _ _ _ _ _ _ _ _ _ _ _ _ _ _ _ _ _ _ _ _ _ _ _ _ _ _ _ (ye_41_m R' H))), fun q => absurd q (by decide)⟩
  · refine ⟨0, me_drop c', Or.inl rfl, me_inv_drop i, fun _ => p, fun post u R H => hx post u R (fun post' imp => x post' u R (me_allX fun _ _ _ _ _ _ _ _ _ _ _ _ _ _ _ _ _ _ _ _ _ _ _ _ _ _ _ _ _ _ _ _ _ _ _ _ _ _ _ _ _ _ _ _ _ R' => imp 0 _ _ _ _ _ _ _ _ _ _ _ _ _ _ _ _ _ _ _ _ _ _ _ _ _ _ _ _ _ _ _ _ _ _ _ _ _ _ _ _ _ _ _ _ _ (br_f (by decide) (H _ R')))), fun post v R H => hy post v R (fun post' imp => y post' v R (me_allY fun _ _ _ _ _ _ _ _ _ _ _ _ _ _ _ _ _ _ _ _ _ _ _ _ _ _ _ R' => imp 0 _ _ _ _ _ _ _ _ _ _ _ _ _ _ _ _ _ _ _ _ _ _ _ _ _ _ _ (ye_41_o R' H))), fun q => absurd q (by decide)⟩
  · refine ⟨1, me_drop c, Or.inr rfl, me_inv_drop I, fun q => absurd q (by decide), fun post u R H => hx post u R (fun post' imp => x post' u R (me_allX fun _ _ _ _ _ _ _ _ _ _ _ _ _ _ _ _ _ _ _ _ _ _ _ _ _ _ _ _ _ _ _ _ _ _ _ _ _ _ _ _ _ _ _ _ _ R' => imp 1 _ _ _ _ _ _ _ _ _ _ _ _ _ _ _ _ _ _ _ _ _ _ _ _ _ _ _ _ _ _ _ _ _ _ _ _ _ _ _ _ _ _ _ _ _ (br_t rfl (xe_dropC R' H)))), fun post v R H => hy post v R (fun post' imp => y post' v R (me_allY fun _ _ _ _ _ _ _ _ _ _ _ _ _ _ _ _ _ _ _ _ _ _ _ _ _ _ _ R' => imp 1 _ _ _ _ _ _ _ _ _ _ _ _ _ _ _ _ _ _ _ _ _ _ _ _ _ _ _ (ye_41_f R' ?_))), fun _ => ⟨me_fr_drop _, me_tk_drop _⟩⟩
    rw [e]
    exact H
section
variable {tcap : Nat} {ncap : Nat} {lvs : Nat} {t : Nat → Int32} {len : Nat} {cur : Nat} {mks : Nat → Option Nat} {kd : Nat → Nat} {sz : Nat → Nat} {st : Nat → Nat → Int32} {cnt : Nat} {now : Nat} {par : Nat → Option Nat} {rd : Nat → Option Nat} {nt : Nat → Nat → Int32} {nl : Nat → Nat} {nc : Nat → Nat} {nm : Nat → Nat → Option Nat} {reg : Option Nat} {k1 : Nat} {op : Int32} {k2 : Nat} {wt : Int32} {ss : Option Nat} {cp : Nat} {rr : Option Nat} {cr : Option Nat} {cc : Nat} {fr : List (List Int32 × Nat × Nat × Nat)} {kl : Nat} {tk : Nat}
theorem me_carry {n : Nat} {rep : Int32} (I : me_Inv (tcap, ncap, lvs, t, len, cur, mks, kd, sz, st, cnt, now, par, rd, nt, nl, nc, nm, reg, k1, op, k2, wt, ss, cp, rr, cr, cc, fr, kl, tk)) (h1 : 1 ≤ n) (h2 : n ≤ 126) (hrep : (kl = 0 ∧ rep = 0) ∨ (kl ≠ 0 ∧ rep = 1)) (hkl5 : kl ≤ 5) (HK : (kl ≤ 4 ∧ fr.length = kl) ∨ (kl = 5 ∧ ∃ ks, me_P5f ss op k2 wt (nI n :: ks))) : me_Out (tcap, ncap, lvs, t, len, cur, mks, kd, sz, st, cnt, now, par, rd, nt, nl, nc, nm, reg, k1, op, k2, wt, ss, cp, rr, cr, cc, fr, kl, tk) (nI n) rep := by
  cases hss : ss with
  | none =>
    subst hss
    have hX : ∀ (post : Int32 → SX → Prop) (u : SX), me_RX (tcap, ncap, lvs, t, len, cur, mks, kd, sz, st, cnt, now, par, rd, nt, nl, nc, nm, reg, k1, op, k2, wt, none, cp, rr, cr, cc, fr, kl, tk) u → (∀ post' : Int32 → SX → Prop, (∀ (r : Int32) f_textCap f_nodeCap f_levels f_len f_cur f_nodeCount f_node f_reg f_c1 f_op f_c2 f_waiting f_sessionStart f_copies f_recReg f_recLen f_chKeyLen f_chTextLen f_chReg f_chCount f_depth f_keyLevel f_spanFrom f_spanTo f_spanTextEnd f_spanKind a_text a_marks a_regKinds a_regLens a_regCodes a_nodeParent a_nodeRedo a_nodeLen a_nodeCur a_nodeMarks a_nodeText a_recCodes a_chKeys a_chText a_frameCodes a_frameLen a_framePos a_frameTimes a_frameLevel, ((r = 1 → (wpX_drop (fun u => post r u) (f_textCap, f_nodeCap, f_levels, f_len, f_cur, f_nodeCount, f_node, f_reg, f_c1, f_op, f_c2, f_waiting, f_sessionStart, f_copies, f_recReg, f_recLen, f_chKeyLen, f_chTextLen, f_chReg, f_chCount, f_depth, f_keyLevel, f_spanFrom, f_spanTo, f_spanTextEnd, f_spanKind, a_text, a_marks, a_regKinds, a_regLens, a_regCodes, a_nodeParent, a_nodeRedo, a_nodeLen, a_nodeCur, a_nodeMarks, a_nodeText, a_recCodes, a_chKeys, a_chText, a_frameCodes, a_frameLen, a_framePos, a_frameTimes, a_frameLevel))) ∧ (¬ r = 1 → (post r (f_textCap, f_nodeCap, f_levels, f_len, f_cur, f_nodeCount, f_node, f_reg, f_c1, f_op, f_c2, f_waiting, f_sessionStart, f_copies, f_recReg, f_recLen, f_chKeyLen, f_chTextLen, f_chReg, f_chCount, f_depth, f_keyLevel, f_spanFrom, f_spanTo, f_spanTextEnd, f_spanKind, a_text, a_marks, a_regKinds, a_regLens, a_regCodes, a_nodeParent, a_nodeRedo, a_nodeLen, a_nodeCur, a_nodeMarks, a_nodeText, a_recCodes, a_chKeys, a_chText, a_frameCodes, a_frameLen, a_framePos, a_frameTimes, a_frameLevel)))) → post' r (f_textCap, f_nodeCap, f_levels, f_len, f_cur, f_nodeCount, f_node, f_reg, f_c1, f_op, f_c2, f_waiting, f_sessionStart, f_copies, f_recReg, f_recLen, f_chKeyLen, f_chTextLen, f_chReg, f_chCount, f_depth, f_keyLevel, f_spanFrom, f_spanTo, f_spanTextEnd, f_spanKind, a_text, a_marks, a_regKinds, a_regLens, a_regCodes, a_nodeParent, a_nodeRedo, a_nodeLen, a_nodeCur, a_nodeMarks, a_nodeText, a_recCodes, a_chKeys, a_chText, a_frameCodes, a_frameLen, a_framePos, a_frameTimes, a_frameLevel)) → wpX_commandKey post' u (nI n)) → wpX_carryOut post u (nI n) := by
      intro post u R
      refine me_elX (P := fun u => (∀ post' : Int32 → SX → Prop, (∀ (r : Int32) f_textCap f_nodeCap f_levels f_len f_cur f_nodeCount f_node f_reg f_c1 f_op f_c2 f_waiting f_sessionStart f_copies f_recReg f_recLen f_chKeyLen f_chTextLen f_chReg f_chCount f_depth f_keyLevel f_spanFrom f_spanTo f_spanTextEnd f_spanKind a_text a_marks a_regKinds a_regLens a_regCodes a_nodeParent a_nodeRedo a_nodeLen a_nodeCur a_nodeMarks a_nodeText a_recCodes a_chKeys a_chText a_frameCodes a_frameLen a_framePos a_frameTimes a_frameLevel, ((r = 1 → (wpX_drop (fun u => post r u) (f_textCap, f_nodeCap, f_levels, f_len, f_cur, f_nodeCount, f_node, f_reg, f_c1, f_op, f_c2, f_waiting, f_sessionStart, f_copies, f_recReg, f_recLen, f_chKeyLen, f_chTextLen, f_chReg, f_chCount, f_depth, f_keyLevel, f_spanFrom, f_spanTo, f_spanTextEnd, f_spanKind, a_text, a_marks, a_regKinds, a_regLens, a_regCodes, a_nodeParent, a_nodeRedo, a_nodeLen, a_nodeCur, a_nodeMarks, a_nodeText, a_recCodes, a_chKeys, a_chText, a_frameCodes, a_frameLen, a_framePos, a_frameTimes, a_frameLevel))) ∧ (¬ r = 1 → (post r (f_textCap, f_nodeCap, f_levels, f_len, f_cur, f_nodeCount, f_node, f_reg, f_c1, f_op, f_c2, f_waiting, f_sessionStart, f_copies, f_recReg, f_recLen, f_chKeyLen, f_chTextLen, f_chReg, f_chCount, f_depth, f_keyLevel, f_spanFrom, f_spanTo, f_spanTextEnd, f_spanKind, a_text, a_marks, a_regKinds, a_regLens, a_regCodes, a_nodeParent, a_nodeRedo, a_nodeLen, a_nodeCur, a_nodeMarks, a_nodeText, a_recCodes, a_chKeys, a_chText, a_frameCodes, a_frameLen, a_framePos, a_frameTimes, a_frameLevel)))) → post' r (f_textCap, f_nodeCap, f_levels, f_len, f_cur, f_nodeCount, f_node, f_reg, f_c1, f_op, f_c2, f_waiting, f_sessionStart, f_copies, f_recReg, f_recLen, f_chKeyLen, f_chTextLen, f_chReg, f_chCount, f_depth, f_keyLevel, f_spanFrom, f_spanTo, f_spanTextEnd, f_spanKind, a_text, a_marks, a_regKinds, a_regLens, a_regCodes, a_nodeParent, a_nodeRedo, a_nodeLen, a_nodeCur, a_nodeMarks, a_nodeText, a_recCodes, a_chKeys, a_chText, a_frameCodes, a_frameLen, a_framePos, a_frameTimes, a_frameLevel)) → wpX_commandKey post' u (nI n)) → wpX_carryOut post u (nI n)) R ?_
      intro f_spanFrom f_spanTo f_spanTextEnd f_spanKind a_text a_marks a_regKinds a_regLens a_regCodes a_nodeParent a_nodeRedo a_nodeLen a_nodeCur a_nodeMarks a_nodeText a_recCodes a_chKeys a_chText a_frameCodes a_frameLen a_framePos a_frameTimes a_frameLevel hT hG hN hF H
      exact br_t (by decide) (H _ (fun _ _ _ _ _ _ _ _ _ _ _ _ _ _ _ _ _ _ _ _ _ _ _ _ _ _ _ _ _ _ _ _ _ _ _ _ _ _ _ _ _ _ _ _ _ _ h => h))
    by_cases hw : wt = 0 ∨ n = 27
    · refine me_out_cmd I (me_ck I rfl h1 h2 hw hrep hkl5 HK) hX ?_
      intro post v R
      refine me_elY (P := fun v => (∀ post' : Int32 → SY → Prop, (∀ (r : Int32) f_cap f_nodeCap f_levels f_len f_cur f_now f_nodeCount f_queued f_c1 f_op f_c2 f_waits f_copies f_recCount f_reg f_begin f_recording f_recReg a_text a_marks a_info a_held a_strips a_size a_kind a_dueKey a_dueLevel, wY_carry_41 post r f_cap f_nodeCap f_levels f_len f_cur f_now f_nodeCount f_queued f_c1 f_op f_c2 f_waits f_copies f_recCount f_reg f_begin f_recording f_recReg a_text a_marks a_info a_held a_strips a_size a_kind a_dueKey a_dueLevel → post' r (f_cap, f_nodeCap, f_levels, f_len, f_cur, f_now, f_nodeCount, f_queued, f_c1, f_op, f_c2, f_waits, f_copies, f_recCount, f_reg, f_begin, f_recording, f_recReg, a_text, a_marks, a_info, a_held, a_strips, a_size, a_kind, a_dueKey, a_dueLevel)) → wpY_command post' v (nI n) rep) → wpY_carry post v (nI n) rep (nI (me_yl kl))) R ?_
      intro q a_text a_marks a_info a_held a_strips a_size a_kind a_dueKey a_dueLevel hT hG hN hQ H
      have H' : wY_carry_35 post (nI n) rep (nI tcap) (nI ncap) (nI lvs) (nI len) (nI cur) (nI now) (nI cnt) (nI q) (nI k1) op (nI k2) wt (nI cp) (nI cc) (me_o reg) (-1) (me_o rr) (me_o cr) a_text a_marks a_info a_held a_strips a_size a_kind a_dueKey a_dueLevel := H _ (fun _ _ _ _ _ _ _ _ _ _ _ _ _ _ _ _ _ _ _ _ _ _ _ _ _ _ _ _ h => h)
      refine br_t (by decide) (br_c (fun _ => H') (fun w => br_t ?_ H'))
      rw [hw.resolve_left w]; rfl
    · have hw1 : wt ≠ 0 := fun w => hw (Or.inl w)
      have hw2 : n ≠ 27 := fun w => hw (Or.inr w)
      refine me_out_cmd I (me_opk I rfl h1 h2 hw2 hw1 hkl5 HK) hX ?_
      intro post v R
      refine me_elY (P := fun v => (∀ post' : Int32 → SY → Prop, (∀ (r : Int32) f_cap f_nodeCap f_levels f_len f_cur f_now f_nodeCount f_queued f_c1 f_op f_c2 f_waits f_copies f_recCount f_reg f_begin f_recording f_recReg a_text a_marks a_info a_held a_strips a_size a_kind a_dueKey a_dueLevel, wY_carry_41 post r f_cap f_nodeCap f_levels f_len f_cur f_now f_nodeCount f_queued f_c1 f_op f_c2 f_waits f_copies f_recCount f_reg f_begin f_recording f_recReg a_text a_marks a_info a_held a_strips a_size a_kind a_dueKey a_dueLevel → post' r (f_cap, f_nodeCap, f_levels, f_len, f_cur, f_now, f_nodeCount, f_queued, f_c1, f_op, f_c2, f_waits, f_copies, f_recCount, f_reg, f_begin, f_recording, f_recReg, a_text, a_marks, a_info, a_held, a_strips, a_size, a_kind, a_dueKey, a_dueLevel)) → wpY_operand post' v (nI n) (nI (me_yl kl))) → wpY_carry post v (nI n) rep (nI (me_yl kl))) R ?_
      intro q a_text a_marks a_info a_held a_strips a_size a_kind a_dueKey a_dueLevel hT hG hN hQ H
      exact br_t (by decide) (br_f hw1 (br_f (fun e => hw2 ((nI_eq (b := 27) (by omega) (by omega)).mp e)) (H _ (fun _ _ _ _ _ _ _ _ _ _ _ _ _ _ _ _ _ _ _ _ _ _ _ _ _ _ _ _ h => h))))
  | some s =>
    subst hss
    have hs4 : s < 2 ^ 31 := by
      have q1 := (I.2.2.2.2.2.1.1 s rfl).1
      have q2 := I.2.1.2.1
      have q3 := I.2.1.1
      have q4 := I.1.2.1
      omega
    obtain ⟨r, c', hr, i, p, x, y⟩ := me_type (key := nI n) I rfl ⟨n, rfl, h1, h2⟩
    refine ⟨r, c', hr, i, fun _ => me_nx_S p.1 (fun ks h => ?_), fun post u R H => ?_, fun post v R H => ?_, fun _ => p.1⟩
    · rcases h with h | h | h | h | h
      · cases h
      · rcases h.2 with ⟨_, xs, e, hx⟩ | ⟨q, _⟩
        · cases xs with
          | nil =>
            have e' : nI n :: ks = [27] := e
            injection e' with e1 e2
            exact Or.inl e2
          | cons a xs =>
            have e' : nI n :: ks = a :: (xs ++ [27]) := e
            injection e' with e1 e2
            refine Or.inr ⟨p.2 ?_, Or.inl ⟨rfl, xs, e2, fun x hx' => hx x (List.mem_cons_of_mem _ hx')⟩⟩
            rw [e1]; exact hx a (List.mem_cons_self ..)
        · exact absurd rfl q
      · exact absurd h.1 (by intro q; cases q)
      · exact absurd h.1 (by intro q; cases q)
      · exact absurd h.1 (by intro q; cases q)
    · have hx := fun post' H' => x post' u R H'
      revert hx
      refine me_elX (P := fun u => (∀ (post' : Int32 → SX → Prop), (∀ u', me_RX c' u' → post' r u') → wpX_sessionKey post' u (nI n)) → wpX_carryOut post u (nI n)) R ?_
      intro f_spanFrom f_spanTo f_spanTextEnd f_spanKind a_text a_marks a_regKinds a_regLens a_regCodes a_nodeParent a_nodeRedo a_nodeLen a_nodeCur a_nodeMarks a_nodeText a_recCodes a_chKeys a_chText a_frameCodes a_frameLen a_framePos a_frameTimes a_frameLevel hT hG hN hF hx
      exact br_f (nI_pos hs4) (hx _ (me_allX fun _ _ _ _ _ _ _ _ _ _ _ _ _ _ _ _ _ _ _ _ _ _ _ _ _ _ _ _ _ _ _ _ _ _ _ _ _ _ _ _ _ _ _ _ _ R' => H _ R'))
    · have hy := fun post' H' => y post' v R H'
      revert hy
      refine me_elY (P := fun v => (∀ (post' : Int32 → SY → Prop), (∀ v', me_RY c' v' → post' r v') → wpY_type post' v (nI n)) → wpY_carry post v (nI n) rep (nI (me_yl kl))) R ?_
      intro q a_text a_marks a_info a_held a_strips a_size a_kind a_dueKey a_dueLevel hT hG hN hQ hy
      exact br_f (nI_pos hs4) (hy _ (me_allY fun _ _ _ _ _ _ _ _ _ _ _ _ _ _ _ _ _ _ _ _ _ _ _ _ _ _ _ R' => H _ R'))
end
end
section
/-! the replays' loop -/
def me_pop : List me_Fr → List me_Fr
  | [] => []
  | f :: r => if f.2.2.1 = 0 then me_pop r else f :: r
theorem me_pop_0 {f : me_Fr} {r : List me_Fr} (h : f.2.2.1 = 0) : me_pop (f :: r) = me_pop r := if_pos h
theorem me_pop_n {f : me_Fr} {r : List me_Fr} (h : f.2.2.1 ≠ 0) : me_pop (f :: r) = f :: r := if_neg h
theorem me_pf_0 {f : me_Fr} (h : f.2.2.1 = 0) : me_pf f = [] := by
  unfold me_pf
  rw [h]
theorem me_pend_pop : ∀ fr : List me_Fr, me_pend (me_pop fr) = me_pend fr
  | [] => rfl
  | f :: r => by
    by_cases h : f.2.2.1 = 0
    · rw [me_pop_0 h, me_pend_pop r]
      show _ = me_pf f ++ me_pend r
      rw [me_pf_0 h]; rfl
    · rw [me_pop_n h]
theorem me_pop_mem : ∀ {fr : List me_Fr} {f : me_Fr}, f ∈ me_pop fr → f ∈ fr
  | [], _, h => h
  | g :: r, f, h => by
    by_cases e : g.2.2.1 = 0
    · rw [me_pop_0 e] at h
      exact List.mem_cons_of_mem _ (me_pop_mem h)
    · rw [me_pop_n e] at h; exact h
theorem me_pop_hd {fr r : List me_Fr} {f : me_Fr} (h : me_pop fr = f :: r) : f.2.2.1 ≠ 0 := by
  induction fr with
  | nil => cases h
  | cons g q ih =>
    by_cases e : g.2.2.1 = 0
    · rw [me_pop_0 e] at h; exact ih h
    · rw [me_pop_n e] at h; cases h; exact e
def me_FL1 : List me_Fr → Prop
  | [] => True
  | f :: r => f.2.2.2 = r.length + 1 ∧ f.2.2.2 ≤ 4 ∧ me_FL1 r
theorem me_FL1_pop : ∀ {fr : List me_Fr}, me_FL1 fr → me_FL1 (me_pop fr)
  | [], h => h
  | f :: r, h => by
    by_cases e : f.2.2.1 = 0
    · rw [me_pop_0 e]; exact me_FL1_pop h.2.2
    · rw [me_pop_n e]; exact h
theorem me_FL1_len : ∀ {fr : List me_Fr}, me_FL1 fr → fr.length ≤ 4
  | [], _ => Nat.zero_le _
  | f :: r, h => by rw [List.length_cons]; have := h.1; have := h.2.1; omega
/-- the keys that the frame of a repeat still gives -/
def me_p5 (f : me_Fr) : List Int32 := if f.2.2.1 = 0 then [] else f.1.drop f.2.1
def me_FLI (c : me_CC) : Prop := me_FL1 (me_fr c) ∨ ∃ f r, me_fr c = f :: r ∧ f.2.2.2 = 5 ∧ f.2.2.1 ≤ 1 ∧ me_FL1 r ∧ me_P5 c (me_p5 f)
/-- the frame behind a key taken -/
def me_nxf (f : me_Fr) : me_Fr := if f.2.1 + 1 < f.1.length then (f.1, f.2.1 + 1, f.2.2.1, f.2.2.2) else (f.1, 0, f.2.2.1 - 1, f.2.2.2)
theorem me_drop_hd {l : List Int32} {p : Nat} (h : p < l.length) : l.drop p = l.getD p 0 :: l.drop (p + 1) := by
  rw [List.drop_eq_getElem_cons h, List.getD_eq_getElem?_getD, List.getElem?_eq_getElem h]
  rfl
theorem me_pf_nx {f : me_Fr} (hp : f.2.1 < f.1.length) (ht : f.2.2.1 ≠ 0) : me_pf f = (f.1.getD f.2.1 0, me_yl f.2.2.2) :: me_pf (me_nxf f) := by
  obtain ⟨codes, pos, tms, lv⟩ := f
  obtain ⟨k, rfl⟩ : ∃ k, tms = k + 1 := ⟨tms - 1, by have : tms ≠ 0 := ht; omega⟩
  have hp' : pos < codes.length := hp
  have e : ∀ x : List Int32, (codes.drop pos ++ x).map (fun x => (x, if lv = 5 then 0 else lv)) = (codes.getD pos 0, me_yl lv) :: (codes.drop (pos + 1) ++ x).map (fun x => (x, if lv = 5 then 0 else lv)) := fun x => by
    rw [me_drop_hd hp']; rfl
  show (codes.drop pos ++ (List.replicate k codes).flatten).map (fun x => (x, if lv = 5 then 0 else lv)) = (codes.getD pos 0, me_yl lv) :: me_pf (me_nxf (codes, pos, k + 1, lv))
  rw [e]
  by_cases h : pos + 1 < codes.length
  · have : me_nxf (codes, pos, k + 1, lv) = (codes, pos + 1, k + 1, lv) := if_pos h
    rw [this]
    rfl
  · have : me_nxf (codes, pos, k + 1, lv) = (codes, 0, k, lv) := if_neg h
    rw [this, List.drop_of_length_le (show codes.length ≤ pos + 1 by omega), List.nil_append]
    cases k with
    | zero => rfl
    | succ k => rfl
theorem me_p5_nx {f : me_Fr} (hp : f.2.1 < f.1.length) (ht : f.2.2.1 = 1) : me_p5 f = f.1.getD f.2.1 0 :: me_p5 (me_nxf f) := by
  obtain ⟨codes, pos, tms, lv⟩ := f
  have ht' : tms = 1 := ht
  subst ht'
  have hp' : pos < codes.length := hp
  show codes.drop pos = codes.getD pos 0 :: me_p5 (me_nxf (codes, pos, 1, lv))
  rw [me_drop_hd hp']
  by_cases h : pos + 1 < codes.length
  · have : me_nxf (codes, pos, 1, lv) = (codes, pos + 1, 1, lv) := if_pos h
    rw [this]; rfl
  · have : me_nxf (codes, pos, 1, lv) = (codes, 0, 0, lv) := if_neg h
    rw [this, List.drop_of_length_le (show codes.length ≤ pos + 1 by omega)]; rfl
theorem me_nxf_b {f : me_Fr} (h : f.1.length ≤ 40 ∧ f.2.1 < f.1.length ∧ f.2.2.1 ≤ 32 ∧ f.2.2.2 ≤ 5 ∧ ∀ x, x ∈ f.1 → me_vk x) : (me_nxf f).1.length ≤ 40 ∧ (me_nxf f).2.1 < (me_nxf f).1.length ∧ (me_nxf f).2.2.1 ≤ 32 ∧ (me_nxf f).2.2.2 ≤ 5 ∧ ∀ x, x ∈ (me_nxf f).1 → me_vk x := by
  obtain ⟨h1, h2, h3, h4, h5⟩ := h
  unfold me_nxf
  split
  · exact ⟨h1, by assumption, h3, h4, h5⟩
  · refine ⟨h1, ?_, ?_, h4, h5⟩
    · show 0 < f.1.length
      omega
    · show f.2.2.1 - 1 ≤ 32
      omega
theorem me_nxf_lv (f : me_Fr) : (me_nxf f).2.2.2 = f.2.2.2 := by
  unfold me_nxf
  split <;> rfl
theorem me_nxf_t {f : me_Fr} (h : f.2.2.1 ≤ 1) : (me_nxf f).2.2.1 ≤ 1 := by
  unfold me_nxf
  split
  · exact h
  · show f.2.2.1 - 1 ≤ 1
    omega
def me_sfr (c : me_CC) (fr' : List me_Fr) : me_CC := match c with
  | (tcap, ncap, lvs, t, len, cur, mks, kd, sz, st, cnt, now, par, rd, nt, nl, nc, nm, reg, k1, op, k2, wt, ss, cp, rr, cr, cc, fr, kl, tk) => (tcap, ncap, lvs, t, len, cur, mks, kd, sz, st, cnt, now, par, rd, nt, nl, nc, nm, reg, k1, op, k2, wt, ss, cp, rr, cr, cc, fr', kl, tk)
def me_clr (c : me_CC) : me_CC := match c with
  | (tcap, ncap, lvs, t, len, cur, mks, kd, sz, st, cnt, now, par, rd, nt, nl, nc, nm, reg, k1, op, k2, wt, ss, cp, rr, cr, cc, fr, kl, tk) => (tcap, ncap, lvs, t, len, cur, mks, kd, sz, st, cnt, now, par, rd, nt, nl, nc, nm, reg, k1, op, k2, wt, ss, cp, rr, cr, cc, [], kl, 0)
def me_take (c : me_CC) (f : me_Fr) (r : List me_Fr) : me_CC := match c with
  | (tcap, ncap, lvs, t, len, cur, mks, kd, sz, st, cnt, now, par, rd, nt, nl, nc, nm, reg, k1, op, k2, wt, ss, cp, rr, cr, cc, fr, kl, tk) => (tcap, ncap, lvs, t, len, cur, mks, kd, sz, st, cnt, now, par, rd, nt, nl, nc, nm, reg, k1, op, k2, wt, ss, cp, rr, cr, cc, me_nxf f :: r, f.2.2.2, tk + 1)
section
variable {tcap : Nat} {ncap : Nat} {lvs : Nat} {t : Nat → Int32} {len : Nat} {cur : Nat} {mks : Nat → Option Nat} {kd : Nat → Nat} {sz : Nat → Nat} {st : Nat → Nat → Int32} {cnt : Nat} {now : Nat} {par : Nat → Option Nat} {rd : Nat → Option Nat} {nt : Nat → Nat → Int32} {nl : Nat → Nat} {nc : Nat → Nat} {nm : Nat → Nat → Option Nat} {reg : Option Nat} {k1 : Nat} {op : Int32} {k2 : Nat} {wt : Int32} {ss : Option Nat} {cp : Nat} {rr : Option Nat} {cr : Option Nat} {cc : Nat} {fr : List (List Int32 × Nat × Nat × Nat)} {kl : Nat} {tk : Nat}
variable {f_spanFrom f_spanTo f_spanTextEnd f_spanKind : Int32} {a_text a_marks a_regKinds a_regLens a_regCodes a_nodeParent a_nodeRedo a_nodeLen a_nodeCur a_nodeMarks a_nodeText a_recCodes a_chKeys a_chText a_frameCodes a_frameLen a_framePos a_frameTimes a_frameLevel : Nat → Int32}
theorem xe_runReplays_8 {post : Int32 → SX → Prop} {J : Int32 → Int32 → Int32 → Int32 → Int32 → Int32 → Int32 → Int32 → Int32 → Int32 → Int32 → Int32 → Int32 → Int32 → Int32 → Int32 → Int32 → Int32 → Int32 → Int32 → Int32 → Int32 → Int32 → Int32 → Int32 → Int32 → Int32 → (Nat → Int32) → (Nat → Int32) → (Nat → Int32) → (Nat → Int32) → (Nat → Int32) → (Nat → Int32) → (Nat → Int32) → (Nat → Int32) → (Nat → Int32) → (Nat → Int32) → (Nat → Int32) → (Nat → Int32) → (Nat → Int32) → (Nat → Int32) → (Nat → Int32) → (Nat → Int32) → (Nat → Int32) → (Nat → Int32) → (Nat → Int32) → Prop} {x1 : Int32} (H : wX_runReplays_42 post J x1 (nI tcap) (nI ncap) (nI lvs) (nI len) (nI cur) (nI cnt) (nI now) (me_o reg) (nI k1) op (nI k2) wt (me_o ss) (nI cp) (me_o rr) (nI (sz 4)) (nI (sz 5)) (nI (sz 6)) (me_o cr) (nI cc) (nI (me_pop fr).length) (nI kl) f_spanFrom f_spanTo f_spanTextEnd f_spanKind a_text a_marks a_regKinds a_regLens a_regCodes a_nodeParent a_nodeRedo a_nodeLen a_nodeCur a_nodeMarks a_nodeText a_recCodes a_chKeys a_chText a_frameCodes a_frameLen a_framePos a_frameTimes a_frameLevel) :
    ∀ g : List me_Fr, me_pop g = me_pop fr → g.length ≤ 5 → me_IF g → me_FX g a_frameCodes a_frameLen a_framePos a_frameTimes a_frameLevel → wX_runReplays_8 post J x1 (nI tcap) (nI ncap) (nI lvs) (nI len) (nI cur) (nI cnt) (nI now) (me_o reg) (nI k1) op (nI k2) wt (me_o ss) (nI cp) (me_o rr) (nI (sz 4)) (nI (sz 5)) (nI (sz 6)) (me_o cr) (nI cc) (nI kl) f_spanFrom f_spanTo f_spanTextEnd f_spanKind a_text a_marks a_regKinds a_regLens a_regCodes a_nodeParent a_nodeRedo a_nodeLen a_nodeCur a_nodeMarks a_nodeText a_recCodes a_chKeys a_chText a_frameCodes a_frameLen a_framePos a_frameTimes a_frameLevel (g.length + 1) (nI g.length)
  | [], e, hl, hI, hF => by
    rw [← e] at H
    exact br_t (by decide) H
  | f :: r, e, hl, hI, hF => by
    rw [List.length_cons] at hl ⊢
    have hb := hI f (List.mem_cons_self ..)
    refine br_f (nI_nle (by omega) (by omega)) ⟨pk_in r.length 5 (by omega) (nI_pred _), ?_⟩
    rw [pk_cl r.length (nI_pred _), hF.1.2.2.1]
    by_cases h : f.2.2.1 = 0
    · rw [h]
      refine br_f (by decide) (nm_r (nI_pred _) ?_)
      rw [me_pop_0 h] at e
      exact xe_runReplays_8 H r e (by omega) (fun g hg => hI g (List.mem_cons_of_mem _ hg)) hF.2
    · rw [me_pop_n h] at e
      rw [← e, List.length_cons] at H
      exact br_t (nI_lt (a := 0) (by omega) (by omega)) H
end
section
variable {f_textCap f_nodeCap f_levels f_len f_cur f_nodeCount f_node f_reg f_c1 f_op f_c2 f_waiting f_sessionStart f_copies f_recReg f_recLen f_chKeyLen f_chTextLen f_chReg f_chCount f_depth f_keyLevel f_spanFrom f_spanTo f_spanTextEnd f_spanKind : Int32} {a_text a_marks a_regKinds a_regLens a_regCodes a_nodeParent a_nodeRedo a_nodeLen a_nodeCur a_nodeMarks a_nodeText a_recCodes a_chKeys a_chText a_frameCodes a_frameLen a_framePos a_frameTimes a_frameLevel : Nat → Int32}
theorem xe_takeKey {post : Int32 → SX → Prop} {f : me_Fr} {r : List me_Fr} (hr : r.length < 5) (hb : f.1.length ≤ 40 ∧ f.2.1 < f.1.length ∧ f.2.2.1 ≤ 32) (h0 : f.2.2.1 ≠ 0) (hl : ∀ g, g ∈ r → g.1.length ≤ 40) (hF : me_FX (f :: r) a_frameCodes a_frameLen a_framePos a_frameTimes a_frameLevel)
    (H : ∀ (a_framePos a_frameTimes : Nat → Int32), me_FX (me_nxf f :: r) a_frameCodes a_frameLen a_framePos a_frameTimes a_frameLevel → post (f.1.getD f.2.1 0) (f_textCap, f_nodeCap, f_levels, f_len, f_cur, f_nodeCount, f_node, f_reg, f_c1, f_op, f_c2, f_waiting, f_sessionStart, f_copies, f_recReg, f_recLen, f_chKeyLen, f_chTextLen, f_chReg, f_chCount, nI (r.length + 1), nI f.2.2.2, f_spanFrom, f_spanTo, f_spanTextEnd, f_spanKind, a_text, a_marks, a_regKinds, a_regLens, a_regCodes, a_nodeParent, a_nodeRedo, a_nodeLen, a_nodeCur, a_nodeMarks, a_nodeText, a_recCodes, a_chKeys, a_chText, a_frameCodes, a_frameLen, a_framePos, a_frameTimes, a_frameLevel)) : wpX_takeKey post (f_textCap, f_nodeCap, f_levels, f_len, f_cur, f_nodeCount, f_node, f_reg, f_c1, f_op, f_c2, f_waiting, f_sessionStart, f_copies, f_recReg, f_recLen, f_chKeyLen, f_chTextLen, f_chReg, f_chCount, nI (r.length + 1), f_keyLevel, f_spanFrom, f_spanTo, f_spanTextEnd, f_spanKind, a_text, a_marks, a_regKinds, a_regLens, a_regCodes, a_nodeParent, a_nodeRedo, a_nodeLen, a_nodeCur, a_nodeMarks, a_nodeText, a_recCodes, a_chKeys, a_chText, a_frameCodes, a_frameLen, a_framePos, a_frameTimes, a_frameLevel) := by
  obtain ⟨⟨e1, e2, e3, e4, e5⟩, hF'⟩ := hF
  have v : vp_in (nI r.length) 5 := vp_in_nI hr (by omega)
  refine nm_r (nI_pred _) ⟨v, ?_⟩
  rw [nI_clamp (by omega), e2]
  refine ⟨pk_in (r.length * 40 + f.2.1) 200 (by omega) (me_ix40 _ _), nm_r (e' := f.1.getD f.2.1 0) ?_ ⟨v, nm_r e4 ⟨v, v, nm_r (e' := upd a_framePos r.length (nI (f.2.1 + 1))) ?_ ⟨v, v, ?_⟩⟩⟩⟩
  · rw [pk_cl (r.length * 40 + f.2.1) (me_ix40 _ _), e5 _ hb.2.1]
  · rw [nI_1]
  · rw [pk_us, e1]
    have hcg : ∀ x y : Int32, ∀ q : Nat → Int32, me_FX r a_frameCodes a_frameLen (upd a_framePos r.length x) q a_frameLevel → True := fun _ _ _ _ => trivial
    refine pk_lt (f.2.1 + 1) f.1.length (fun w => H _ _ ?_) (fun w => ⟨v, nm_r (me_uu _ _ _ _) ⟨v, v, nm_r (e' := upd a_frameTimes r.length (nI (f.2.2.1 - 1))) ?_ (H _ _ ?_)⟩⟩)
    · have hn : me_nxf f = (f.1, f.2.1 + 1, f.2.2.1, f.2.2.2) := if_pos w
      rw [hn]
      refine ⟨⟨e1, pk_us, e3, e4, e5⟩, me_FX_congr hF' hl (fun j hj => ⟨rfl, pk_un (by omega), rfl, rfl⟩) (fun j hj => rfl)⟩
    · rw [e3, me_sub1 (by omega)]
    · have hn : me_nxf f = (f.1, 0, f.2.2.1 - 1, f.2.2.2) := if_neg (by omega)
      rw [hn]
      refine ⟨⟨e1, pk_us, pk_us, e4, e5⟩, me_FX_congr hF' hl (fun j hj => ⟨rfl, pk_un (by omega), pk_un (by omega), rfl⟩) (fun j hj => rfl)⟩
end
section
variable {f_cap f_nodeCap f_levels f_len f_cur f_now f_nodeCount f_queued f_c1 f_op f_c2 f_waits f_copies f_recCount f_reg f_begin f_recording f_recReg : Int32} {a_text a_marks a_info a_held a_strips a_size a_kind a_dueKey a_dueLevel : Nat → Int32}
theorem ye_press_103 {post : Int32 → SY → Prop} {J : Int32 → Int32 → Int32 → Int32 → Int32 → Int32 → Int32 → Int32 → Int32 → Int32 → Int32 → Int32 → Int32 → Int32 → Int32 → Int32 → Int32 → Int32 → Int32 → Int32 → (Nat → Int32) → (Nat → Int32) → (Nat → Int32) → (Nat → Int32) → (Nat → Int32) → (Nat → Int32) → (Nat → Int32) → (Nat → Int32) → (Nat → Int32) → Prop} {x1 x2 x4 x5 x6 : Int32} {q : Nat} (hq : q ≤ 64) {DK DL : Nat → Int32}
    (H : ∀ (a_dueKey a_dueLevel : Nat → Int32), (∀ i, i < q → a_dueKey i = DK (i + 1)) → (∀ i, i < q → a_dueLevel i = DL (i + 1)) → wY_press_103 post J x1 x2 x4 x5 x6 f_cap f_nodeCap f_levels f_len f_cur f_now f_nodeCount (nI q) f_c1 f_op f_c2 f_waits f_copies f_recCount f_reg f_begin f_recording f_recReg 1 (nI q) a_text a_marks a_info a_held a_strips a_size a_kind a_dueKey a_dueLevel) :
    ∀ (d i : Nat) (a_dueKey a_dueLevel : Nat → Int32), i + d = q → (∀ j, j < i → a_dueKey j = DK (j + 1) ∧ a_dueLevel j = DL (j + 1)) → (∀ j, i ≤ j → a_dueKey j = DK j ∧ a_dueLevel j = DL j) → wY_press_103 post J x1 x2 x4 x5 x6 f_cap f_nodeCap f_levels f_len f_cur f_now f_nodeCount (nI q) f_c1 f_op f_c2 f_waits f_copies f_recCount f_reg f_begin f_recording f_recReg (d + 1) (nI i) a_text a_marks a_info a_held a_strips a_size a_kind a_dueKey a_dueLevel
  | 0, i, a_dueKey, a_dueLevel, hd, h1, h2 => by
    have : i = q := by omega
    subst this
    exact H a_dueKey a_dueLevel (fun j hj => (h1 j hj).1) (fun j hj => (h1 j hj).2)
  | d + 1, i, a_dueKey, a_dueLevel, hd, h1, h2 => by
    have v1 : vp_in (nI i + 1) 65 := pk_in (i + 1) 65 (by omega) (nI_1 i)
    have v2 : vp_in (nI i) 65 := vp_in_nI (by omega) (by omega)
    refine br_f (nI_ge (by omega) (by omega)) ⟨v1, v2, nm_e ⟨v1, v2, nm_e (nm_r (nI_1 i) ?_)⟩⟩
    rw [pk_cl (i + 1) (nI_1 i), nI_clamp (n := i) (by omega)]
    refine ye_press_103 hq H d (i + 1) _ _ (by omega) (fun j hj => ?_) (fun j hj => ?_)
    · by_cases e : j = i
      · subst e; rw [pk_us, pk_us]; exact h2 (j + 1) (by omega)
      · rw [pk_un e, pk_un e]; exact h1 j (by omega)
    · rw [pk_un (by omega), pk_un (by omega)]; exact h2 j (by omega)
end
end
section
/-! the replays, both sides at once -/
def me_x2 (post : Int32 → SX → Prop) (n : Nat) (x : Int32) (u : SX) : Prop := match u with
  | (f_textCap, f_nodeCap, f_levels, f_len, f_cur, f_nodeCount, f_node, f_reg, f_c1, f_op, f_c2, f_waiting, f_sessionStart, f_copies, f_recReg, f_recLen, f_chKeyLen, f_chTextLen, f_chReg, f_chCount, f_depth, f_keyLevel, f_spanFrom, f_spanTo, f_spanTextEnd, f_spanKind, a_text, a_marks, a_regKinds, a_regLens, a_regCodes, a_nodeParent, a_nodeRedo, a_nodeLen, a_nodeCur, a_nodeMarks, a_nodeText, a_recCodes, a_chKeys, a_chText, a_frameCodes, a_frameLen, a_framePos, a_frameTimes, a_frameLevel) => wX_runReplays_2 post n x f_textCap f_nodeCap f_levels f_len f_cur f_nodeCount f_node f_reg f_c1 f_op f_c2 f_waiting f_sessionStart f_copies f_recReg f_recLen f_chKeyLen f_chTextLen f_chReg f_chCount f_depth f_keyLevel f_spanFrom f_spanTo f_spanTextEnd f_spanKind a_text a_marks a_regKinds a_regLens a_regCodes a_nodeParent a_nodeRedo a_nodeLen a_nodeCur a_nodeMarks a_nodeText a_recCodes a_chKeys a_chText a_frameCodes a_frameLen a_framePos a_frameTimes a_frameLevel
def me_y56 (post : Int32 → SY → Prop) (x1 x2 : Int32) (n : Nat) (x3 x4 : Int32) (v : SY) : Prop := match v with
  | (f_cap, f_nodeCap, f_levels, f_len, f_cur, f_now, f_nodeCount, f_queued, f_c1, f_op, f_c2, f_waits, f_copies, f_recCount, f_reg, f_begin, f_recording, f_recReg, a_text, a_marks, a_info, a_held, a_strips, a_size, a_kind, a_dueKey, a_dueLevel) => wY_press_56 post x1 x2 n x3 x4 f_cap f_nodeCap f_levels f_len f_cur f_now f_nodeCount f_queued f_c1 f_op f_c2 f_waits f_copies f_recCount f_reg f_begin f_recording f_recReg a_text a_marks a_info a_held a_strips a_size a_kind a_dueKey a_dueLevel
def me_clrX (u : SX) : SX := match u with
  | (f_textCap, f_nodeCap, f_levels, f_len, f_cur, f_nodeCount, f_node, f_reg, f_c1, f_op, f_c2, f_waiting, f_sessionStart, f_copies, f_recReg, f_recLen, f_chKeyLen, f_chTextLen, f_chReg, f_chCount, f_depth, f_keyLevel, f_spanFrom, f_spanTo, f_spanTextEnd, f_spanKind, a_text, a_marks, a_regKinds, a_regLens, a_regCodes, a_nodeParent, a_nodeRedo, a_nodeLen, a_nodeCur, a_nodeMarks, a_nodeText, a_recCodes, a_chKeys, a_chText, a_frameCodes, a_frameLen, a_framePos, a_frameTimes, a_frameLevel) => (f_textCap, f_nodeCap, f_levels, f_len, f_cur, f_nodeCount, f_node, f_reg, f_c1, f_op, f_c2, f_waiting, f_sessionStart, f_copies, f_recReg, f_recLen, f_chKeyLen, f_chTextLen, f_chReg, f_chCount, 0, f_keyLevel, f_spanFrom, f_spanTo, f_spanTextEnd, f_spanKind, a_text, a_marks, a_regKinds, a_regLens, a_regCodes, a_nodeParent, a_nodeRedo, a_nodeLen, a_nodeCur, a_nodeMarks, a_nodeText, a_recCodes, a_chKeys, a_chText, a_frameCodes, a_frameLen, a_framePos, a_frameTimes, a_frameLevel)
theorem xe_clrR {c : me_CC} {u : SX} (R : me_RX c u) : me_RX (me_clr c) (me_clrX u) := by
  revert R
  refine me_tupC (P := fun c => me_RX c u → me_RX (me_clr c) (me_clrX u)) ?_ c
  intro tcap ncap lvs t len cur mks kd sz st cnt now par rd nt nl nc nm reg k1 op k2 wt ss cp rr cr cc fr kl tk R
  refine me_elX (P := fun u => me_RX (me_clr (tcap, ncap, lvs, t, len, cur, mks, kd, sz, st, cnt, now, par, rd, nt, nl, nc, nm, reg, k1, op, k2, wt, ss, cp, rr, cr, cc, fr, kl, tk)) (me_clrX u)) R ?_
  intro f_spanFrom f_spanTo f_spanTextEnd f_spanKind a_text a_marks a_regKinds a_regLens a_regCodes a_nodeParent a_nodeRedo a_nodeLen a_nodeCur a_nodeMarks a_nodeText a_recCodes a_chKeys a_chText a_frameCodes a_frameLen a_framePos a_frameTimes a_frameLevel hT hG hN hF
  exact me_inX hT hG hN trivial
theorem me_FX_pop {ac al ap am av : Nat → Int32} : ∀ {fr : List me_Fr}, me_FX fr ac al ap am av → me_FX (me_pop fr) ac al ap am av
  | [], h => h
  | f :: r, h => by
    by_cases e : f.2.2.1 = 0
    · rw [me_pop_0 e]; exact me_FX_pop h.2
    · rw [me_pop_n e]; exact h
/-- the end of the loop -/
def me_End (c : me_CC) (d : Nat) : Prop :=
  ∃ (r : Int32) (c' : me_CC), (r = 0 ∨ r = 1) ∧ me_Inv c' ∧
    (∀ (post : Int32 → SX → Prop) (u : SX), me_RX c u → (∀ u', me_RX (me_clr c') u' → post r u') → me_x2 post (d + 1) (nI (me_tk c)) u) ∧
    (∀ (post : Int32 → SY → Prop) (x1 z : Int32) (v : SY), me_RY c v → (∀ f_cap f_nodeCap f_levels f_len f_cur f_now f_nodeCount f_queued f_c1 f_op f_c2 f_waits f_copies f_recCount f_reg f_begin f_recording f_recReg a_text a_marks a_info a_held a_strips a_size a_kind a_dueKey a_dueLevel, me_RY c' (f_cap, f_nodeCap, f_levels, f_len, f_cur, f_now, f_nodeCount, f_queued, f_c1, f_op, f_c2, f_waits, f_copies, f_recCount, f_reg, f_begin, f_recording, f_recReg, a_text, a_marks, a_info, a_held, a_strips, a_size, a_kind, a_dueKey, a_dueLevel) → wY_press_182 post x1 z r f_cap f_nodeCap f_levels f_len f_cur f_now f_nodeCount f_queued f_c1 f_op f_c2 f_waits f_copies f_recCount f_reg f_begin f_recording f_recReg a_text a_marks a_info a_held a_strips a_size a_kind a_dueKey a_dueLevel) → me_y56 post x1 z (d + 2) 0 (nI (me_tk c)) v)
theorem me_FLI_pop {c : me_CC} {f : me_Fr} {r : List me_Fr} (h : me_FLI c) (hp : me_pop (me_fr c) = f :: r) : me_FL1 (f :: r) ∨ (f.2.2.2 = 5 ∧ f.2.2.1 = 1 ∧ me_FL1 r ∧ me_P5 c (me_p5 f)) := by
  have h0 := me_pop_hd hp
  rcases h with h | ⟨g, q, e, h1, h2, h3, h4⟩
  · have := me_FL1_pop h
    rw [hp] at this
    exact Or.inl this
  · rw [e] at hp
    by_cases w : g.2.2.1 = 0
    · rw [me_pop_0 w] at hp
      have := me_FL1_pop h3
      rw [hp] at this
      exact Or.inl this
    · rw [me_pop_n w] at hp
      cases hp
      exact Or.inr ⟨h1, by omega, h3, h4⟩
theorem me_FLI_len {c : me_CC} (h : me_FLI c) : (me_fr c).length ≤ 5 := by
  rcases h with h | ⟨g, q, e, h1, h2, h3, h4⟩
  · have := me_FL1_len h; omega
  · rw [e, List.length_cons]
    have := me_FL1_len h3; omega
/-- what is left of the frames behind a key that went well -/
theorem me_FLI_nx {c2 c3 : me_CC} {key : Int32} {f : me_Fr} {r : List me_Fr} (hfr : me_fr c2 = me_nxf f :: r) (hkl : me_kl' c2 = f.2.2.2) (h : me_FL1 (f :: r) ∨ (f.2.2.2 = 5 ∧ f.2.2.1 = 1 ∧ me_FL1 r ∧ me_P5 c2 (key :: me_p5 (me_nxf f)))) (hn : me_nx c2 key c3) : me_FLI c3 := by
  obtain ⟨_, hn⟩ := hn
  rcases h with h | ⟨h1, h2, h3, h4⟩
  · have h' : me_FL1 (me_nxf f :: r) := ⟨by rw [me_nxf_lv]; exact h.1, by rw [me_nxf_lv]; exact h.2.1, h.2.2⟩
    rcases hn with ⟨e, _⟩ | ⟨hk, g, e, w⟩
    · left
      rw [e, hfr]; exact h'
    · rcases w with ⟨w1, w2⟩ | ⟨w1, w2, w3, w4⟩
      · left
        rw [e, hfr]
        refine ⟨?_, w2, h'⟩
        rw [w1, hkl, List.length_cons, h.1]
      · right
        refine ⟨g, me_nxf f :: r, by rw [e, hfr], w1, by omega, h', ?_⟩
        unfold me_p5
        rw [if_neg (by omega), w2, List.drop_zero]
        exact w4
  · rcases hn with ⟨e, hP⟩ | ⟨hk, _⟩
    · right
      refine ⟨me_nxf f, r, by rw [e, hfr], by rw [me_nxf_lv]; exact h1, me_nxf_t (by omega), h3, hP _ h4⟩
    · rw [hkl, h1] at hk; omega
section
variable {tcap : Nat} {ncap : Nat} {lvs : Nat} {t : Nat → Int32} {len : Nat} {cur : Nat} {mks : Nat → Option Nat} {kd : Nat → Nat} {sz : Nat → Nat} {st : Nat → Nat → Int32} {cnt : Nat} {now : Nat} {par : Nat → Option Nat} {rd : Nat → Option Nat} {nt : Nat → Nat → Int32} {nl : Nat → Nat} {nc : Nat → Nat} {nm : Nat → Nat → Option Nat} {reg : Option Nat} {k1 : Nat} {op : Int32} {k2 : Nat} {wt : Int32} {ss : Option Nat} {cp : Nat} {rr : Option Nat} {cr : Option Nat} {cc : Nat} {fr : List (List Int32 × Nat × Nat × Nat)} {kl : Nat} {tk : Nat}
theorem me_QY_pos {x : Int32 × Nat} {pn : List (Int32 × Nat)} {q : Nat} {DK DL : Nat → Int32} (htk : tk ≤ 64) (h : me_QY (x :: pn) tk q DK DL) : 0 < q := by
  obtain ⟨a, b, c, d⟩ := h
  rw [List.length_cons] at c
  omega
theorem me_end_0 {d : Nat} (I : me_Inv (tcap, ncap, lvs, t, len, cur, mks, kd, sz, st, cnt, now, par, rd, nt, nl, nc, nm, reg, k1, op, k2, wt, ss, cp, rr, cr, cc, fr, kl, tk)) (htk : tk ≤ 64) (hlen : fr.length ≤ 5) (hp : me_pop fr = []) : me_End (tcap, ncap, lvs, t, len, cur, mks, kd, sz, st, cnt, now, par, rd, nt, nl, nc, nm, reg, k1, op, k2, wt, ss, cp, rr, cr, cc, fr, kl, tk) d := by
  refine ⟨0, (tcap, ncap, lvs, t, len, cur, mks, kd, sz, st, cnt, now, par, rd, nt, nl, nc, nm, reg, k1, op, k2, wt, ss, cp, rr, cr, cc, [], kl, tk), Or.inl rfl, ⟨I.1, I.2.1, I.2.2.1, I.2.2.2.1, I.2.2.2.2.1, I.2.2.2.2.2.1, fun f h => by cases h⟩, fun post u R H => ?_, fun post x1 z v R K => ?_⟩
  · refine me_elX (P := fun u => me_x2 post (d + 1) (nI tk) u) R ?_
    intro f_spanFrom f_spanTo f_spanTextEnd f_spanKind a_text a_marks a_regKinds a_regLens a_regCodes a_nodeParent a_nodeRedo a_nodeLen a_nodeCur a_nodeMarks a_nodeText a_recCodes a_chKeys a_chText a_frameCodes a_frameLen a_framePos a_frameTimes a_frameLevel hT hG hN hF
    refine br_f (nI_ge (b := 65) (by omega) (by omega)) ⟨fr.length + 1, xe_runReplays_8 ?_ fr rfl hlen I.2.2.2.2.2.2 hF⟩
    rw [hp]
    exact br_f (by decide) (H _ (me_inX hT hG hN trivial))
  · refine me_elY (P := fun v => me_y56 post x1 z (d + 2) 0 (nI tk) v) R ?_
    intro q a_text a_marks a_info a_held a_strips a_size a_kind a_dueKey a_dueLevel hT hG hN hQ
    have e : me_pend fr = [] := by rw [← me_pend_pop, hp]; rfl
    rw [e] at hQ
    have hq : q = 0 := by have := hQ.2.1; exact Nat.le_zero.mp this
    subst hq
    exact br_f (nI_nlt (a := 64) (by omega) (by omega)) (br_t rfl (br_t (by decide) (K _ _ _ _ _ _ _ _ _ _ _ _ _ _ _ _ _ _ _ _ _ _ _ _ _ _ _  (me_inY hT hG hN hQ))))
theorem me_inv_take {f : me_Fr} {r : List me_Fr} (I : me_Inv (tcap, ncap, lvs, t, len, cur, mks, kd, sz, st, cnt, now, par, rd, nt, nl, nc, nm, reg, k1, op, k2, wt, ss, cp, rr, cr, cc, fr, kl, tk)) (hp : me_pop fr = f :: r) : me_Inv (me_take (tcap, ncap, lvs, t, len, cur, mks, kd, sz, st, cnt, now, par, rd, nt, nl, nc, nm, reg, k1, op, k2, wt, ss, cp, rr, cr, cc, fr, kl, tk) f r) := by
  have hf := I.2.2.2.2.2.2
  have hm : ∀ g, g ∈ f :: r → g ∈ fr := fun g hg => me_pop_mem (by rw [hp]; exact hg)
  refine ⟨I.1, I.2.1, I.2.2.1, I.2.2.2.1, I.2.2.2.2.1, I.2.2.2.2.2.1, fun g hg => ?_⟩
  rcases List.mem_cons.mp hg with rfl | hg
  · exact me_nxf_b (hf f (hm f (List.mem_cons_self ..)))
  · exact hf g (hm g (List.mem_cons_of_mem _ hg))
/-- the reference takes the first due key -/
theorem ye_pop {post : Int32 → SY → Prop} {x1 z : Int32} {d q : Nat} {a_text a_marks a_info a_held a_strips a_size a_kind a_dueKey a_dueLevel : Nat → Int32} {f : me_Fr} {r : List me_Fr} (htk : tk ≤ 64) (hp : me_pop fr = f :: r) (hb : f.2.1 < f.1.length) (hQ : me_QY (me_pend fr) tk q a_dueKey a_dueLevel)
    (H : ∀ (q : Nat) (a_dueKey a_dueLevel : Nat → Int32), q ≤ 64 → me_QY (me_pend (me_nxf f :: r)) (tk + 1) q a_dueKey a_dueLevel → wY_press_103 post (wY_press_56 post x1 z (d + 1)) x1 z (nI tk) (f.1.getD f.2.1 0) (nI (me_yl f.2.2.2)) (nI tcap) (nI ncap) (nI lvs) (nI len) (nI cur) (nI now) (nI cnt) (nI q) (nI k1) op (nI k2) wt (nI cp) (nI cc) (me_o reg) (me_o ss) (me_o rr) (me_o cr) 1 (nI q) a_text a_marks a_info a_held a_strips a_size a_kind a_dueKey a_dueLevel) : wY_press_56 post x1 z (d + 2) 0 (nI tk) (nI tcap) (nI ncap) (nI lvs) (nI len) (nI cur) (nI now) (nI cnt) (nI q) (nI k1) op (nI k2) wt (nI cp) (nI cc) (me_o reg) (me_o ss) (me_o rr) (me_o cr) a_text a_marks a_info a_held a_strips a_size a_kind a_dueKey a_dueLevel := by
  have e : me_pend fr = (f.1.getD f.2.1 0, me_yl f.2.2.2) :: me_pend (me_nxf f :: r) := by
    rw [← me_pend_pop, hp]
    show me_pf f ++ me_pend r = (f.1.getD f.2.1 0, me_yl f.2.2.2) :: (me_pf (me_nxf f) ++ me_pend r)
    rw [me_pf_nx hb (me_pop_hd hp)]
    rfl
  rw [e] at hQ
  have h0 := me_QY_pos htk hQ
  obtain ⟨q', rfl⟩ : ∃ q', q = q' + 1 := ⟨q - 1, by omega⟩
  have hq65 := hQ.1
  have hd := hQ.2.2.2 0 (by omega)
  refine br_f (nI_nlt (a := 64) (by omega) (by omega)) (br_t rfl (br_f (nI_nle (by omega) (by omega)) (nm_r hd.1 (nm_r hd.2 (nm_r (nI_pred q') ⟨q' + 1, ?_⟩)))))
  exact ye_press_103 (DK := a_dueKey) (DL := a_dueLevel) (by omega) (fun DK' DL' w1 w2 => H q' DK' DL' (by omega) (me_QY_pop hQ w1 w2)) q' 0 a_dueKey a_dueLevel (by omega) (fun j hj => by omega) (fun j hj => ⟨rfl, rfl⟩)
theorem me_end_64 {f : me_Fr} {r : List me_Fr} (I : me_Inv (tcap, ncap, lvs, t, len, cur, mks, kd, sz, st, cnt, now, par, rd, nt, nl, nc, nm, reg, k1, op, k2, wt, ss, cp, rr, cr, cc, fr, kl, tk)) (htk : tk = 64) (hlen : fr.length ≤ 5) (hp : me_pop fr = f :: r) (hr : r.length ≤ 4) : me_End (tcap, ncap, lvs, t, len, cur, mks, kd, sz, st, cnt, now, par, rd, nt, nl, nc, nm, reg, k1, op, k2, wt, ss, cp, rr, cr, cc, fr, kl, tk) 0 := by
  have hI2 := me_inv_take I hp
  have hb := I.2.2.2.2.2.2 f (me_pop_mem (by rw [hp]; exact List.mem_cons_self ..))
  refine ⟨1, me_drop (tcap, ncap, lvs, t, len, cur, mks, kd, sz, st, cnt, now, par, rd, nt, nl, nc, nm, reg, k1, op, k2, wt, ss, cp, rr, cr, cc, me_nxf f :: r, kl, tk + 1), Or.inr rfl, me_inv_drop ⟨I.1, I.2.1, I.2.2.1, I.2.2.2.1, I.2.2.2.2.1, I.2.2.2.2.2.1, hI2.2.2.2.2.2.2⟩, fun post u R H => ?_, fun post x1 z v R K => ?_⟩
  · refine me_elX (P := fun u => me_x2 post (0 + 1) (nI tk) u) R ?_
    intro f_spanFrom f_spanTo f_spanTextEnd f_spanKind a_text a_marks a_regKinds a_regLens a_regCodes a_nodeParent a_nodeRedo a_nodeLen a_nodeCur a_nodeMarks a_nodeText a_recCodes a_chKeys a_chText a_frameCodes a_frameLen a_framePos a_frameTimes a_frameLevel hT hG hN hF
    refine br_f (nI_ge (b := 65) (by omega) (by omega)) ⟨fr.length + 1, xe_runReplays_8 ?_ fr rfl hlen I.2.2.2.2.2.2 hF⟩
    rw [hp, List.length_cons]
    refine br_t (nI_lt (a := 0) (by omega) (by omega)) (br_t ?_ (H _ (me_inX hT hG hN trivial)))
    rw [htk]; rfl
  · refine me_elY (P := fun v => me_y56 post x1 z (0 + 2) 0 (nI tk) v) R ?_
    intro q a_text a_marks a_info a_held a_strips a_size a_kind a_dueKey a_dueLevel hT hG hN hQ
    refine ye_pop (by omega) hp hb.2.1 hQ (fun q' DK' DL' hq hQ' => ?_)
    refine br_t (nI_le (by omega) (by omega)) (br_t (nI_le (a := 64) (by omega) (by omega)) (ye_dropC (me_inY hT hG hN hQ') (me_allY fun f_cap f_nodeCap f_levels f_len f_cur f_now f_nodeCount f_queued f_c1 f_op f_c2 f_waits f_copies f_recCount f_reg f_begin f_recording f_recReg a_text a_marks a_info a_held a_strips a_size a_kind a_dueKey a_dueLevel R' => nm_r (nI_1 tk) (br_t (nI_lt (a := 64) (by omega) (by omega)) (K f_cap f_nodeCap f_levels f_len f_cur f_now f_nodeCount f_queued f_c1 f_op f_c2 f_waits f_copies f_recCount f_reg f_begin f_recording f_recReg a_text a_marks a_info a_held a_strips a_size a_kind a_dueKey a_dueLevel R')))))
end
end
section
/-! the loop closed; pressing a key -/
section
variable {tcap : Nat} {ncap : Nat} {lvs : Nat} {t : Nat → Int32} {len : Nat} {cur : Nat} {mks : Nat → Option Nat} {kd : Nat → Nat} {sz : Nat → Nat} {st : Nat → Nat → Int32} {cnt : Nat} {now : Nat} {par : Nat → Option Nat} {rd : Nat → Option Nat} {nt : Nat → Nat → Int32} {nl : Nat → Nat} {nc : Nat → Nat} {nm : Nat → Nat → Option Nat} {reg : Option Nat} {k1 : Nat} {op : Int32} {k2 : Nat} {wt : Int32} {ss : Option Nat} {cp : Nat} {rr : Option Nat} {cr : Option Nat} {cc : Nat} {fr : List (List Int32 × Nat × Nat × Nat)} {kl : Nat} {tk : Nat}
theorem me_end_k {f : me_Fr} {r : List me_Fr} {d : Nat} (I : me_Inv (tcap, ncap, lvs, t, len, cur, mks, kd, sz, st, cnt, now, par, rd, nt, nl, nc, nm, reg, k1, op, k2, wt, ss, cp, rr, cr, cc, fr, kl, tk)) (htk : tk < 64) (hL : me_FLI (tcap, ncap, lvs, t, len, cur, mks, kd, sz, st, cnt, now, par, rd, nt, nl, nc, nm, reg, k1, op, k2, wt, ss, cp, rr, cr, cc, fr, kl, tk)) (hp : me_pop fr = f :: r) (ih : ∀ c3 : me_CC, me_Inv c3 → me_tk c3 = tk + 1 → me_FLI c3 → me_End c3 d) : me_End (tcap, ncap, lvs, t, len, cur, mks, kd, sz, st, cnt, now, par, rd, nt, nl, nc, nm, reg, k1, op, k2, wt, ss, cp, rr, cr, cc, fr, kl, tk) (d + 1) := by
  have hlen : fr.length ≤ 5 := me_FLI_len hL
  have hb := I.2.2.2.2.2.2 f (me_pop_mem (by rw [hp]; exact List.mem_cons_self ..))
  have h0 := me_pop_hd hp
  have hl40 : ∀ g, g ∈ r → g.1.length ≤ 40 := fun g hg => (I.2.2.2.2.2.2 g (me_pop_mem (by rw [hp]; exact List.mem_cons_of_mem _ hg))).1
  have hP := me_FLI_pop hL hp
  have hI2 := me_inv_take I hp
  have hr4 : r.length ≤ 4 := by
    rcases hP with h | h
    · have := me_FL1_len h.2.2; omega
    · have := me_FL1_len h.2.2.1; omega
  have hkey : me_vk (f.1.getD f.2.1 0) := by
    have hm : f.1.getD f.2.1 0 ∈ f.1 := by
      rw [List.getD_eq_getElem?_getD, List.getElem?_eq_getElem hb.2.1]
      exact List.getElem_mem _
    exact hb.2.2.2.2 _ hm
  obtain ⟨n, en, n1, n2⟩ := hkey
  have hlv : f.2.2.2 ≠ 0 := by
    rcases hP with h | h
    · have := h.1; omega
    · have := h.1; omega
  have hP2 : me_FL1 (f :: r) ∨ (f.2.2.2 = 5 ∧ f.2.2.1 = 1 ∧ me_FL1 r ∧ me_P5 (me_take (tcap, ncap, lvs, t, len, cur, mks, kd, sz, st, cnt, now, par, rd, nt, nl, nc, nm, reg, k1, op, k2, wt, ss, cp, rr, cr, cc, fr, kl, tk) f r) (nI n :: me_p5 (me_nxf f))) := by
    rcases hP with h | ⟨h1, h2, h3, h4⟩
    · exact Or.inl h
    · rw [me_p5_nx hb.2.1 h2, en] at h4
      have h5 : me_P5f ss op k2 wt (nI n :: me_p5 (me_nxf f)) := h4
      exact Or.inr ⟨h1, h2, h3, h5⟩
  have HK : (f.2.2.2 ≤ 4 ∧ (me_nxf f :: r).length = f.2.2.2) ∨ (f.2.2.2 = 5 ∧ ∃ ks, me_P5f ss op k2 wt (nI n :: ks)) := by
    rcases hP2 with h | ⟨h1, h2, h3, h4⟩
    · exact Or.inl ⟨h.2.1, by rw [List.length_cons]; exact h.1.symm⟩
    · exact Or.inr ⟨h1, _, h4⟩
  obtain ⟨r2, c3, hr2, i3, nx, ox, oy, _⟩ := me_carry (rep := 1) (n := n) hI2 n1 n2 (Or.inr ⟨hlv, rfl⟩) hb.2.2.2.1 HK
  have hX : ∀ (post : Int32 → SX → Prop) (u : SX), me_RX (tcap, ncap, lvs, t, len, cur, mks, kd, sz, st, cnt, now, par, rd, nt, nl, nc, nm, reg, k1, op, k2, wt, ss, cp, rr, cr, cc, fr, kl, tk) u → (∀ u', me_RX c3 u' → ((r2 = 1 → post 1 (me_clrX u')) ∧ (¬ r2 = 1 → me_x2 post (d + 1) (nI (tk + 1)) u'))) → me_x2 post (d + 1 + 1) (nI tk) u := by
    intro post u R H
    refine me_elX (P := fun u => me_x2 post (d + 1 + 1) (nI tk) u) R ?_
    intro f_spanFrom f_spanTo f_spanTextEnd f_spanKind a_text a_marks a_regKinds a_regLens a_regCodes a_nodeParent a_nodeRedo a_nodeLen a_nodeCur a_nodeMarks a_nodeText a_recCodes a_chKeys a_chText a_frameCodes a_frameLen a_framePos a_frameTimes a_frameLevel hT hG hN hF
    refine br_f (nI_ge (b := 65) (by omega) (by omega)) ⟨fr.length + 1, xe_runReplays_8 ?_ fr rfl hlen I.2.2.2.2.2.2 hF⟩
    rw [hp, List.length_cons]
    have hF' := me_FX_pop hF
    rw [hp] at hF'
    refine br_t (nI_lt (a := 0) (by omega) (by omega)) (br_f (fun e => ?_) (xe_takeKey (by omega) ⟨hb.1, hb.2.1, hb.2.2.1⟩ h0 hl40 hF' (fun ap am hF2 => ?_)))
    · have := (nI_eq (b := 64) (by omega) (by omega)).mp e; omega
    · rw [en]
      exact ox _ _ (me_inX hT hG hN hF2) (me_allX fun _ _ _ _ _ _ _ _ _ _ _ _ _ _ _ _ _ _ _ _ _ _ _ _ _ _ _ _ _ _ _ _ _ _ _ _ _ _ _ _ _ _ _ _ _ R' => br_c (fun w => (H _ R').1 w) (fun w => nm_r (nI_1 tk) ((H _ R').2 w)))
  have hY : ∀ (post : Int32 → SY → Prop) (x1 z : Int32) (v : SY), me_RY (tcap, ncap, lvs, t, len, cur, mks, kd, sz, st, cnt, now, par, rd, nt, nl, nc, nm, reg, k1, op, k2, wt, ss, cp, rr, cr, cc, fr, kl, tk) v → (∀ f_cap f_nodeCap f_levels f_len f_cur f_now f_nodeCount f_queued f_c1 f_op f_c2 f_waits f_copies f_recCount f_reg f_begin f_recording f_recReg a_text a_marks a_info a_held a_strips a_size a_kind a_dueKey a_dueLevel, me_RY c3 (f_cap, f_nodeCap, f_levels, f_len, f_cur, f_now, f_nodeCount, f_queued, f_c1, f_op, f_c2, f_waits, f_copies, f_recCount, f_reg, f_begin, f_recording, f_recReg, a_text, a_marks, a_info, a_held, a_strips, a_size, a_kind, a_dueKey, a_dueLevel) → wY_press_56 post x1 z (d + 2) r2 (nI (tk + 1)) f_cap f_nodeCap f_levels f_len f_cur f_now f_nodeCount f_queued f_c1 f_op f_c2 f_waits f_copies f_recCount f_reg f_begin f_recording f_recReg a_text a_marks a_info a_held a_strips a_size a_kind a_dueKey a_dueLevel) → me_y56 post x1 z (d + 1 + 2) 0 (nI tk) v := by
    intro post x1 z v R H
    refine me_elY (P := fun v => me_y56 post x1 z (d + 1 + 2) 0 (nI tk) v) R ?_
    intro q a_text a_marks a_info a_held a_strips a_size a_kind a_dueKey a_dueLevel hT hG hN hQ
    refine ye_pop (by omega) hp hb.2.1 hQ (fun q' DK' DL' hq hQ' => ?_)
    rw [en]
    refine br_t (nI_le (by omega) (by omega)) (br_f (nI_ge (b := 64) (by omega) (by omega)) ?_)
    exact oy _ _ (me_inY hT hG hN hQ') (me_allY fun f_cap f_nodeCap f_levels f_len f_cur f_now f_nodeCount f_queued f_c1 f_op f_c2 f_waits f_copies f_recCount f_reg f_begin f_recording f_recReg a_text a_marks a_info a_held a_strips a_size a_kind a_dueKey a_dueLevel R' => nm_r (nI_1 tk) (H f_cap f_nodeCap f_levels f_len f_cur f_now f_nodeCount f_queued f_c1 f_op f_c2 f_waits f_copies f_recCount f_reg f_begin f_recording f_recReg a_text a_marks a_info a_held a_strips a_size a_kind a_dueKey a_dueLevel R'))
  by_cases e2 : r2 = 1
  · subst e2
    refine ⟨1, c3, Or.inr rfl, i3, fun post u R H => hX post u R (fun u' R' => ⟨fun _ => H _ (xe_clrR R'), fun w => absurd rfl w⟩), fun post x1 z v R K => hY post x1 z v R (fun f_cap f_nodeCap f_levels f_len f_cur f_now f_nodeCount f_queued f_c1 f_op f_c2 f_waits f_copies f_recCount f_reg f_begin f_recording f_recReg a_text a_marks a_info a_held a_strips a_size a_kind a_dueKey a_dueLevel R' => ?_)⟩
    exact br_f (nI_nlt (a := 64) (by omega) (by omega)) (br_f (by decide) (K f_cap f_nodeCap f_levels f_len f_cur f_now f_nodeCount f_queued f_c1 f_op f_c2 f_waits f_copies f_recCount f_reg f_begin f_recording f_recReg a_text a_marks a_info a_held a_strips a_size a_kind a_dueKey a_dueLevel R'))
  · have e0 : r2 = 0 := hr2.resolve_right e2
    subst e0
    have hn := nx rfl
    have htk3 : me_tk c3 = tk + 1 := hn.1
    obtain ⟨r4, c4, hr4', i4, x4, y4⟩ := ih c3 i3 htk3 (me_FLI_nx rfl rfl hP2 hn)
    rw [htk3] at x4 y4
    refine ⟨r4, c4, hr4', i4, fun post u R H => hX post u R (fun u' R' => ⟨fun w => absurd w (by decide), fun _ => x4 post u' R' H⟩), fun post x1 z v R K => hY post x1 z v R (fun f_cap f_nodeCap f_levels f_len f_cur f_now f_nodeCount f_queued f_c1 f_op f_c2 f_waits f_copies f_recCount f_reg f_begin f_recording f_recReg a_text a_marks a_info a_held a_strips a_size a_kind a_dueKey a_dueLevel R' => ?_)⟩
    exact y4 post x1 z _ R' K
end
theorem me_loop : ∀ (d : Nat) (c : me_CC), me_Inv c → me_tk c + d = 64 → me_FLI c → me_End c d
  | 0, c => by
    refine me_tupC (P := fun c => me_Inv c → me_tk c + 0 = 64 → me_FLI c → me_End c 0) ?_ c
    intro tcap ncap lvs t len cur mks kd sz st cnt now par rd nt nl nc nm reg k1 op k2 wt ss cp rr cr cc fr kl tk I htk hL
    have htk' : tk = 64 := htk
    have hlen : fr.length ≤ 5 := me_FLI_len hL
    cases hp : me_pop fr with
    | nil => exact me_end_0 I (by omega) hlen hp
    | cons f r =>
      have hP := me_FLI_pop hL hp
      have hr4 : r.length ≤ 4 := by
        rcases hP with h | h
        · have := me_FL1_len h.2.2; omega
        · have := me_FL1_len h.2.2.1; omega
      exact me_end_64 I htk' hlen hp hr4
  | d + 1, c => by
    refine me_tupC (P := fun c => me_Inv c → me_tk c + (d + 1) = 64 → me_FLI c → me_End c (d + 1)) ?_ c
    intro tcap ncap lvs t len cur mks kd sz st cnt now par rd nt nl nc nm reg k1 op k2 wt ss cp rr cr cc fr kl tk I htk hL
    have htk' : tk + (d + 1) = 64 := htk
    have hlen : fr.length ≤ 5 := me_FLI_len hL
    cases hp : me_pop fr with
    | nil => exact me_end_0 I (by omega) hlen hp
    | cons f r => exact me_end_k I (by omega) hL hp (fun c3 i3 h3 l3 => me_loop d c3 i3 (by omega) l3)
/-- the relation -/
def me_Rel (u : SX) (v : SY) : Prop := ∃ c : me_CC, me_Inv c ∧ me_fr c = [] ∧ me_tk c = 0 ∧ me_RX c u ∧ me_RY c v
def me_rec (c : me_CC) (key : Int32) : me_CC := match c with
  | (tcap, ncap, lvs, t, len, cur, mks, kd, sz, st, cnt, now, par, rd, nt, nl, nc, nm, reg, k1, op, k2, wt, ss, cp, rr, cr, cc, fr, kl, tk) => (tcap, ncap, lvs, t, len, cur, mks, kd, me_set sz 4 (sz 4 + 1), me_set st 4 (me_set (st 4) (sz 4) key), cnt, now, par, rd, nt, nl, nc, nm, reg, k1, op, k2, wt, ss, cp, rr, cr, cc, fr, kl, tk)
section
variable {tcap : Nat} {ncap : Nat} {lvs : Nat} {t : Nat → Int32} {len : Nat} {cur : Nat} {mks : Nat → Option Nat} {kd : Nat → Nat} {sz : Nat → Nat} {st : Nat → Nat → Int32} {cnt : Nat} {now : Nat} {par : Nat → Option Nat} {rd : Nat → Option Nat} {nt : Nat → Nat → Int32} {nl : Nat → Nat} {nc : Nat → Nat} {nm : Nat → Nat → Option Nat} {reg : Option Nat} {k1 : Nat} {op : Int32} {k2 : Nat} {wt : Int32} {ss : Option Nat} {cp : Nat} {rr : Option Nat} {cr : Option Nat} {cc : Nat} {fr : List (List Int32 × Nat × Nat × Nat)} {kl : Nat} {tk : Nat}
theorem me_inv_clr (I : me_Inv (tcap, ncap, lvs, t, len, cur, mks, kd, sz, st, cnt, now, par, rd, nt, nl, nc, nm, reg, k1, op, k2, wt, ss, cp, rr, cr, cc, fr, kl, tk)) : me_Inv (me_clr (tcap, ncap, lvs, t, len, cur, mks, kd, sz, st, cnt, now, par, rd, nt, nl, nc, nm, reg, k1, op, k2, wt, ss, cp, rr, cr, cc, fr, kl, tk)) := ⟨I.1, I.2.1, I.2.2.1, I.2.2.2.1, I.2.2.2.2.1, I.2.2.2.2.2.1, fun f h => by cases h⟩
theorem me_inv_rec {key : Int32} (I : me_Inv (tcap, ncap, lvs, t, len, cur, mks, kd, sz, st, cnt, now, par, rd, nt, nl, nc, nm, reg, k1, op, k2, wt, ss, cp, rr, cr, cc, fr, kl, tk)) (hv : me_vk key) (h : sz 4 < 32) : me_Inv (me_rec (tcap, ncap, lvs, t, len, cur, mks, kd, sz, st, cnt, now, par, rd, nt, nl, nc, nm, reg, k1, op, k2, wt, ss, cp, rr, cr, cc, fr, kl, tk) key) := by
  obtain ⟨hA, hT, ⟨g1, g2, g3, g4⟩, hN, hK, hS, hF⟩ := I
  refine ⟨hA, hT, ⟨fun q hq => ?_, fun q hq => ?_, ?_, ?_⟩, hN, hK, hS, hF⟩
  · rw [me_set_n (by omega)]; exact g1 q hq
  · by_cases e : q = 4
    · subst e
      rw [me_set_s, me_set_s]
      refine ⟨by omega, fun i hi => ?_⟩
      by_cases e2 : i = sz 4
      · rw [e2, me_set_s]; exact hv
      · rw [me_set_n e2]; exact (g2 4 (by omega)).2 i (by omega)
    · rw [me_set_n e, me_set_n e]; exact g2 q hq
  · rw [me_set_n (by omega), me_set_n (by omega)]; exact g3
  · rw [me_set_n (by omega), me_set_n (by omega)]; exact g4
/-- behind the replays: the key is recorded, if a recording runs -/
theorem me_fin_press {key z res : Int32} (I : me_Inv (tcap, ncap, lvs, t, len, cur, mks, kd, sz, st, cnt, now, par, rd, nt, nl, nc, nm, reg, k1, op, k2, wt, ss, cp, rr, cr, cc, fr, kl, tk)) (hv : me_vk key) (hz : z = 0 ∨ z = 1) :
    ∃ c' : me_CC, me_Inv c' ∧ me_fr c' = [] ∧ me_tk c' = 0 ∧ (∀ (post : Int32 → SX → Prop) f_textCap f_nodeCap f_levels f_len f_cur f_nodeCount f_node f_reg f_c1 f_op f_c2 f_waiting f_sessionStart f_copies f_recReg f_recLen f_chKeyLen f_chTextLen f_chReg f_chCount f_depth f_keyLevel f_spanFrom f_spanTo f_spanTextEnd f_spanKind a_text a_marks a_regKinds a_regLens a_regCodes a_nodeParent a_nodeRedo a_nodeLen a_nodeCur a_nodeMarks a_nodeText a_recCodes a_chKeys a_chText a_frameCodes a_frameLen a_framePos a_frameTimes a_frameLevel, me_RX (me_clr (tcap, ncap, lvs, t, len, cur, mks, kd, sz, st, cnt, now, par, rd, nt, nl, nc, nm, reg, k1, op, k2, wt, ss, cp, rr, cr, cc, fr, kl, tk)) (f_textCap, f_nodeCap, f_levels, f_len, f_cur, f_nodeCount, f_node, f_reg, f_c1, f_op, f_c2, f_waiting, f_sessionStart, f_copies, f_recReg, f_recLen, f_chKeyLen, f_chTextLen, f_chReg, f_chCount, f_depth, f_keyLevel, f_spanFrom, f_spanTo, f_spanTextEnd, f_spanKind, a_text, a_marks, a_regKinds, a_regLens, a_regCodes, a_nodeParent, a_nodeRedo, a_nodeLen, a_nodeCur, a_nodeMarks, a_nodeText, a_recCodes, a_chKeys, a_chText, a_frameCodes, a_frameLen, a_framePos, a_frameTimes, a_frameLevel) → (∀ u', me_RX c' u' → post res u') → wX_press_70 post key z res f_textCap f_nodeCap f_levels f_len f_cur f_nodeCount f_node f_reg f_c1 f_op f_c2 f_waiting f_sessionStart f_copies f_recReg f_recLen f_chKeyLen f_chTextLen f_chReg f_chCount f_depth f_keyLevel f_spanFrom f_spanTo f_spanTextEnd f_spanKind a_text a_marks a_regKinds a_regLens a_regCodes a_nodeParent a_nodeRedo a_nodeLen a_nodeCur a_nodeMarks a_nodeText a_recCodes a_chKeys a_chText a_frameCodes a_frameLen a_framePos a_frameTimes a_frameLevel) ∧ (∀ (post : Int32 → SY → Prop) f_cap f_nodeCap f_levels f_len f_cur f_now f_nodeCount f_queued f_c1 f_op f_c2 f_waits f_copies f_recCount f_reg f_begin f_recording f_recReg a_text a_marks a_info a_held a_strips a_size a_kind a_dueKey a_dueLevel, me_RY (tcap, ncap, lvs, t, len, cur, mks, kd, sz, st, cnt, now, par, rd, nt, nl, nc, nm, reg, k1, op, k2, wt, ss, cp, rr, cr, cc, fr, kl, tk) (f_cap, f_nodeCap, f_levels, f_len, f_cur, f_now, f_nodeCount, f_queued, f_c1, f_op, f_c2, f_waits, f_copies, f_recCount, f_reg, f_begin, f_recording, f_recReg, a_text, a_marks, a_info, a_held, a_strips, a_size, a_kind, a_dueKey, a_dueLevel) → (∀ v', me_RY c' v' → post res v') → wY_press_182 post key z res f_cap f_nodeCap f_levels f_len f_cur f_now f_nodeCount f_queued f_c1 f_op f_c2 f_waits f_copies f_recCount f_reg f_begin f_recording f_recReg a_text a_marks a_info a_held a_strips a_size a_kind a_dueKey a_dueLevel) := by
  have hq0 : ∀ DK DL : Nat → Int32, me_QY (me_pend []) 0 0 DK DL := fun DK DL => ⟨by omega, Nat.zero_le _, Or.inl rfl, fun i hi => by omega⟩
  have h4 := (I.2.2.1.2.1 4 (by omega)).1
  have s3 := I.2.2.2.2.2.1.2.2.1
  by_cases hk : z = 0 ∨ rr = none ∨ 32 ≤ sz 4
  · refine ⟨me_clr (tcap, ncap, lvs, t, len, cur, mks, kd, sz, st, cnt, now, par, rd, nt, nl, nc, nm, reg, k1, op, k2, wt, ss, cp, rr, cr, cc, fr, kl, tk), me_inv_clr I, rfl, rfl, fun post f_textCap f_nodeCap f_levels f_len f_cur f_nodeCount f_node f_reg f_c1 f_op f_c2 f_waiting f_sessionStart f_copies f_recReg f_recLen f_chKeyLen f_chTextLen f_chReg f_chCount f_depth f_keyLevel f_spanFrom f_spanTo f_spanTextEnd f_spanKind a_text a_marks a_regKinds a_regLens a_regCodes a_nodeParent a_nodeRedo a_nodeLen a_nodeCur a_nodeMarks a_nodeText a_recCodes a_chKeys a_chText a_frameCodes a_frameLen a_framePos a_frameTimes a_frameLevel R H => ?_, fun post f_cap f_nodeCap f_levels f_len f_cur f_now f_nodeCount f_queued f_c1 f_op f_c2 f_waits f_copies f_recCount f_reg f_begin f_recording f_recReg a_text a_marks a_info a_held a_strips a_size a_kind a_dueKey a_dueLevel R H => ?_⟩
    · refine me_elX (P := fun u => match u with | (f_textCap, f_nodeCap, f_levels, f_len, f_cur, f_nodeCount, f_node, f_reg, f_c1, f_op, f_c2, f_waiting, f_sessionStart, f_copies, f_recReg, f_recLen, f_chKeyLen, f_chTextLen, f_chReg, f_chCount, f_depth, f_keyLevel, f_spanFrom, f_spanTo, f_spanTextEnd, f_spanKind, a_text, a_marks, a_regKinds, a_regLens, a_regCodes, a_nodeParent, a_nodeRedo, a_nodeLen, a_nodeCur, a_nodeMarks, a_nodeText, a_recCodes, a_chKeys, a_chText, a_frameCodes, a_frameLen, a_framePos, a_frameTimes, a_frameLevel) => wX_press_70 post key z res f_textCap f_nodeCap f_levels f_len f_cur f_nodeCount f_node f_reg f_c1 f_op f_c2 f_waiting f_sessionStart f_copies f_recReg f_recLen f_chKeyLen f_chTextLen f_chReg f_chCount f_depth f_keyLevel f_spanFrom f_spanTo f_spanTextEnd f_spanKind a_text a_marks a_regKinds a_regLens a_regCodes a_nodeParent a_nodeRedo a_nodeLen a_nodeCur a_nodeMarks a_nodeText a_recCodes a_chKeys a_chText a_frameCodes a_frameLen a_framePos a_frameTimes a_frameLevel) R ?_
      intro f_spanFrom f_spanTo f_spanTextEnd f_spanKind a_text a_marks a_regKinds a_regLens a_regCodes a_nodeParent a_nodeRedo a_nodeLen a_nodeCur a_nodeMarks a_nodeText a_recCodes a_chKeys a_chText a_frameCodes a_frameLen a_framePos a_frameTimes a_frameLevel hT hG hN hF
      have R' := H _ (me_inX (f_spanFrom := f_spanFrom) (f_spanTo := f_spanTo) (f_spanTextEnd := f_spanTextEnd) (f_spanKind := f_spanKind) hT hG hN hF)
      refine br_c (fun _ => R') (fun w => me_olt rr (fun r h => by have := s3 r h; omega) (fun _ => R') (fun r er => pk_le 32 (sz 4) (fun _ => R') (fun w2 => ?_)))
      rcases hk with q | q | q
      · exact absurd q w
      · rw [q] at er; cases er
      · omega
    · refine me_elY (P := fun v => match v with | (f_cap, f_nodeCap, f_levels, f_len, f_cur, f_now, f_nodeCount, f_queued, f_c1, f_op, f_c2, f_waits, f_copies, f_recCount, f_reg, f_begin, f_recording, f_recReg, a_text, a_marks, a_info, a_held, a_strips, a_size, a_kind, a_dueKey, a_dueLevel) => wY_press_182 post key z res f_cap f_nodeCap f_levels f_len f_cur f_now f_nodeCount f_queued f_c1 f_op f_c2 f_waits f_copies f_recCount f_reg f_begin f_recording f_recReg a_text a_marks a_info a_held a_strips a_size a_kind a_dueKey a_dueLevel) R ?_
      intro q a_text a_marks a_info a_held a_strips a_size a_kind a_dueKey a_dueLevel hT hG hN hQ
      have R' := H _ (me_inY hT hG hN (hq0 a_dueKey a_dueLevel))
      refine br_c (fun _ => R') (fun w => me_olt rr (fun r h => by have := s3 r h; omega) (fun _ => R') (fun r er => ?_))
      rcases hk with q | q | q
      · exact absurd q w
      · rw [q] at er; cases er
      · refine ye_append_full (r := 4) (by omega) ?_ R'
        rw [(hG.1 4 (by omega)).1, show sz 4 = 32 by omega]
  · have w1 : ¬ z = 0 := fun q => hk (Or.inl q)
    have w3 : sz 4 < 32 := by
      by_cases q : 32 ≤ sz 4
      · exact absurd (Or.inr (Or.inr q)) hk
      · omega
    obtain ⟨r, er⟩ : ∃ r, rr = some r := by
      cases h : rr with
      | none => exact absurd (Or.inr (Or.inl h)) hk
      | some r => exact ⟨r, rfl⟩
    have hr4 := s3 r er
    subst er
    refine ⟨me_rec (me_clr (tcap, ncap, lvs, t, len, cur, mks, kd, sz, st, cnt, now, par, rd, nt, nl, nc, nm, reg, k1, op, k2, wt, ss, cp, some r, cr, cc, fr, kl, tk)) key, me_inv_rec (me_inv_clr I) hv w3, rfl, rfl, fun post f_textCap f_nodeCap f_levels f_len f_cur f_nodeCount f_node f_reg f_c1 f_op f_c2 f_waiting f_sessionStart f_copies f_recReg f_recLen f_chKeyLen f_chTextLen f_chReg f_chCount f_depth f_keyLevel f_spanFrom f_spanTo f_spanTextEnd f_spanKind a_text a_marks a_regKinds a_regLens a_regCodes a_nodeParent a_nodeRedo a_nodeLen a_nodeCur a_nodeMarks a_nodeText a_recCodes a_chKeys a_chText a_frameCodes a_frameLen a_framePos a_frameTimes a_frameLevel R H => ?_, fun post f_cap f_nodeCap f_levels f_len f_cur f_now f_nodeCount f_queued f_c1 f_op f_c2 f_waits f_copies f_recCount f_reg f_begin f_recording f_recReg a_text a_marks a_info a_held a_strips a_size a_kind a_dueKey a_dueLevel R H => ?_⟩
    · refine me_elX (P := fun u => match u with | (f_textCap, f_nodeCap, f_levels, f_len, f_cur, f_nodeCount, f_node, f_reg, f_c1, f_op, f_c2, f_waiting, f_sessionStart, f_copies, f_recReg, f_recLen, f_chKeyLen, f_chTextLen, f_chReg, f_chCount, f_depth, f_keyLevel, f_spanFrom, f_spanTo, f_spanTextEnd, f_spanKind, a_text, a_marks, a_regKinds, a_regLens, a_regCodes, a_nodeParent, a_nodeRedo, a_nodeLen, a_nodeCur, a_nodeMarks, a_nodeText, a_recCodes, a_chKeys, a_chText, a_frameCodes, a_frameLen, a_framePos, a_frameTimes, a_frameLevel) => wX_press_70 post key z res f_textCap f_nodeCap f_levels f_len f_cur f_nodeCount f_node f_reg f_c1 f_op f_c2 f_waiting f_sessionStart f_copies f_recReg f_recLen f_chKeyLen f_chTextLen f_chReg f_chCount f_depth f_keyLevel f_spanFrom f_spanTo f_spanTextEnd f_spanKind a_text a_marks a_regKinds a_regLens a_regCodes a_nodeParent a_nodeRedo a_nodeLen a_nodeCur a_nodeMarks a_nodeText a_recCodes a_chKeys a_chText a_frameCodes a_frameLen a_framePos a_frameTimes a_frameLevel) R ?_
      intro f_spanFrom f_spanTo f_spanTextEnd f_spanKind a_text a_marks a_regKinds a_regLens a_regCodes a_nodeParent a_nodeRedo a_nodeLen a_nodeCur a_nodeMarks a_nodeText a_recCodes a_chKeys a_chText a_frameCodes a_frameLen a_framePos a_frameTimes a_frameLevel hT hG hN hF
      refine br_f w1 (br_f (nI_pos (by omega)) (br_f (nI_ge (b := 32) w3 (by omega)) ⟨vp_in_nI w3 (by omega), nm_e (nm_r (nI_1 _) (H _ (me_inX' ?_ ?_ ?_ hT ⟨fun q hq => ?_, ?_, ?_, ?_⟩ hN hF)))⟩))
      · rw [me_set_s]
      · rw [me_set_n (by omega)]
      · rw [me_set_n (by omega)]
      · rw [me_set_n (by omega), me_set_n (by omega)]; exact hG.1 q hq
      · rw [me_set_s, me_set_s, nI_clamp (by omega)]
        intro i hi
        by_cases e : i = sz 4
        · rw [e, pk_us, me_set_s]
        · rw [pk_un e, me_set_n e]; exact hG.2.1 i (by omega)
      · rw [me_set_n (by omega), me_set_n (by omega)]; exact hG.2.2.1
      · rw [me_set_n (by omega), me_set_n (by omega)]; exact hG.2.2.2
    · refine me_elY (P := fun v => match v with | (f_cap, f_nodeCap, f_levels, f_len, f_cur, f_now, f_nodeCount, f_queued, f_c1, f_op, f_c2, f_waits, f_copies, f_recCount, f_reg, f_begin, f_recording, f_recReg, a_text, a_marks, a_info, a_held, a_strips, a_size, a_kind, a_dueKey, a_dueLevel) => wY_press_182 post key z res f_cap f_nodeCap f_levels f_len f_cur f_now f_nodeCount f_queued f_c1 f_op f_c2 f_waits f_copies f_recCount f_reg f_begin f_recording f_recReg a_text a_marks a_info a_held a_strips a_size a_kind a_dueKey a_dueLevel) R ?_
      intro q a_text a_marks a_info a_held a_strips a_size a_kind a_dueKey a_dueLevel hT hG hN hQ
      refine br_f w1 (br_f (nI_pos (by omega)) (ye_append (r := 4) (n := sz 4) (by omega) (hG.1 4 (by omega)).1 w3 (H _ (me_inY hT ⟨fun q hq => ?_, hG.2⟩ hN (hq0 a_dueKey a_dueLevel)))))
      have hz7 := (I.2.2.1.2.1 q hq).1
      by_cases e : q = 4
      · subst e
        rw [me_set_s, me_set_s, pk_us]
        refine ⟨rfl, fun i hi => ?_⟩
        by_cases e2 : i = sz 4
        · rw [e2, pk_us, me_set_s]
        · rw [pk_un (by omega), me_set_n e2]; exact (hG.1 4 hq).2 i (by omega)
      · rw [me_set_n e, me_set_n e, pk_un e]
        refine ⟨(hG.1 q hq).1, fun i hi => ?_⟩
        rw [pk_un (by omega)]
        exact (hG.1 q hq).2 i hi
end
end
section
/-! pressing a key, both sides -/
theorem me_fin_press' {c : me_CC} {key z res : Int32} (I : me_Inv c) (hv : me_vk key) (hz : z = 0 ∨ z = 1) :
    ∃ c' : me_CC, me_Inv c' ∧ me_fr c' = [] ∧ me_tk c' = 0 ∧ (∀ (post : Int32 → SX → Prop) f_textCap f_nodeCap f_levels f_len f_cur f_nodeCount f_node f_reg f_c1 f_op f_c2 f_waiting f_sessionStart f_copies f_recReg f_recLen f_chKeyLen f_chTextLen f_chReg f_chCount f_depth f_keyLevel f_spanFrom f_spanTo f_spanTextEnd f_spanKind a_text a_marks a_regKinds a_regLens a_regCodes a_nodeParent a_nodeRedo a_nodeLen a_nodeCur a_nodeMarks a_nodeText a_recCodes a_chKeys a_chText a_frameCodes a_frameLen a_framePos a_frameTimes a_frameLevel, me_RX (me_clr c) (f_textCap, f_nodeCap, f_levels, f_len, f_cur, f_nodeCount, f_node, f_reg, f_c1, f_op, f_c2, f_waiting, f_sessionStart, f_copies, f_recReg, f_recLen, f_chKeyLen, f_chTextLen, f_chReg, f_chCount, f_depth, f_keyLevel, f_spanFrom, f_spanTo, f_spanTextEnd, f_spanKind, a_text, a_marks, a_regKinds, a_regLens, a_regCodes, a_nodeParent, a_nodeRedo, a_nodeLen, a_nodeCur, a_nodeMarks, a_nodeText, a_recCodes, a_chKeys, a_chText, a_frameCodes, a_frameLen, a_framePos, a_frameTimes, a_frameLevel) → (∀ u', me_RX c' u' → post res u') → wX_press_70 post key z res f_textCap f_nodeCap f_levels f_len f_cur f_nodeCount f_node f_reg f_c1 f_op f_c2 f_waiting f_sessionStart f_copies f_recReg f_recLen f_chKeyLen f_chTextLen f_chReg f_chCount f_depth f_keyLevel f_spanFrom f_spanTo f_spanTextEnd f_spanKind a_text a_marks a_regKinds a_regLens a_regCodes a_nodeParent a_nodeRedo a_nodeLen a_nodeCur a_nodeMarks a_nodeText a_recCodes a_chKeys a_chText a_frameCodes a_frameLen a_framePos a_frameTimes a_frameLevel) ∧ (∀ (post : Int32 → SY → Prop) f_cap f_nodeCap f_levels f_len f_cur f_now f_nodeCount f_queued f_c1 f_op f_c2 f_waits f_copies f_recCount f_reg f_begin f_recording f_recReg a_text a_marks a_info a_held a_strips a_size a_kind a_dueKey a_dueLevel, me_RY c (f_cap, f_nodeCap, f_levels, f_len, f_cur, f_now, f_nodeCount, f_queued, f_c1, f_op, f_c2, f_waits, f_copies, f_recCount, f_reg, f_begin, f_recording, f_recReg, a_text, a_marks, a_info, a_held, a_strips, a_size, a_kind, a_dueKey, a_dueLevel) → (∀ v', me_RY c' v' → post res v') → wY_press_182 post key z res f_cap f_nodeCap f_levels f_len f_cur f_now f_nodeCount f_queued f_c1 f_op f_c2 f_waits f_copies f_recCount f_reg f_begin f_recording f_recReg a_text a_marks a_info a_held a_strips a_size a_kind a_dueKey a_dueLevel) := by
  revert I
  refine me_tupC (P := fun c => me_Inv c → ∃ c' : me_CC, me_Inv c' ∧ me_fr c' = [] ∧ me_tk c' = 0 ∧ (∀ (post : Int32 → SX → Prop) f_textCap f_nodeCap f_levels f_len f_cur f_nodeCount f_node f_reg f_c1 f_op f_c2 f_waiting f_sessionStart f_copies f_recReg f_recLen f_chKeyLen f_chTextLen f_chReg f_chCount f_depth f_keyLevel f_spanFrom f_spanTo f_spanTextEnd f_spanKind a_text a_marks a_regKinds a_regLens a_regCodes a_nodeParent a_nodeRedo a_nodeLen a_nodeCur a_nodeMarks a_nodeText a_recCodes a_chKeys a_chText a_frameCodes a_frameLen a_framePos a_frameTimes a_frameLevel, me_RX (me_clr c) (f_textCap, f_nodeCap, f_levels, f_len, f_cur, f_nodeCount, f_node, f_reg, f_c1, f_op, f_c2, f_waiting, f_sessionStart, f_copies, f_recReg, f_recLen, f_chKeyLen, f_chTextLen, f_chReg, f_chCount, f_depth, f_keyLevel, f_spanFrom, f_spanTo, f_spanTextEnd, f_spanKind, a_text, a_marks, a_regKinds, a_regLens, a_regCodes, a_nodeParent, a_nodeRedo, a_nodeLen, a_nodeCur, a_nodeMarks, a_nodeText, a_recCodes, a_chKeys, a_chText, a_frameCodes, a_frameLen, a_framePos, a_frameTimes, a_frameLevel) → (∀ u', me_RX c' u' → post res u') → wX_press_70 post key z res f_textCap f_nodeCap f_levels f_len f_cur f_nodeCount f_node f_reg f_c1 f_op f_c2 f_waiting f_sessionStart f_copies f_recReg f_recLen f_chKeyLen f_chTextLen f_chReg f_chCount f_depth f_keyLevel f_spanFrom f_spanTo f_spanTextEnd f_spanKind a_text a_marks a_regKinds a_regLens a_regCodes a_nodeParent a_nodeRedo a_nodeLen a_nodeCur a_nodeMarks a_nodeText a_recCodes a_chKeys a_chText a_frameCodes a_frameLen a_framePos a_frameTimes a_frameLevel) ∧ (∀ (post : Int32 → SY → Prop) f_cap f_nodeCap f_levels f_len f_cur f_now f_nodeCount f_queued f_c1 f_op f_c2 f_waits f_copies f_recCount f_reg f_begin f_recording f_recReg a_text a_marks a_info a_held a_strips a_size a_kind a_dueKey a_dueLevel, me_RY c (f_cap, f_nodeCap, f_levels, f_len, f_cur, f_now, f_nodeCount, f_queued, f_c1, f_op, f_c2, f_waits, f_copies, f_recCount, f_reg, f_begin, f_recording, f_recReg, a_text, a_marks, a_info, a_held, a_strips, a_size, a_kind, a_dueKey, a_dueLevel) → (∀ v', me_RY c' v' → post res v') → wY_press_182 post key z res f_cap f_nodeCap f_levels f_len f_cur f_now f_nodeCount f_queued f_c1 f_op f_c2 f_waits f_copies f_recCount f_reg f_begin f_recording f_recReg a_text a_marks a_info a_held a_strips a_size a_kind a_dueKey a_dueLevel)) ?_ c
  intro tcap ncap lvs t len cur mks kd sz st cnt now par rd nt nl nc nm reg k1 op k2 wt ss cp rr cr cc fr kl tk I
  exact me_fin_press I hv hz
theorem xe_clr0 {c : me_CC} {u : SX} (h : me_fr c = []) (R : me_RX c u) : me_RX (me_clr c) u := by
  revert h R
  refine me_tupC (P := fun c => me_fr c = [] → me_RX c u → me_RX (me_clr c) u) ?_ c
  intro tcap ncap lvs t len cur mks kd sz st cnt now par rd nt nl nc nm reg k1 op k2 wt ss cp rr cr cc fr kl tk h R
  have h' : fr = [] := h
  subst h'
  refine me_elX (P := fun u => me_RX (me_clr (tcap, ncap, lvs, t, len, cur, mks, kd, sz, st, cnt, now, par, rd, nt, nl, nc, nm, reg, k1, op, k2, wt, ss, cp, rr, cr, cc, [], kl, tk)) u) R ?_
  intro f_spanFrom f_spanTo f_spanTextEnd f_spanKind a_text a_marks a_regKinds a_regLens a_regCodes a_nodeParent a_nodeRedo a_nodeLen a_nodeCur a_nodeMarks a_nodeText a_recCodes a_chKeys a_chText a_frameCodes a_frameLen a_framePos a_frameTimes a_frameLevel hT hG hN hF
  exact me_inX hT hG hN trivial
/-- a valid key, pressed: one answer, one state behind it -/
theorem me_pressed {tcap : Nat} {ncap : Nat} {lvs : Nat} {t : Nat → Int32} {len : Nat} {cur : Nat} {mks : Nat → Option Nat} {kd : Nat → Nat} {sz : Nat → Nat} {st : Nat → Nat → Int32} {cnt : Nat} {now : Nat} {par : Nat → Option Nat} {rd : Nat → Option Nat} {nt : Nat → Nat → Int32} {nl : Nat → Nat} {nc : Nat → Nat} {nm : Nat → Nat → Option Nat} {reg : Option Nat} {k1 : Nat} {op : Int32} {k2 : Nat} {wt : Int32} {ss : Option Nat} {cp : Nat} {rr : Option Nat} {cr : Option Nat} {cc : Nat} {fr : List (List Int32 × Nat × Nat × Nat)} {kl : Nat} {tk : Nat} {n : Nat} (I : me_Inv (tcap, ncap, lvs, t, len, cur, mks, kd, sz, st, cnt, now, par, rd, nt, nl, nc, nm, reg, k1, op, k2, wt, ss, cp, rr, cr, cc, fr, kl, tk)) (hfr : fr = []) (htk : tk = 0) (h1 : 1 ≤ n) (h2 : n ≤ 126) : ∃ (res : Int32) (c' : me_CC), me_Inv c' ∧ me_fr c' = [] ∧ me_tk c' = 0 ∧
    (∀ (post : Int32 → SX → Prop) (f_spanFrom f_spanTo f_spanTextEnd f_spanKind : Int32) (a_text a_marks a_regKinds a_regLens a_regCodes a_nodeParent a_nodeRedo a_nodeLen a_nodeCur a_nodeMarks a_nodeText a_recCodes a_chKeys a_chText a_frameCodes a_frameLen a_framePos a_frameTimes a_frameLevel : Nat → Int32), me_TX t len mks a_text a_marks → me_GX kd sz st a_regKinds a_regLens a_regCodes a_recCodes a_chKeys a_chText → me_NX cnt par rd nt nl nc nm a_nodeParent a_nodeRedo a_nodeLen a_nodeCur a_nodeMarks a_nodeText → (∀ u', me_RX c' u' → post res u') → wX_press_32 post (nI n) (nI tcap) (nI ncap) (nI lvs) (nI len) (nI cur) (nI cnt) (nI now) (me_o reg) (nI k1) op (nI k2) wt (me_o ss) (nI cp) (me_o rr) (nI (sz 4)) (nI (sz 5)) (nI (sz 6)) (me_o cr) (nI cc) (nI fr.length) (nI kl) f_spanFrom f_spanTo f_spanTextEnd f_spanKind a_text a_marks a_regKinds a_regLens a_regCodes a_nodeParent a_nodeRedo a_nodeLen a_nodeCur a_nodeMarks a_nodeText a_recCodes a_chKeys a_chText a_frameCodes a_frameLen a_framePos a_frameTimes a_frameLevel) ∧
    (∀ (post : Int32 → SY → Prop) (q : Nat) (a_text a_marks a_info a_held a_strips a_size a_kind a_dueKey a_dueLevel : Nat → Int32), me_TX t len mks a_text a_marks → me_GY kd sz st a_strips a_size a_kind → me_NY cnt par rd nt nl nc nm a_info a_held → me_QY (me_pend fr) tk q a_dueKey a_dueLevel → (∀ v', me_RY c' v' → post res v') → wY_press_32 post (nI n) (nI tcap) (nI ncap) (nI lvs) (nI len) (nI cur) (nI now) (nI cnt) (nI q) (nI k1) op (nI k2) wt (nI cp) (nI cc) (me_o reg) (me_o ss) (me_o rr) (me_o cr) a_text a_marks a_info a_held a_strips a_size a_kind a_dueKey a_dueLevel) := by
  subst hfr htk
  have hvk : me_vk (nI n) := ⟨n, rfl, h1, h2⟩
  have s3 := I.2.2.2.2.2.1.2.2.1
  have I0 : me_Inv (tcap, ncap, lvs, t, len, cur, mks, kd, sz, st, cnt, now, par, rd, nt, nl, nc, nm, reg, k1, op, k2, wt, ss, cp, rr, cr, cc, [], 0, 0) := ⟨I.1, I.2.1, I.2.2.1, I.2.2.2.1, I.2.2.2.2.1, I.2.2.2.2.2.1, fun f h => by cases h⟩
  obtain ⟨z, hz, hz0, hz1⟩ : ∃ z : Int32, (z = 0 ∨ z = 1) ∧ (rr = none → z = 0) ∧ (∀ r, rr = some r → z = 1) := by
    cases rr with
    | none => exact ⟨0, Or.inl rfl, fun _ => rfl, fun r h => by cases h⟩
    | some r => exact ⟨1, Or.inr rfl, fun h => (by cases h), fun _ _ => rfl⟩
  obtain ⟨r2, c3, hr2, i3, nx, ox, oy, hkeep⟩ := me_carry (rep := 0) (n := n) I0 h1 h2 (Or.inl ⟨rfl, rfl⟩) (by omega) (Or.inl ⟨by omega, rfl⟩)
  have hX : ∀ (post : Int32 → SX → Prop) (f_spanFrom f_spanTo f_spanTextEnd f_spanKind : Int32) (a_text a_marks a_regKinds a_regLens a_regCodes a_nodeParent a_nodeRedo a_nodeLen a_nodeCur a_nodeMarks a_nodeText a_recCodes a_chKeys a_chText a_frameCodes a_frameLen a_framePos a_frameTimes a_frameLevel : Nat → Int32), me_TX t len mks a_text a_marks → me_GX kd sz st a_regKinds a_regLens a_regCodes a_recCodes a_chKeys a_chText → me_NX cnt par rd nt nl nc nm a_nodeParent a_nodeRedo a_nodeLen a_nodeCur a_nodeMarks a_nodeText → (∀ f_textCap f_nodeCap f_levels f_len f_cur f_nodeCount f_node f_reg f_c1 f_op f_c2 f_waiting f_sessionStart f_copies f_recReg f_recLen f_chKeyLen f_chTextLen f_chReg f_chCount f_depth f_keyLevel f_spanFrom f_spanTo f_spanTextEnd f_spanKind a_text a_marks a_regKinds a_regLens a_regCodes a_nodeParent a_nodeRedo a_nodeLen a_nodeCur a_nodeMarks a_nodeText a_recCodes a_chKeys a_chText a_frameCodes a_frameLen a_framePos a_frameTimes a_frameLevel, me_RX c3 (f_textCap, f_nodeCap, f_levels, f_len, f_cur, f_nodeCount, f_node, f_reg, f_c1, f_op, f_c2, f_waiting, f_sessionStart, f_copies, f_recReg, f_recLen, f_chKeyLen, f_chTextLen, f_chReg, f_chCount, f_depth, f_keyLevel, f_spanFrom, f_spanTo, f_spanTextEnd, f_spanKind, a_text, a_marks, a_regKinds, a_regLens, a_regCodes, a_nodeParent, a_nodeRedo, a_nodeLen, a_nodeCur, a_nodeMarks, a_nodeText, a_recCodes, a_chKeys, a_chText, a_frameCodes, a_frameLen, a_framePos, a_frameTimes, a_frameLevel) → ((r2 = 0 → (∃ n2 : Nat, wX_runReplays_2 (fun r u => match u with | (f_textCap, f_nodeCap, f_levels, f_len, f_cur, f_nodeCount, f_node, f_reg, f_c1, f_op, f_c2, f_waiting, f_sessionStart, f_copies, f_recReg, f_recLen, f_chKeyLen, f_chTextLen, f_chReg, f_chCount, f_depth, f_keyLevel, f_spanFrom, f_spanTo, f_spanTextEnd, f_spanKind, a_text, a_marks, a_regKinds, a_regLens, a_regCodes, a_nodeParent, a_nodeRedo, a_nodeLen, a_nodeCur, a_nodeMarks, a_nodeText, a_recCodes, a_chKeys, a_chText, a_frameCodes, a_frameLen, a_framePos, a_frameTimes, a_frameLevel) => wX_press_70 post (nI n) z r f_textCap f_nodeCap f_levels f_len f_cur f_nodeCount f_node f_reg f_c1 f_op f_c2 f_waiting f_sessionStart f_copies f_recReg f_recLen f_chKeyLen f_chTextLen f_chReg f_chCount f_depth f_keyLevel f_spanFrom f_spanTo f_spanTextEnd f_spanKind a_text a_marks a_regKinds a_regLens a_regCodes a_nodeParent a_nodeRedo a_nodeLen a_nodeCur a_nodeMarks a_nodeText a_recCodes a_chKeys a_chText a_frameCodes a_frameLen a_framePos a_frameTimes a_frameLevel) n2 0 f_textCap f_nodeCap f_levels f_len f_cur f_nodeCount f_node f_reg f_c1 f_op f_c2 f_waiting f_sessionStart f_copies f_recReg f_recLen f_chKeyLen f_chTextLen f_chReg f_chCount f_depth f_keyLevel f_spanFrom f_spanTo f_spanTextEnd f_spanKind a_text a_marks a_regKinds a_regLens a_regCodes a_nodeParent a_nodeRedo a_nodeLen a_nodeCur a_nodeMarks a_nodeText a_recCodes a_chKeys a_chText a_frameCodes a_frameLen a_framePos a_frameTimes a_frameLevel)) ∧ (¬ r2 = 0 → wX_press_70 post (nI n) z r2 f_textCap f_nodeCap f_levels f_len f_cur f_nodeCount f_node f_reg f_c1 f_op f_c2 f_waiting f_sessionStart f_copies f_recReg f_recLen f_chKeyLen f_chTextLen f_chReg f_chCount f_depth f_keyLevel f_spanFrom f_spanTo f_spanTextEnd f_spanKind a_text a_marks a_regKinds a_regLens a_regCodes a_nodeParent a_nodeRedo a_nodeLen a_nodeCur a_nodeMarks a_nodeText a_recCodes a_chKeys a_chText a_frameCodes a_frameLen a_framePos a_frameTimes a_frameLevel))) → wX_press_32 post (nI n) (nI tcap) (nI ncap) (nI lvs) (nI len) (nI cur) (nI cnt) (nI now) (me_o reg) (nI k1) op (nI k2) wt (me_o ss) (nI cp) (me_o rr) (nI (sz 4)) (nI (sz 5)) (nI (sz 6)) (me_o cr) (nI cc) 0 (nI kl) f_spanFrom f_spanTo f_spanTextEnd f_spanKind a_text a_marks a_regKinds a_regLens a_regCodes a_nodeParent a_nodeRedo a_nodeLen a_nodeCur a_nodeMarks a_nodeText a_recCodes a_chKeys a_chText a_frameCodes a_frameLen a_framePos a_frameTimes a_frameLevel := by
    intro post f_spanFrom f_spanTo f_spanTextEnd f_spanKind a_text a_marks a_regKinds a_regLens a_regCodes a_nodeParent a_nodeRedo a_nodeLen a_nodeCur a_nodeMarks a_nodeText a_recCodes a_chKeys a_chText a_frameCodes a_frameLen a_framePos a_frameTimes a_frameLevel hT hG hN H
    have k44 : wX_press_44 post (nI n) z (nI tcap) (nI ncap) (nI lvs) (nI len) (nI cur) (nI cnt) (nI now) (me_o reg) (nI k1) op (nI k2) wt (me_o ss) (nI cp) (me_o rr) (nI (sz 4)) (nI (sz 5)) (nI (sz 6)) (me_o cr) (nI cc) 0 (nI kl) f_spanFrom f_spanTo f_spanTextEnd f_spanKind a_text a_marks a_regKinds a_regLens a_regCodes a_nodeParent a_nodeRedo a_nodeLen a_nodeCur a_nodeMarks a_nodeText a_recCodes a_chKeys a_chText a_frameCodes a_frameLen a_framePos a_frameTimes a_frameLevel := ox _ _ (me_inX hT hG hN trivial) (me_allX fun f_textCap f_nodeCap f_levels f_len f_cur f_nodeCount f_node f_reg f_c1 f_op f_c2 f_waiting f_sessionStart f_copies f_recReg f_recLen f_chKeyLen f_chTextLen f_chReg f_chCount f_depth f_keyLevel f_spanFrom f_spanTo f_spanTextEnd f_spanKind a_text a_marks a_regKinds a_regLens a_regCodes a_nodeParent a_nodeRedo a_nodeLen a_nodeCur a_nodeMarks a_nodeText a_recCodes a_chKeys a_chText a_frameCodes a_frameLen a_framePos a_frameTimes a_frameLevel R' => H f_textCap f_nodeCap f_levels f_len f_cur f_nodeCount f_node f_reg f_c1 f_op f_c2 f_waiting f_sessionStart f_copies f_recReg f_recLen f_chKeyLen f_chTextLen f_chReg f_chCount f_depth f_keyLevel f_spanFrom f_spanTo f_spanTextEnd f_spanKind a_text a_marks a_regKinds a_regLens a_regCodes a_nodeParent a_nodeRedo a_nodeLen a_nodeCur a_nodeMarks a_nodeText a_recCodes a_chKeys a_chText a_frameCodes a_frameLen a_framePos a_frameTimes a_frameLevel R')
    refine me_olt rr (fun r h => by have := s3 r h; omega) (fun w => ?_) (fun r w => ?_)
    · rw [hz0 w] at k44; exact k44
    · rw [hz1 r w] at k44; exact k44
  have hY : ∀ (post : Int32 → SY → Prop) (q : Nat) (a_text a_marks a_info a_held a_strips a_size a_kind a_dueKey a_dueLevel : Nat → Int32), me_TX t len mks a_text a_marks → me_GY kd sz st a_strips a_size a_kind → me_NY cnt par rd nt nl nc nm a_info a_held → me_QY (me_pend []) 0 q a_dueKey a_dueLevel → (∀ f_cap f_nodeCap f_levels f_len f_cur f_now f_nodeCount f_queued f_c1 f_op f_c2 f_waits f_copies f_recCount f_reg f_begin f_recording f_recReg a_text a_marks a_info a_held a_strips a_size a_kind a_dueKey a_dueLevel, me_RY c3 (f_cap, f_nodeCap, f_levels, f_len, f_cur, f_now, f_nodeCount, f_queued, f_c1, f_op, f_c2, f_waits, f_copies, f_recCount, f_reg, f_begin, f_recording, f_recReg, a_text, a_marks, a_info, a_held, a_strips, a_size, a_kind, a_dueKey, a_dueLevel) → ∃ n56 : Nat, wY_press_56 post (nI n) z n56 r2 0 f_cap f_nodeCap f_levels f_len f_cur f_now f_nodeCount f_queued f_c1 f_op f_c2 f_waits f_copies f_recCount f_reg f_begin f_recording f_recReg a_text a_marks a_info a_held a_strips a_size a_kind a_dueKey a_dueLevel) → wY_press_32 post (nI n) (nI tcap) (nI ncap) (nI lvs) (nI len) (nI cur) (nI now) (nI cnt) (nI q) (nI k1) op (nI k2) wt (nI cp) (nI cc) (me_o reg) (me_o ss) (me_o rr) (me_o cr) a_text a_marks a_info a_held a_strips a_size a_kind a_dueKey a_dueLevel := by
    intro post q a_text a_marks a_info a_held a_strips a_size a_kind a_dueKey a_dueLevel hT hG hN hQ H
    have k44 : wY_press_44 post (nI n) z (nI tcap) (nI ncap) (nI lvs) (nI len) (nI cur) (nI now) (nI cnt) (nI q) (nI k1) op (nI k2) wt (nI cp) (nI cc) (me_o reg) (me_o ss) (me_o rr) (me_o cr) a_text a_marks a_info a_held a_strips a_size a_kind a_dueKey a_dueLevel := oy _ _ (me_inY hT hG hN hQ) (me_allY fun f_cap f_nodeCap f_levels f_len f_cur f_now f_nodeCount f_queued f_c1 f_op f_c2 f_waits f_copies f_recCount f_reg f_begin f_recording f_recReg a_text a_marks a_info a_held a_strips a_size a_kind a_dueKey a_dueLevel R' => H f_cap f_nodeCap f_levels f_len f_cur f_now f_nodeCount f_queued f_c1 f_op f_c2 f_waits f_copies f_recCount f_reg f_begin f_recording f_recReg a_text a_marks a_info a_held a_strips a_size a_kind a_dueKey a_dueLevel R')
    refine me_olt rr (fun r h => by have := s3 r h; omega) (fun w => ?_) (fun r w => ?_)
    · rw [hz0 w] at k44; exact k44
    · rw [hz1 r w] at k44; exact k44
  by_cases e2 : r2 = 1
  · subst e2
    have hk := hkeep rfl
    obtain ⟨c', i', f', t', x', y'⟩ := me_fin_press' (res := 1) i3 hvk hz
    refine ⟨1, c', i', f', t', fun post f_spanFrom f_spanTo f_spanTextEnd f_spanKind a_text a_marks a_regKinds a_regLens a_regCodes a_nodeParent a_nodeRedo a_nodeLen a_nodeCur a_nodeMarks a_nodeText a_recCodes a_chKeys a_chText a_frameCodes a_frameLen a_framePos a_frameTimes a_frameLevel hT hG hN H => hX post _ _ _ _ a_text a_marks a_regKinds a_regLens a_regCodes a_nodeParent a_nodeRedo a_nodeLen a_nodeCur a_nodeMarks a_nodeText a_recCodes a_chKeys a_chText a_frameCodes a_frameLen a_framePos a_frameTimes a_frameLevel hT hG hN (fun f_textCap f_nodeCap f_levels f_len f_cur f_nodeCount f_node f_reg f_c1 f_op f_c2 f_waiting f_sessionStart f_copies f_recReg f_recLen f_chKeyLen f_chTextLen f_chReg f_chCount f_depth f_keyLevel f_spanFrom f_spanTo f_spanTextEnd f_spanKind a_text a_marks a_regKinds a_regLens a_regCodes a_nodeParent a_nodeRedo a_nodeLen a_nodeCur a_nodeMarks a_nodeText a_recCodes a_chKeys a_chText a_frameCodes a_frameLen a_framePos a_frameTimes a_frameLevel R' => ⟨fun w => absurd w (by decide), fun _ => x' post f_textCap f_nodeCap f_levels f_len f_cur f_nodeCount f_node f_reg f_c1 f_op f_c2 f_waiting f_sessionStart f_copies f_recReg f_recLen f_chKeyLen f_chTextLen f_chReg f_chCount f_depth f_keyLevel f_spanFrom f_spanTo f_spanTextEnd f_spanKind a_text a_marks a_regKinds a_regLens a_regCodes a_nodeParent a_nodeRedo a_nodeLen a_nodeCur a_nodeMarks a_nodeText a_recCodes a_chKeys a_chText a_frameCodes a_frameLen a_framePos a_frameTimes a_frameLevel (xe_clr0 hk.1 R') H⟩), fun post q a_text a_marks a_info a_held a_strips a_size a_kind a_dueKey a_dueLevel hT hG hN hQ H => hY post q a_text a_marks a_info a_held a_strips a_size a_kind a_dueKey a_dueLevel hT hG hN hQ (fun f_cap f_nodeCap f_levels f_len f_cur f_now f_nodeCount f_queued f_c1 f_op f_c2 f_waits f_copies f_recCount f_reg f_begin f_recording f_recReg a_text a_marks a_info a_held a_strips a_size a_kind a_dueKey a_dueLevel R' => ⟨1, br_f (by decide) (br_f (by decide) (y' post f_cap f_nodeCap f_levels f_len f_cur f_now f_nodeCount f_queued f_c1 f_op f_c2 f_waits f_copies f_recCount f_reg f_begin f_recording f_recReg a_text a_marks a_info a_held a_strips a_size a_kind a_dueKey a_dueLevel R' H))⟩)⟩
  · have e0 : r2 = 0 := hr2.resolve_right e2
    subst e0
    have hn := nx rfl
    have htk3 : me_tk c3 = 0 := hn.1
    have hL : me_FLI c3 := by
      rcases hn.2 with ⟨e, _⟩ | ⟨_, g, e, w⟩
      · left; rw [e]; exact trivial
      · rcases w with ⟨w1, w2⟩ | ⟨w1, w2, w3, w4⟩
        · left; rw [e]; exact ⟨w1, w2, trivial⟩
        · right
          refine ⟨g, [], e, w1, by omega, trivial, ?_⟩
          unfold me_p5
          rw [if_neg (by omega), w2, List.drop_zero]
          exact w4
    obtain ⟨r4, c4, hr4', i4, x4, y4⟩ := me_loop 64 c3 i3 (by omega) hL
    rw [htk3] at x4 y4
    obtain ⟨c', i', f', t', x', y'⟩ := me_fin_press' (res := r4) i4 hvk hz
    refine ⟨r4, c', i', f', t', fun post f_spanFrom f_spanTo f_spanTextEnd f_spanKind a_text a_marks a_regKinds a_regLens a_regCodes a_nodeParent a_nodeRedo a_nodeLen a_nodeCur a_nodeMarks a_nodeText a_recCodes a_chKeys a_chText a_frameCodes a_frameLen a_framePos a_frameTimes a_frameLevel hT hG hN H => hX post _ _ _ _ a_text a_marks a_regKinds a_regLens a_regCodes a_nodeParent a_nodeRedo a_nodeLen a_nodeCur a_nodeMarks a_nodeText a_recCodes a_chKeys a_chText a_frameCodes a_frameLen a_framePos a_frameTimes a_frameLevel hT hG hN (fun f_textCap f_nodeCap f_levels f_len f_cur f_nodeCount f_node f_reg f_c1 f_op f_c2 f_waiting f_sessionStart f_copies f_recReg f_recLen f_chKeyLen f_chTextLen f_chReg f_chCount f_depth f_keyLevel f_spanFrom f_spanTo f_spanTextEnd f_spanKind a_text a_marks a_regKinds a_regLens a_regCodes a_nodeParent a_nodeRedo a_nodeLen a_nodeCur a_nodeMarks a_nodeText a_recCodes a_chKeys a_chText a_frameCodes a_frameLen a_framePos a_frameTimes a_frameLevel R' => ⟨fun _ => ⟨65, ?_⟩, fun w => absurd rfl w⟩), fun post q a_text a_marks a_info a_held a_strips a_size a_kind a_dueKey a_dueLevel hT hG hN hQ H => hY post q a_text a_marks a_info a_held a_strips a_size a_kind a_dueKey a_dueLevel hT hG hN hQ (fun f_cap f_nodeCap f_levels f_len f_cur f_now f_nodeCount f_queued f_c1 f_op f_c2 f_waits f_copies f_recCount f_reg f_begin f_recording f_recReg a_text a_marks a_info a_held a_strips a_size a_kind a_dueKey a_dueLevel R' => ⟨66, ?_⟩)⟩
    · exact x4 (fun r u => match u with | (f_textCap, f_nodeCap, f_levels, f_len, f_cur, f_nodeCount, f_node, f_reg, f_c1, f_op, f_c2, f_waiting, f_sessionStart, f_copies, f_recReg, f_recLen, f_chKeyLen, f_chTextLen, f_chReg, f_chCount, f_depth, f_keyLevel, f_spanFrom, f_spanTo, f_spanTextEnd, f_spanKind, a_text, a_marks, a_regKinds, a_regLens, a_regCodes, a_nodeParent, a_nodeRedo, a_nodeLen, a_nodeCur, a_nodeMarks, a_nodeText, a_recCodes, a_chKeys, a_chText, a_frameCodes, a_frameLen, a_framePos, a_frameTimes, a_frameLevel) => wX_press_70 post (nI n) z r f_textCap f_nodeCap f_levels f_len f_cur f_nodeCount f_node f_reg f_c1 f_op f_c2 f_waiting f_sessionStart f_copies f_recReg f_recLen f_chKeyLen f_chTextLen f_chReg f_chCount f_depth f_keyLevel f_spanFrom f_spanTo f_spanTextEnd f_spanKind a_text a_marks a_regKinds a_regLens a_regCodes a_nodeParent a_nodeRedo a_nodeLen a_nodeCur a_nodeMarks a_nodeText a_recCodes a_chKeys a_chText a_frameCodes a_frameLen a_framePos a_frameTimes a_frameLevel) _ R' (me_allX fun f_textCap f_nodeCap f_levels f_len f_cur f_nodeCount f_node f_reg f_c1 f_op f_c2 f_waiting f_sessionStart f_copies f_recReg f_recLen f_chKeyLen f_chTextLen f_chReg f_chCount f_depth f_keyLevel f_spanFrom f_spanTo f_spanTextEnd f_spanKind a_text a_marks a_regKinds a_regLens a_regCodes a_nodeParent a_nodeRedo a_nodeLen a_nodeCur a_nodeMarks a_nodeText a_recCodes a_chKeys a_chText a_frameCodes a_frameLen a_framePos a_frameTimes a_frameLevel R'' => x' post f_textCap f_nodeCap f_levels f_len f_cur f_nodeCount f_node f_reg f_c1 f_op f_c2 f_waiting f_sessionStart f_copies f_recReg f_recLen f_chKeyLen f_chTextLen f_chReg f_chCount f_depth f_keyLevel f_spanFrom f_spanTo f_spanTextEnd f_spanKind a_text a_marks a_regKinds a_regLens a_regCodes a_nodeParent a_nodeRedo a_nodeLen a_nodeCur a_nodeMarks a_nodeText a_recCodes a_chKeys a_chText a_frameCodes a_frameLen a_framePos a_frameTimes a_frameLevel R'' H)
    · exact y4 post (nI n) z _ R' (fun f_cap f_nodeCap f_levels f_len f_cur f_now f_nodeCount f_queued f_c1 f_op f_c2 f_waits f_copies f_recCount f_reg f_begin f_recording f_recReg a_text a_marks a_info a_held a_strips a_size a_kind a_dueKey a_dueLevel R'' => y' post f_cap f_nodeCap f_levels f_len f_cur f_now f_nodeCount f_queued f_c1 f_op f_c2 f_waits f_copies f_recCount f_reg f_begin f_recording f_recReg a_text a_marks a_info a_held a_strips a_size a_kind a_dueKey a_dueLevel R'' H)
end
section
/-! mode, jump, forget, the constructors -/
/-- the redo links behind a jump, as the reference goes -/
def me_jy (par : Nat → Option Nat) : Nat → Nat → (Nat → Option Nat) → (Nat → Option Nat)
  | 0, _, rd => rd
  | k + 1, on, rd => if k + 1 = on then (match par (k + 1) with
    | none => rd
    | some j => me_jy par k j (me_set rd j (some (k + 1)))) else me_jy par k on rd
theorem me_jy_skip {par : Nat → Option Nat} {on : Nat} {rd : Nat → Option Nat} : ∀ k, on ≤ k → me_jy par k on rd = me_jy par on on rd
  | 0, h => by
    have : on = 0 := by omega
    subst this; rfl
  | k + 1, h => by
    by_cases e : on = k + 1
    · subst e; rfl
    · rw [me_jy, if_neg (by omega)]
      exact me_jy_skip k (by omega)
theorem me_jy_0 {par : Nat → Option Nat} {rd : Nat → Option Nat} (k : Nat) : me_jy par k 0 rd = rd := by
  rw [me_jy_skip k (Nat.zero_le _)]; rfl
theorem me_jy_s {par : Nat → Option Nat} {on j : Nat} {rd : Nat → Option Nat} (h : par (on + 1) = some j) : me_jy par (on + 1) (on + 1) rd = me_jy par on j (me_set rd j (some (on + 1))) := by
  rw [me_jy, if_pos rfl, h]
theorem me_jy_b {par : Nat → Option Nat} {cnt : Nat} : ∀ (k on : Nat) (rd : Nat → Option Nat), k < cnt → (∀ q, q < cnt → ∀ j, rd q = some j → j < cnt) → ∀ q, q < cnt → ∀ j, me_jy par k on rd q = some j → j < cnt
  | 0, _, _, _, h => h
  | k + 1, on, rd, hk, h => by
    rw [me_jy]
    split
    · cases e : par (k + 1) with
      | none => exact h
      | some i =>
        refine me_jy_b k i _ (by omega) (fun q hq j hj => ?_)
        by_cases w : q = i
        · rw [w, me_set_s] at hj; cases hj; exact hk
        · rw [me_set_n w] at hj; exact h q hq j hj
    · exact me_jy_b k on rd (by omega) h
def me_jmp (c : me_CC) (n : Nat) : me_CC := match c with
  | (tcap, ncap, lvs, t, len, cur, mks, kd, sz, st, cnt, now, par, rd, nt, nl, nc, nm, reg, k1, op, k2, wt, ss, cp, rr, cr, cc, fr, kl, tk) => (tcap, ncap, lvs, t, len, cur, mks, kd, sz, st, cnt, now, par, me_jy par n n rd, nt, nl, nc, nm, reg, k1, op, k2, wt, ss, cp, rr, cr, cc, fr, kl, tk)
section
variable {tcap : Nat} {ncap : Nat} {lvs : Nat} {t : Nat → Int32} {len : Nat} {cur : Nat} {mks : Nat → Option Nat} {kd : Nat → Nat} {sz : Nat → Nat} {st : Nat → Nat → Int32} {cnt : Nat} {now : Nat} {par : Nat → Option Nat} {rd : Nat → Option Nat} {nt : Nat → Nat → Int32} {nl : Nat → Nat} {nc : Nat → Nat} {nm : Nat → Nat → Option Nat} {reg : Option Nat} {k1 : Nat} {op : Int32} {k2 : Nat} {wt : Int32} {ss : Option Nat} {cp : Nat} {rr : Option Nat} {cr : Option Nat} {cc : Nat} {fr : List (List Int32 × Nat × Nat × Nat)} {kl : Nat} {tk : Nat}
theorem me_inv_jmp {n : Nat} (I : me_Inv (tcap, ncap, lvs, t, len, cur, mks, kd, sz, st, cnt, now, par, rd, nt, nl, nc, nm, reg, k1, op, k2, wt, ss, cp, rr, cr, cc, fr, kl, tk)) (hn : n < cnt) : me_Inv (me_jmp (tcap, ncap, lvs, t, len, cur, mks, kd, sz, st, cnt, now, par, rd, nt, nl, nc, nm, reg, k1, op, k2, wt, ss, cp, rr, cr, cc, fr, kl, tk) n) := by
  obtain ⟨hA, hT, hG, ⟨n1, n2, n3, n4⟩, hK, hS, hF⟩ := I
  exact ⟨hA, hT, hG, ⟨n1, n2, n3, fun k hk => ⟨(n4 k hk).1, (n4 k hk).2.1, (n4 k hk).2.2.1, fun j hj => me_jy_b n n rd hn (fun q hq j hj => (n4 q hq).2.2.2 j hj) k hk j hj⟩⟩, hK, hS, hF⟩
/-- the mode: one answer -/
theorem me_mode (I : me_Inv (tcap, ncap, lvs, t, len, cur, mks, kd, sz, st, cnt, now, par, rd, nt, nl, nc, nm, reg, k1, op, k2, wt, ss, cp, rr, cr, cc, fr, kl, tk)) : ∃ r : Int32, (r = 0 → ss = none) ∧
    (∀ (f_spanFrom f_spanTo f_spanTextEnd f_spanKind : Int32) (a_text a_marks a_regKinds a_regLens a_regCodes a_nodeParent a_nodeRedo a_nodeLen a_nodeCur a_nodeMarks a_nodeText a_recCodes a_chKeys a_chText a_frameCodes a_frameLen a_framePos a_frameTimes a_frameLevel : Nat → Int32) (post : Int32 → Prop), post r → wpX_mode post (nI tcap, nI ncap, nI lvs, nI len, nI cur, nI cnt, nI now, me_o reg, nI k1, op, nI k2, wt, me_o ss, nI cp, me_o rr, nI (sz 4), nI (sz 5), nI (sz 6), me_o cr, nI cc, nI fr.length, nI kl, f_spanFrom, f_spanTo, f_spanTextEnd, f_spanKind, a_text, a_marks, a_regKinds, a_regLens, a_regCodes, a_nodeParent, a_nodeRedo, a_nodeLen, a_nodeCur, a_nodeMarks, a_nodeText, a_recCodes, a_chKeys, a_chText, a_frameCodes, a_frameLen, a_framePos, a_frameTimes, a_frameLevel)) ∧ (∀ (q : Nat) (a_text a_marks a_info a_held a_strips a_size a_kind a_dueKey a_dueLevel : Nat → Int32) (post : Int32 → Prop), post r → wpY_mode post (nI tcap, nI ncap, nI lvs, nI len, nI cur, nI now, nI cnt, nI q, nI k1, op, nI k2, wt, nI cp, nI cc, me_o reg, me_o ss, me_o rr, me_o cr, a_text, a_marks, a_info, a_held, a_strips, a_size, a_kind, a_dueKey, a_dueLevel)) := by
  have hs : ∀ s, ss = some s → s < 2 ^ 31 := fun s h => by
    have q1 := (I.2.2.2.2.2.1.1 s h).1
    have q2 := I.2.1.2.1
    have q3 := I.2.1.1
    have q4 := I.1.2.1
    omega
  have hr : ∀ r, reg = some r → r < 2 ^ 31 := fun r h => by have := I.2.2.2.2.1.1 r h; omega
  cases hss : ss with
  | some s =>
    refine ⟨2, fun h => absurd h (by decide), fun f_spanFrom f_spanTo f_spanTextEnd f_spanKind a_text a_marks a_regKinds a_regLens a_regCodes a_nodeParent a_nodeRedo a_nodeLen a_nodeCur a_nodeMarks a_nodeText a_recCodes a_chKeys a_chText a_frameCodes a_frameLen a_framePos a_frameTimes a_frameLevel post H => ?_, fun q a_text a_marks a_info a_held a_strips a_size a_kind a_dueKey a_dueLevel post H => ?_⟩
    · exact br_f (nI_pos (hs s hss)) H
    · exact br_f (nI_pos (hs s hss)) H
  | none =>
    cases hreg : reg with
    | some r =>
      refine ⟨1, fun _ => rfl, fun f_spanFrom f_spanTo f_spanTextEnd f_spanKind a_text a_marks a_regKinds a_regLens a_regCodes a_nodeParent a_nodeRedo a_nodeLen a_nodeCur a_nodeMarks a_nodeText a_recCodes a_chKeys a_chText a_frameCodes a_frameLen a_framePos a_frameTimes a_frameLevel post H => ?_, fun q a_text a_marks a_info a_held a_strips a_size a_kind a_dueKey a_dueLevel post H => ?_⟩
      · exact br_t (by decide) (br_t (nI_pos' (hr r hreg)) H)
      · exact br_t (by decide) (br_t (nI_pos' (hr r hreg)) H)
    | none =>
      by_cases h : nI k1 = 0 ∧ op = 0 ∧ nI k2 = 0 ∧ wt = 0
      · refine ⟨0, fun _ => rfl, fun f_spanFrom f_spanTo f_spanTextEnd f_spanKind a_text a_marks a_regKinds a_regLens a_regCodes a_nodeParent a_nodeRedo a_nodeLen a_nodeCur a_nodeMarks a_nodeText a_recCodes a_chKeys a_chText a_frameCodes a_frameLen a_framePos a_frameTimes a_frameLevel post H => ?_, fun q a_text a_marks a_info a_held a_strips a_size a_kind a_dueKey a_dueLevel post H => ?_⟩
        · exact br_t (by decide) (br_f (by decide) (br_t h.1 (br_t h.2.1 (br_t h.2.2.1 (br_t h.2.2.2 H)))))
        · exact br_t (by decide) (br_f (by decide) (br_t h.1 (br_t h.2.1 (br_t h.2.2.1 (br_t h.2.2.2 H)))))
      · refine ⟨1, fun _ => rfl, fun f_spanFrom f_spanTo f_spanTextEnd f_spanKind a_text a_marks a_regKinds a_regLens a_regCodes a_nodeParent a_nodeRedo a_nodeLen a_nodeCur a_nodeMarks a_nodeText a_recCodes a_chKeys a_chText a_frameCodes a_frameLen a_framePos a_frameTimes a_frameLevel post H => ?_, fun q a_text a_marks a_info a_held a_strips a_size a_kind a_dueKey a_dueLevel post H => ?_⟩
        · exact br_t (by decide) (br_f (by decide) (br_c (fun w1 => br_c (fun w2 => br_c (fun w3 => br_f (fun w4 => h ⟨w1, w2, w3, w4⟩) H) (fun _ => H)) (fun _ => H)) (fun _ => H)))
        · exact br_t (by decide) (br_f (by decide) (br_c (fun w1 => br_c (fun w2 => br_c (fun w3 => br_f (fun w4 => h ⟨w1, w2, w3, w4⟩) H) (fun _ => H)) (fun _ => H)) (fun _ => H)))
end
section
variable {tcap : Nat} {ncap : Nat} {lvs : Nat} {t : Nat → Int32} {len : Nat} {cur : Nat} {mks : Nat → Option Nat} {kd : Nat → Nat} {sz : Nat → Nat} {st : Nat → Nat → Int32} {cnt : Nat} {now : Nat} {par : Nat → Option Nat} {rd : Nat → Option Nat} {nt : Nat → Nat → Int32} {nl : Nat → Nat} {nc : Nat → Nat} {nm : Nat → Nat → Option Nat} {reg : Option Nat} {k1 : Nat} {op : Int32} {k2 : Nat} {wt : Int32} {ss : Option Nat} {cp : Nat} {rr : Option Nat} {cr : Option Nat} {cc : Nat} {fr : List (List Int32 × Nat × Nat × Nat)} {kl : Nat} {tk : Nat}
variable {f_spanFrom f_spanTo f_spanTextEnd f_spanKind : Int32} {a_text a_marks a_regKinds a_regLens a_regCodes a_nodeParent a_nodeRedo a_nodeLen a_nodeCur a_nodeMarks a_nodeText a_recCodes a_chKeys a_chText a_frameCodes a_frameLen a_framePos a_frameTimes a_frameLevel : Nat → Int32}
theorem xe_jump_25 {post : Int32 → SX → Prop} {n : Nat} (a4 : ncap ≤ 8) (hIN : me_IN tcap ncap cnt now par rd nt nl nc nm) {Z : Nat → Option Nat}
    (H : ∀ a_nodeRedo : Nat → Int32, me_NX cnt par Z nt nl nc nm a_nodeParent a_nodeRedo a_nodeLen a_nodeCur a_nodeMarks a_nodeText → wX_jump_65 post (nI n) (nI tcap) (nI ncap) (nI lvs) (nI len) (nI cur) (nI cnt) (nI now) (me_o reg) (nI k1) op (nI k2) wt (me_o ss) (nI cp) (me_o rr) (nI (sz 4)) (nI (sz 5)) (nI (sz 6)) (me_o cr) (nI cc) (nI fr.length) (nI kl) f_spanFrom f_spanTo f_spanTextEnd f_spanKind a_text a_marks a_regKinds a_regLens a_regCodes a_nodeParent a_nodeRedo a_nodeLen a_nodeCur a_nodeMarks a_nodeText a_recCodes a_chKeys a_chText a_frameCodes a_frameLen a_framePos a_frameTimes a_frameLevel) :
    ∀ (d i on : Nat) (rd' : Nat → Option Nat) (a_nodeRedo : Nat → Int32), i + d = 8 → on < cnt → on < d → me_jy par on on rd' = Z → me_NX cnt par rd' nt nl nc nm a_nodeParent a_nodeRedo a_nodeLen a_nodeCur a_nodeMarks a_nodeText → wX_jump_25 post (nI n) (nI tcap) (nI ncap) (nI lvs) (nI len) (nI cur) (nI cnt) (nI now) (me_o reg) (nI k1) op (nI k2) wt (me_o ss) (nI cp) (me_o rr) (nI (sz 4)) (nI (sz 5)) (nI (sz 6)) (me_o cr) (nI cc) (nI fr.length) (nI kl) f_spanFrom f_spanTo f_spanTextEnd f_spanKind (d + 1) (nI on) (nI i) a_text a_marks a_regKinds a_regLens a_regCodes a_nodeParent a_nodeRedo a_nodeLen a_nodeCur a_nodeMarks a_nodeText a_recCodes a_chKeys a_chText a_frameCodes a_frameLen a_framePos a_frameTimes a_frameLevel
  | 0, i, on, rd', a_nodeRedo, hd, hc, ho, e, hN => by omega
  | d + 1, i, 0, rd', a_nodeRedo, hd, hc, ho, e, hN => by
    have e' : rd' = Z := e
    subst e'
    exact br_f (nI_ge (b := 8) (by omega) (by omega)) (br_t (by decide) (H a_nodeRedo hN))
  | d + 1, i, on + 1, rd', a_nodeRedo, hd, hc, ho, e, hN => by
    obtain ⟨i1, i2, i3, i4⟩ := hIN
    obtain ⟨j, hj, ej⟩ := (i4 (on + 1) hc).2.2.1 (by omega)
    refine br_f (nI_ge (b := 8) (by omega) (by omega)) (br_f (nI_nle (by omega) (by omega)) ⟨vp_in_nI (by omega) (by omega), nm_r (e' := nI j) ?_ (br_f (nI_pos (by omega)) ⟨vp_in_nI (by omega) (by omega), nm_e (nm_r (nI_1 i) ?_)⟩)⟩)
    · rw [nI_clamp (by omega), (hN (on + 1) hc).1, ej]; rfl
    · rw [nI_clamp (by omega)]
      rw [me_jy_s ej, me_jy_skip on (by omega)] at e
      exact xe_jump_25 a4 ⟨i1, i2, i3, i4⟩ H d (i + 1) j (me_set rd' j (some (on + 1))) (upd a_nodeRedo j (nI (on + 1))) (by omega) (by omega) (by omega) e (fun q hq => me_N1X_redo (o := some (on + 1)) (hN q hq))
end
section
variable {tcap : Nat} {ncap : Nat} {lvs : Nat} {t : Nat → Int32} {len : Nat} {cur : Nat} {mks : Nat → Option Nat} {kd : Nat → Nat} {sz : Nat → Nat} {st : Nat → Nat → Int32} {cnt : Nat} {now : Nat} {par : Nat → Option Nat} {rd : Nat → Option Nat} {nt : Nat → Nat → Int32} {nl : Nat → Nat} {nc : Nat → Nat} {nm : Nat → Nat → Option Nat} {reg : Option Nat} {k1 : Nat} {op : Int32} {k2 : Nat} {wt : Int32} {ss : Option Nat} {cp : Nat} {rr : Option Nat} {cr : Option Nat} {cc : Nat} {fr : List (List Int32 × Nat × Nat × Nat)} {kl : Nat} {tk : Nat}
variable {a_text a_marks a_info a_held a_strips a_size a_kind a_dueKey a_dueLevel : Nat → Int32}
theorem ye_jump_25 {post : Int32 → SY → Prop} {n q : Nat} (a4 : ncap ≤ 8) (hIN : me_IN tcap ncap cnt now par rd nt nl nc nm) {Z : Nat → Option Nat}
    (H : ∀ a_info : Nat → Int32, me_NY cnt par Z nt nl nc nm a_info a_held → wpY_restore (fun u => post 0 u) (nI tcap, nI ncap, nI lvs, nI len, nI cur, nI now, nI cnt, nI q, nI k1, op, nI k2, wt, nI cp, nI cc, me_o reg, me_o ss, me_o rr, me_o cr, a_text, a_marks, a_info, a_held, a_strips, a_size, a_kind, a_dueKey, a_dueLevel) (nI n)) :
    ∀ (k on : Nat) (rd' : Nat → Option Nat) (a_info : Nat → Int32), k < cnt → on ≤ k → me_jy par k on rd' = Z → me_NY cnt par rd' nt nl nc nm a_info a_held → wY_jump_25 post (nI n) (nI tcap) (nI ncap) (nI lvs) (nI len) (nI cur) (nI now) (nI cnt) (nI q) (nI k1) op (nI k2) wt (nI cp) (nI cc) (me_o reg) (me_o ss) (me_o rr) (me_o cr) (k + 1) (nI on) (nI k) a_text a_marks a_info a_held a_strips a_size a_kind a_dueKey a_dueLevel
  | 0, on, rd', a_info, hk, ho, e, hN => by
    have e' : rd' = Z := e
    subst e'
    exact br_t (by decide) (H a_info hN)
  | k + 1, on, rd', a_info, hk, ho, e, hN => by
    have hcn := hIN.2.1
    refine br_f (nI_nle (by omega) (by omega)) (pk_eq (k + 1) on (fun w => ?_) (fun w => nm_r (pk_m1 k) ?_))
    · subst w
      obtain ⟨i1, i2, i3, i4⟩ := hIN
      obtain ⟨j, hj, ej⟩ := (i4 (k + 1) hk).2.2.1 (by omega)
      refine ⟨pk_in ((k + 1) * 7) 56 (by omega) (me_ix7 _), nm_r (e' := nI j) ?_ ⟨pk_in (j * 7 + 1) 56 (by omega) (me_ix71 _), nm_e (nm_r (pk_m1 k) ?_)⟩⟩
      · rw [pk_cl ((k + 1) * 7) (me_ix7 _), (hN (k + 1) hk).1, ej]; rfl
      · rw [pk_cl (j * 7 + 1) (me_ix71 _)]
        rw [me_jy_s ej] at e
        exact ye_jump_25 a4 ⟨i1, i2, i3, i4⟩ H k j (me_set rd' j (some (k + 1))) (upd a_info (j * 7 + 1) (nI (k + 1))) (by omega) (by omega) e (fun q hq => me_N1Y_redo (o := some (k + 1)) (hN q hq))
    · rw [me_jy, if_neg w] at e
      exact ye_jump_25 a4 hIN H k on rd' a_info (by omega) (by omega) e hN
end
section
variable {tcap : Nat} {ncap : Nat} {lvs : Nat} {t : Nat → Int32} {len : Nat} {cur : Nat} {mks : Nat → Option Nat} {kd : Nat → Nat} {sz : Nat → Nat} {st : Nat → Nat → Int32} {cnt : Nat} {now : Nat} {par : Nat → Option Nat} {rd : Nat → Option Nat} {nt : Nat → Nat → Int32} {nl : Nat → Nat} {nc : Nat → Nat} {nm : Nat → Nat → Option Nat} {reg : Option Nat} {k1 : Nat} {op : Int32} {k2 : Nat} {wt : Int32} {ss : Option Nat} {cp : Nat} {rr : Option Nat} {cr : Option Nat} {cc : Nat} {fr : List (List Int32 × Nat × Nat × Nat)} {kl : Nat} {tk : Nat}
theorem ye_plantC {post : SY → Prop} {a_text a_marks a_info a_held a_strips a_size a_kind a_dueKey a_dueLevel : Nat → Int32} {q : Nat} (hl : len ≤ 32) (hT : me_TX t len mks a_text a_marks) (hG : me_GY kd sz st a_strips a_size a_kind) (hQ : me_QY (me_pend fr) tk q a_dueKey a_dueLevel) (H : ∀ v', me_RY (me_plant (tcap, ncap, lvs, t, len, cur, mks, kd, sz, st, cnt, now, par, rd, nt, nl, nc, nm, reg, k1, op, k2, wt, ss, cp, rr, cr, cc, fr, kl, tk)) v' → post v') : wpY_hold post (nI tcap, nI ncap, nI lvs, nI len, nI cur, 0, 1, nI q, nI k1, op, nI k2, wt, nI cp, nI cc, me_o reg, me_o ss, me_o rr, me_o cr, a_text, a_marks, a_info, a_held, a_strips, a_size, a_kind, a_dueKey, a_dueLevel) 0 (-1) := by
  refine ye_hold (k := 0) (by omega) hl (H _ ?_)
  refine me_inY hT hG (fun k hk => ?_) hQ
  exact me_N1Y_store (pa := none) (fun e => by omega) hT hl
end
/-- a clamped argument -/
theorem me_clampN (v : Int32) (lo hi : Nat) (h : lo ≤ hi) (hh : hi < 2 ^ 31) : ∃ n : Nat, lo ≤ n ∧ n ≤ hi ∧ ((¬ nI lo ≤ v ∧ n = lo) ∨ (nI lo ≤ v ∧ ¬ v ≤ nI hi ∧ n = hi) ∨ (nI lo ≤ v ∧ v ≤ nI hi ∧ v = nI n)) := by
  by_cases h1 : nI lo ≤ v
  · by_cases h2 : v ≤ nI hi
    · have h0 : ¬ v < 0 := fun w => by
        have w1 := Int32.lt_iff_toInt_lt.mp w
        have w2 := Int32.le_iff_toInt_le.mp h1
        rw [nI_toInt (by omega)] at w2
        rw [show (0 : Int32).toInt = 0 from by decide] at w1
        omega
      obtain ⟨j, hj, rfl⟩ := nI_of h0
      rw [nI_leI (by omega) hj] at h1
      rw [nI_leI hj hh] at h2
      exact ⟨j, h1, h2, Or.inr (Or.inr ⟨nI_le h1 hj, nI_le h2 hh, rfl⟩)⟩
    · exact ⟨hi, h, Nat.le_refl _, Or.inr (Or.inl ⟨h1, h2, rfl⟩)⟩
  · exact ⟨lo, Nat.le_refl _, h, Or.inl ⟨h1, rfl⟩⟩
section
variable {f_textCap f_nodeCap f_levels f_len f_cur f_nodeCount f_node f_reg f_c1 f_op f_c2 f_waiting f_sessionStart f_copies f_recReg f_recLen f_chKeyLen f_chTextLen f_chReg f_chCount f_depth f_keyLevel f_spanFrom f_spanTo f_spanTextEnd f_spanKind : Int32} {a_text a_marks a_regKinds a_regLens a_regCodes a_nodeParent a_nodeRedo a_nodeLen a_nodeCur a_nodeMarks a_nodeText a_recCodes a_chKeys a_chText a_frameCodes a_frameLen a_framePos a_frameTimes a_frameLevel : Nat → Int32}
theorem xe_clampN {post : Int32 → Prop} {v : Int32} {lo hi n : Nat} {x y : Int32} (hx : x = nI lo) (hy : y = nI hi) (h : (¬ nI lo ≤ v ∧ n = lo) ∨ (nI lo ≤ v ∧ ¬ v ≤ nI hi ∧ n = hi) ∨ (nI lo ≤ v ∧ v ≤ nI hi ∧ v = nI n)) (H : post (nI n)) : wpX_clamp post (f_textCap, f_nodeCap, f_levels, f_len, f_cur, f_nodeCount, f_node, f_reg, f_c1, f_op, f_c2, f_waiting, f_sessionStart, f_copies, f_recReg, f_recLen, f_chKeyLen, f_chTextLen, f_chReg, f_chCount, f_depth, f_keyLevel, f_spanFrom, f_spanTo, f_spanTextEnd, f_spanKind, a_text, a_marks, a_regKinds, a_regLens, a_regCodes, a_nodeParent, a_nodeRedo, a_nodeLen, a_nodeCur, a_nodeMarks, a_nodeText, a_recCodes, a_chKeys, a_chText, a_frameCodes, a_frameLen, a_framePos, a_frameTimes, a_frameLevel) v x y := by
  subst hx hy
  rcases h with ⟨h1, rfl⟩ | ⟨h1, h2, rfl⟩ | ⟨h1, h2, rfl⟩
  · exact br_f h1 H
  · exact br_t h1 (br_f h2 H)
  · exact br_t h1 (br_t h2 H)
theorem xe_init_210 {post : SX → Prop} (H : ∀ a_marks : Nat → Int32, (∀ m, m < 3 → a_marks m = -1) → wpX_plantTree (fun u => post u) (f_textCap, f_nodeCap, f_levels, f_len, f_cur, f_nodeCount, f_node, f_reg, f_c1, f_op, f_c2, f_waiting, f_sessionStart, f_copies, f_recReg, f_recLen, f_chKeyLen, f_chTextLen, f_chReg, f_chCount, f_depth, f_keyLevel, f_spanFrom, f_spanTo, f_spanTextEnd, f_spanKind, a_text, a_marks, a_regKinds, a_regLens, a_regCodes, a_nodeParent, a_nodeRedo, a_nodeLen, a_nodeCur, a_nodeMarks, a_nodeText, a_recCodes, a_chKeys, a_chText, a_frameCodes, a_frameLen, a_framePos, a_frameTimes, a_frameLevel)) :
    ∀ (d i : Nat) (a_marks : Nat → Int32), i + d = 3 → (∀ m, m < i → a_marks m = -1) → wX_init_210 post f_textCap f_nodeCap f_levels f_len f_cur f_nodeCount f_node f_reg f_c1 f_op f_c2 f_waiting f_sessionStart f_copies f_recReg f_recLen f_chKeyLen f_chTextLen f_chReg f_chCount f_depth f_keyLevel f_spanFrom f_spanTo f_spanTextEnd f_spanKind (d + 1) (nI i) a_text a_marks a_regKinds a_regLens a_regCodes a_nodeParent a_nodeRedo a_nodeLen a_nodeCur a_nodeMarks a_nodeText a_recCodes a_chKeys a_chText a_frameCodes a_frameLen a_framePos a_frameTimes a_frameLevel
  | 0, i, a_marks, hd, h => by
    have : i = 3 := by omega
    subst this
    exact br_t (by decide) (H a_marks h)
  | d + 1, i, a_marks, hd, h => by
    refine br_f (nI_ge (b := 3) (by omega) (by omega)) ⟨vp_in_nI (by omega) (by omega), nm_e (nm_r (nI_1 i) (xe_init_210 H d (i + 1) _ (by omega) (fun m hm => ?_)))⟩
    rw [nI_clamp (by omega)]
    by_cases e : m = i
    · rw [e, pk_us]
    · rw [pk_un e]; exact h m (by omega)
end
end
section
/-! the owed statements: the answers that change nothing -/
theorem me_get {P : SX → SY → Prop} {u : SX} {v : SY} (I : me_Rel u v) (h : ∀ (tcap : Nat) (ncap : Nat) (lvs : Nat) (t : Nat → Int32) (len : Nat) (cur : Nat) (mks : Nat → Option Nat) (kd : Nat → Nat) (sz : Nat → Nat) (st : Nat → Nat → Int32) (cnt : Nat) (now : Nat) (par : Nat → Option Nat) (rd : Nat → Option Nat) (nt : Nat → Nat → Int32) (nl : Nat → Nat) (nc : Nat → Nat) (nm : Nat → Nat → Option Nat) (reg : Option Nat) (k1 : Nat) (op : Int32) (k2 : Nat) (wt : Int32) (ss : Option Nat) (cp : Nat) (rr : Option Nat) (cr : Option Nat) (cc : Nat) (fr : List (List Int32 × Nat × Nat × Nat)) (kl : Nat) (tk : Nat) (f_spanFrom f_spanTo f_spanTextEnd f_spanKind : Int32) (a_text a_marks a_regKinds a_regLens a_regCodes a_nodeParent a_nodeRedo a_nodeLen a_nodeCur a_nodeMarks a_nodeText a_recCodes a_chKeys a_chText a_frameCodes a_frameLen a_framePos a_frameTimes a_frameLevel : Nat → Int32) (q : Nat) (a_texty a_marksy a_infoy a_heldy a_stripsy a_sizey a_kindy a_dueKeyy a_dueLevely : Nat → Int32), me_Inv (tcap, ncap, lvs, t, len, cur, mks, kd, sz, st, cnt, now, par, rd, nt, nl, nc, nm, reg, k1, op, k2, wt, ss, cp, rr, cr, cc, fr, kl, tk) → fr = [] → tk = 0 → me_TX t len mks a_text a_marks → me_GX kd sz st a_regKinds a_regLens a_regCodes a_recCodes a_chKeys a_chText → me_NX cnt par rd nt nl nc nm a_nodeParent a_nodeRedo a_nodeLen a_nodeCur a_nodeMarks a_nodeText → me_TX t len mks a_texty a_marksy → me_GY kd sz st a_stripsy a_sizey a_kindy → me_NY cnt par rd nt nl nc nm a_infoy a_heldy → me_QY (me_pend fr) tk q a_dueKeyy a_dueLevely → P (nI tcap, nI ncap, nI lvs, nI len, nI cur, nI cnt, nI now, me_o reg, nI k1, op, nI k2, wt, me_o ss, nI cp, me_o rr, nI (sz 4), nI (sz 5), nI (sz 6), me_o cr, nI cc, nI fr.length, nI kl, f_spanFrom, f_spanTo, f_spanTextEnd, f_spanKind, a_text, a_marks, a_regKinds, a_regLens, a_regCodes, a_nodeParent, a_nodeRedo, a_nodeLen, a_nodeCur, a_nodeMarks, a_nodeText, a_recCodes, a_chKeys, a_chText, a_frameCodes, a_frameLen, a_framePos, a_frameTimes, a_frameLevel) (nI tcap, nI ncap, nI lvs, nI len, nI cur, nI now, nI cnt, nI q, nI k1, op, nI k2, wt, nI cp, nI cc, me_o reg, me_o ss, me_o rr, me_o cr, a_texty, a_marksy, a_infoy, a_heldy, a_stripsy, a_sizey, a_kindy, a_dueKeyy, a_dueLevely)) : P u v := by
  obtain ⟨c, i, f, tt, R, S⟩ := I
  revert i f tt R S
  refine me_tupC (P := fun c => me_Inv c → me_fr c = [] → me_tk c = 0 → me_RX c u → me_RY c v → P u v) ?_ c
  intro tcap ncap lvs t len cur mks kd sz st cnt now par rd nt nl nc nm reg k1 op k2 wt ss cp rr cr cc fr kl tk i f tt R S
  refine me_elX (P := fun u => P u v) R ?_
  intro f_spanFrom f_spanTo f_spanTextEnd f_spanKind a_text a_marks a_regKinds a_regLens a_regCodes a_nodeParent a_nodeRedo a_nodeLen a_nodeCur a_nodeMarks a_nodeText a_recCodes a_chKeys a_chText a_frameCodes a_frameLen a_framePos a_frameTimes a_frameLevel hT hG hN hF
  refine me_elY (P := fun v => P (nI tcap, nI ncap, nI lvs, nI len, nI cur, nI cnt, nI now, me_o reg, nI k1, op, nI k2, wt, me_o ss, nI cp, me_o rr, nI (sz 4), nI (sz 5), nI (sz 6), me_o cr, nI cc, nI fr.length, nI kl, f_spanFrom, f_spanTo, f_spanTextEnd, f_spanKind, a_text, a_marks, a_regKinds, a_regLens, a_regCodes, a_nodeParent, a_nodeRedo, a_nodeLen, a_nodeCur, a_nodeMarks, a_nodeText, a_recCodes, a_chKeys, a_chText, a_frameCodes, a_frameLen, a_framePos, a_frameTimes, a_frameLevel) v) S ?_
  intro q a_texty a_marksy a_infoy a_heldy a_stripsy a_sizey a_kindy a_dueKeyy a_dueLevely hT2 hG2 hN2 hQ
  exact h tcap ncap lvs t len cur mks kd sz st cnt now par rd nt nl nc nm reg k1 op k2 wt ss cp rr cr cc fr kl tk _ _ _ _ a_text a_marks a_regKinds a_regLens a_regCodes a_nodeParent a_nodeRedo a_nodeLen a_nodeCur a_nodeMarks a_nodeText a_recCodes a_chKeys a_chText a_frameCodes a_frameLen a_framePos a_frameTimes a_frameLevel q a_texty a_marksy a_infoy a_heldy a_stripsy a_sizey a_kindy a_dueKeyy a_dueLevely i f tt hT hG hN hT2 hG2 hN2 hQ
def i_Rel (_ : Nat) (u : SX) (v : SY) : Prop := me_Rel u v
theorem i_up {k : Nat} {u : SX} {v : SY} (h : i_Rel k u v) : i_Rel (k + 3) u v := h
theorem i_vc_mode {k : Nat} {u : SX} {v : SY} (I : i_Rel k u v) (hk : k + 3 ≤ 1539) : wpX_mode (fun r => wpY_mode (fun r' => r' = r ∧ i_Rel (k + 3) u v) v) u := by
  refine me_get (P := fun u' v' => wpX_mode (fun r => wpY_mode (fun r' => r' = r ∧ i_Rel (k + 3) u v) v') u') I ?_
  intro tcap ncap lvs t len cur mks kd sz st cnt now par rd nt nl nc nm reg k1 op k2 wt ss cp rr cr cc fr kl tk f_spanFrom f_spanTo f_spanTextEnd f_spanKind a_text a_marks a_regKinds a_regLens a_regCodes a_nodeParent a_nodeRedo a_nodeLen a_nodeCur a_nodeMarks a_nodeText a_recCodes a_chKeys a_chText a_frameCodes a_frameLen a_framePos a_frameTimes a_frameLevel q a_texty a_marksy a_infoy a_heldy a_stripsy a_sizey a_kindy a_dueKeyy a_dueLevely hI hfr htk hT hG hN hT2 hG2 hN2 hQ
  have J : ∀ x : Int32, x = x ∧ i_Rel (k + 3) u v := fun x => ⟨rfl, I⟩
  obtain ⟨⟨a1, a2, a3, a4, a5, a6⟩, ⟨t1, t2, t3, t4⟩, ⟨g1, g2, g3, g4⟩, ⟨n1, n2, n3, n4⟩, hIK, hIS, hIF⟩ := hI
  obtain ⟨r, _, hX, hY⟩ := me_mode (tk := tk) ⟨⟨a1, a2, a3, a4, a5, a6⟩, ⟨t1, t2, t3, t4⟩, ⟨g1, g2, g3, g4⟩, ⟨n1, n2, n3, n4⟩, hIK, hIS, hIF⟩
  exact hX _ _ _ _ a_text a_marks a_regKinds a_regLens a_regCodes a_nodeParent a_nodeRedo a_nodeLen a_nodeCur a_nodeMarks a_nodeText a_recCodes a_chKeys a_chText a_frameCodes a_frameLen a_framePos a_frameTimes a_frameLevel _ (hY q a_texty a_marksy a_infoy a_heldy a_stripsy a_sizey a_kindy a_dueKeyy a_dueLevely _ (J _))
theorem i_vc_length {k : Nat} {u : SX} {v : SY} (I : i_Rel k u v) (hk : k + 3 ≤ 1539) : wpX_length (fun r => wpY_length (fun r' => r' = r ∧ i_Rel (k + 3) u v) v) u := by
  refine me_get (P := fun u' v' => wpX_length (fun r => wpY_length (fun r' => r' = r ∧ i_Rel (k + 3) u v) v') u') I ?_
  intro tcap ncap lvs t len cur mks kd sz st cnt now par rd nt nl nc nm reg k1 op k2 wt ss cp rr cr cc fr kl tk f_spanFrom f_spanTo f_spanTextEnd f_spanKind a_text a_marks a_regKinds a_regLens a_regCodes a_nodeParent a_nodeRedo a_nodeLen a_nodeCur a_nodeMarks a_nodeText a_recCodes a_chKeys a_chText a_frameCodes a_frameLen a_framePos a_frameTimes a_frameLevel q a_texty a_marksy a_infoy a_heldy a_stripsy a_sizey a_kindy a_dueKeyy a_dueLevely hI hfr htk hT hG hN hT2 hG2 hN2 hQ
  have J : ∀ x : Int32, x = x ∧ i_Rel (k + 3) u v := fun x => ⟨rfl, I⟩
  obtain ⟨⟨a1, a2, a3, a4, a5, a6⟩, ⟨t1, t2, t3, t4⟩, ⟨g1, g2, g3, g4⟩, ⟨n1, n2, n3, n4⟩, hIK, hIS, hIF⟩ := hI
  exact J _
theorem i_vc_cursor {k : Nat} {u : SX} {v : SY} (I : i_Rel k u v) (hk : k + 3 ≤ 1539) : wpX_cursor (fun r => wpY_cursor (fun r' => r' = r ∧ i_Rel (k + 3) u v) v) u := by
  refine me_get (P := fun u' v' => wpX_cursor (fun r => wpY_cursor (fun r' => r' = r ∧ i_Rel (k + 3) u v) v') u') I ?_
  intro tcap ncap lvs t len cur mks kd sz st cnt now par rd nt nl nc nm reg k1 op k2 wt ss cp rr cr cc fr kl tk f_spanFrom f_spanTo f_spanTextEnd f_spanKind a_text a_marks a_regKinds a_regLens a_regCodes a_nodeParent a_nodeRedo a_nodeLen a_nodeCur a_nodeMarks a_nodeText a_recCodes a_chKeys a_chText a_frameCodes a_frameLen a_framePos a_frameTimes a_frameLevel q a_texty a_marksy a_infoy a_heldy a_stripsy a_sizey a_kindy a_dueKeyy a_dueLevely hI hfr htk hT hG hN hT2 hG2 hN2 hQ
  have J : ∀ x : Int32, x = x ∧ i_Rel (k + 3) u v := fun x => ⟨rfl, I⟩
  obtain ⟨⟨a1, a2, a3, a4, a5, a6⟩, ⟨t1, t2, t3, t4⟩, ⟨g1, g2, g3, g4⟩, ⟨n1, n2, n3, n4⟩, hIK, hIS, hIF⟩ := hI
  exact J _
theorem i_vc_current {k : Nat} {u : SX} {v : SY} (I : i_Rel k u v) (hk : k + 3 ≤ 1539) : wpX_current (fun r => wpY_current (fun r' => r' = r ∧ i_Rel (k + 3) u v) v) u := by
  refine me_get (P := fun u' v' => wpX_current (fun r => wpY_current (fun r' => r' = r ∧ i_Rel (k + 3) u v) v') u') I ?_
  intro tcap ncap lvs t len cur mks kd sz st cnt now par rd nt nl nc nm reg k1 op k2 wt ss cp rr cr cc fr kl tk f_spanFrom f_spanTo f_spanTextEnd f_spanKind a_text a_marks a_regKinds a_regLens a_regCodes a_nodeParent a_nodeRedo a_nodeLen a_nodeCur a_nodeMarks a_nodeText a_recCodes a_chKeys a_chText a_frameCodes a_frameLen a_framePos a_frameTimes a_frameLevel q a_texty a_marksy a_infoy a_heldy a_stripsy a_sizey a_kindy a_dueKeyy a_dueLevely hI hfr htk hT hG hN hT2 hG2 hN2 hQ
  have J : ∀ x : Int32, x = x ∧ i_Rel (k + 3) u v := fun x => ⟨rfl, I⟩
  obtain ⟨⟨a1, a2, a3, a4, a5, a6⟩, ⟨t1, t2, t3, t4⟩, ⟨g1, g2, g3, g4⟩, ⟨n1, n2, n3, n4⟩, hIK, hIS, hIF⟩ := hI
  exact J _
theorem i_vc_nodes {k : Nat} {u : SX} {v : SY} (I : i_Rel k u v) (hk : k + 3 ≤ 1539) : wpX_nodes (fun r => wpY_nodes (fun r' => r' = r ∧ i_Rel (k + 3) u v) v) u := by
  refine me_get (P := fun u' v' => wpX_nodes (fun r => wpY_nodes (fun r' => r' = r ∧ i_Rel (k + 3) u v) v') u') I ?_
  intro tcap ncap lvs t len cur mks kd sz st cnt now par rd nt nl nc nm reg k1 op k2 wt ss cp rr cr cc fr kl tk f_spanFrom f_spanTo f_spanTextEnd f_spanKind a_text a_marks a_regKinds a_regLens a_regCodes a_nodeParent a_nodeRedo a_nodeLen a_nodeCur a_nodeMarks a_nodeText a_recCodes a_chKeys a_chText a_frameCodes a_frameLen a_framePos a_frameTimes a_frameLevel q a_texty a_marksy a_infoy a_heldy a_stripsy a_sizey a_kindy a_dueKeyy a_dueLevely hI hfr htk hT hG hN hT2 hG2 hN2 hQ
  have J : ∀ x : Int32, x = x ∧ i_Rel (k + 3) u v := fun x => ⟨rfl, I⟩
  obtain ⟨⟨a1, a2, a3, a4, a5, a6⟩, ⟨t1, t2, t3, t4⟩, ⟨g1, g2, g3, g4⟩, ⟨n1, n2, n3, n4⟩, hIK, hIS, hIF⟩ := hI
  exact J _
theorem i_vc_charAt {k : Nat} {u : SX} {v : SY} (I : i_Rel k u v) (hk : k + 3 ≤ 1539) (v1 : Int32) : wpX_charAt (fun r => wpY_charAt (fun r' => r' = r ∧ i_Rel (k + 3) u v) v v1) u v1 := by
  refine me_get (P := fun u' v' => wpX_charAt (fun r => wpY_charAt (fun r' => r' = r ∧ i_Rel (k + 3) u v) v' v1) u' v1) I ?_
  intro tcap ncap lvs t len cur mks kd sz st cnt now par rd nt nl nc nm reg k1 op k2 wt ss cp rr cr cc fr kl tk f_spanFrom f_spanTo f_spanTextEnd f_spanKind a_text a_marks a_regKinds a_regLens a_regCodes a_nodeParent a_nodeRedo a_nodeLen a_nodeCur a_nodeMarks a_nodeText a_recCodes a_chKeys a_chText a_frameCodes a_frameLen a_framePos a_frameTimes a_frameLevel q a_texty a_marksy a_infoy a_heldy a_stripsy a_sizey a_kindy a_dueKeyy a_dueLevely hI hfr htk hT hG hN hT2 hG2 hN2 hQ
  have J : ∀ x : Int32, x = x ∧ i_Rel (k + 3) u v := fun x => ⟨rfl, I⟩
  obtain ⟨⟨a1, a2, a3, a4, a5, a6⟩, ⟨t1, t2, t3, t4⟩, ⟨g1, g2, g3, g4⟩, ⟨n1, n2, n3, n4⟩, hIK, hIS, hIF⟩ := hI
  rcases pk_ix v1 (n := len) (by omega) with h | h | ⟨j, hj, rfl⟩
  · exact br_t h (br_t h (J _))
  · by_cases h0 : v1 < 0
    · exact br_t h0 (br_t h0 (J _))
    · exact br_f h0 (br_t h (br_f h0 (br_f (Int32.not_lt.mpr h) (J _))))
  · have v : vp_in (nI j) 32 := vp_in_nI (by omega) (by omega)
    have c := nI_clamp (n := j) (by omega)
    refine br_f (nI_pos (by omega)) (br_f (nI_ge hj (by omega)) ⟨v, br_f (nI_pos (by omega)) (br_t (nI_lt hj (by omega)) ⟨v, ?_⟩)⟩)
    rw [c, hT.1 j hj, hT2.1 j hj]
    exact J _
theorem i_vc_mark {k : Nat} {u : SX} {v : SY} (I : i_Rel k u v) (hk : k + 3 ≤ 1539) (v1 : Int32) : wpX_mark (fun r => wpY_mark (fun r' => r' = r ∧ i_Rel (k + 3) u v) v v1) u v1 := by
  refine me_get (P := fun u' v' => wpX_mark (fun r => wpY_mark (fun r' => r' = r ∧ i_Rel (k + 3) u v) v' v1) u' v1) I ?_
  intro tcap ncap lvs t len cur mks kd sz st cnt now par rd nt nl nc nm reg k1 op k2 wt ss cp rr cr cc fr kl tk f_spanFrom f_spanTo f_spanTextEnd f_spanKind a_text a_marks a_regKinds a_regLens a_regCodes a_nodeParent a_nodeRedo a_nodeLen a_nodeCur a_nodeMarks a_nodeText a_recCodes a_chKeys a_chText a_frameCodes a_frameLen a_framePos a_frameTimes a_frameLevel q a_texty a_marksy a_infoy a_heldy a_stripsy a_sizey a_kindy a_dueKeyy a_dueLevely hI hfr htk hT hG hN hT2 hG2 hN2 hQ
  have J : ∀ x : Int32, x = x ∧ i_Rel (k + 3) u v := fun x => ⟨rfl, I⟩
  obtain ⟨⟨a1, a2, a3, a4, a5, a6⟩, ⟨t1, t2, t3, t4⟩, ⟨g1, g2, g3, g4⟩, ⟨n1, n2, n3, n4⟩, hIK, hIS, hIF⟩ := hI
  rcases pk_ix v1 (n := 3) (by omega) with h | h | ⟨j, hj, rfl⟩
  · exact br_t h (br_t h (J _))
  · by_cases h0 : v1 < 0
    · exact br_t h0 (br_t h0 (J _))
    · obtain ⟨j, hj, rfl⟩ := nI_of h0
      rw [nI_leI (by omega) hj] at h
      exact br_f h0 (br_t (nI_le (a := 3) h hj) (br_f h0 (br_f (nI_ge (a := 2) (by omega) hj) (J _))))
  · have v : vp_in (nI j) 3 := vp_in_nI (by omega) (by omega)
    have c := nI_clamp (n := j) (by omega)
    refine br_f (nI_pos (by omega)) (br_f (nI_ge (b := 3) hj (by omega)) ⟨v, br_f (nI_pos (by omega)) (br_t (nI_le (b := 2) (by omega) (by omega)) ⟨v, ?_⟩)⟩)
    rw [c, hT.2 j hj, hT2.2 j hj]
    exact J _
theorem i_vc_nodeInfo {k : Nat} {u : SX} {v : SY} (I : i_Rel k u v) (hk : k + 3 ≤ 1539) (v1 : Int32) (v2 : Int32) : wpX_nodeInfo (fun r => wpY_nodeInfo (fun r' => r' = r ∧ i_Rel (k + 3) u v) v v1 v2) u v1 v2 := by
  refine me_get (P := fun u' v' => wpX_nodeInfo (fun r => wpY_nodeInfo (fun r' => r' = r ∧ i_Rel (k + 3) u v) v' v1 v2) u' v1 v2) I ?_
  intro tcap ncap lvs t len cur mks kd sz st cnt now par rd nt nl nc nm reg k1 op k2 wt ss cp rr cr cc fr kl tk f_spanFrom f_spanTo f_spanTextEnd f_spanKind a_text a_marks a_regKinds a_regLens a_regCodes a_nodeParent a_nodeRedo a_nodeLen a_nodeCur a_nodeMarks a_nodeText a_recCodes a_chKeys a_chText a_frameCodes a_frameLen a_framePos a_frameTimes a_frameLevel q a_texty a_marksy a_infoy a_heldy a_stripsy a_sizey a_kindy a_dueKeyy a_dueLevely hI hfr htk hT hG hN hT2 hG2 hN2 hQ
  have J : ∀ x : Int32, x = x ∧ i_Rel (k + 3) u v := fun x => ⟨rfl, I⟩
  obtain ⟨⟨a1, a2, a3, a4, a5, a6⟩, ⟨t1, t2, t3, t4⟩, ⟨g1, g2, g3, g4⟩, ⟨n1, n2, n3, n4⟩, hIK, hIS, hIF⟩ := hI
  rcases pk_ix v1 (n := cnt) (by omega) with h | h | ⟨i, hi, rfl⟩
  · exact br_t h (br_t h (J _))
  · by_cases h0 : v1 < 0
    · exact br_t h0 (br_t h0 (J _))
    · exact br_f h0 (br_t h (br_f h0 (br_t h (J _))))
  · have vi : vp_in (nI i) 8 := vp_in_nI (by omega) (by omega)
    have ci := nI_clamp (n := i) (by omega)
    have p1 : ¬ nI i < 0 := nI_pos (by omega)
    have p2 : ¬ nI cnt ≤ nI i := nI_ge hi (by omega)
    obtain ⟨x1, x2, x3, x4, x5, x6⟩ := hN i hi
    obtain ⟨y1, y2, y3, y4, y5, y6⟩ := hN2 i hi
    rcases pk_ix v2 (n := 7) (by omega) with h | h | ⟨j, hj, rfl⟩
    · exact br_f p1 (br_f p2 (br_t h (br_f p1 (br_f p2 (br_t h (J _))))))
    · by_cases h0 : v2 < 0
      · exact br_f p1 (br_f p2 (br_t h0 (br_f p1 (br_f p2 (br_t h0 (J _))))))
      · obtain ⟨j, hj, rfl⟩ := nI_of h0
        rw [nI_leI (by omega) hj] at h
        have h6 : ¬ nI j ≤ 6 := nI_ge (a := 6) (by omega) hj
        exact br_f p1 (br_f p2 (br_f h0 (br_f h6 (br_f p1 (br_f p2 (br_f h0 (br_f h6 (J _))))))))
    · have e : nI i * 7 + nI j = nI (i * 7 + j) := by rw [me_ix7, nI_add]
      have q0 : ¬ nI j < 0 := nI_pos (by omega)
      have q6 : nI j ≤ 6 := nI_le (b := 6) (by omega) (by omega)
      have Yk : ∀ x : Int32, a_infoy (i * 7 + j) = x → wpY_nodeInfo (fun r' => r' = x ∧ i_Rel (k + 3) u v) (nI tcap, nI ncap, nI lvs, nI len, nI cur, nI now, nI cnt, nI q, nI k1, op, nI k2, wt, nI cp, nI cc, me_o reg, me_o ss, me_o rr, me_o cr, a_texty, a_marksy, a_infoy, a_heldy, a_stripsy, a_sizey, a_kindy, a_dueKeyy, a_dueLevely) (nI i) (nI j) := fun x hx => by
        refine br_f p1 (br_f p2 (br_f q0 (br_t q6 ⟨pk_in (i * 7 + j) 56 (by omega) e, ?_⟩)))
        rw [pk_cl (i * 7 + j) e, hx]
        exact J _
      refine br_f p1 (br_f p2 (br_f q0 (br_t q6 (br_f q0 ?_))))
      by_cases h3 : 3 < j
      · have e4 : nI i * 3 + nI j - 4 = nI (i * 3 + (j - 4)) := by
          rw [me_ix3, show (4 : Int32) = nI 4 from rfl, pk_sub (by omega)]
          exact congrArg nI (by omega)
        refine br_t (nI_lt (a := 3) h3 (by omega)) ⟨pk_in (i * 3 + (j - 4)) 24 (by omega) e4, ?_⟩
        rw [pk_cl (i * 3 + (j - 4)) e4, x5 (j - 4) (by omega)]
        refine Yk _ ?_
        rw [← y5 (j - 4) (by omega)]
        exact congrArg a_infoy (by omega)
      · refine br_f (nI_nlt (a := 3) (by omega) (by omega)) ?_
        have hj4 : j = 0 ∨ j = 1 ∨ j = 2 ∨ j = 3 := by omega
        rcases hj4 with rfl | rfl | rfl | rfl
        · refine br_t rfl ⟨vi, ?_⟩
          rw [ci, x1]; exact Yk _ y1
        · refine br_f (by decide) (br_t rfl ⟨vi, ?_⟩)
          rw [ci, x2]; exact Yk _ y2
        · refine br_f (by decide) (br_f (by decide) (br_t rfl ⟨vi, ?_⟩))
          rw [ci, x3]; exact Yk _ y3
        · refine br_f (by decide) (br_f (by decide) (br_f (by decide) (br_t rfl ⟨vi, ?_⟩)))
          rw [ci, x4]; exact Yk _ y4
theorem i_vc_nodeChar {k : Nat} {u : SX} {v : SY} (I : i_Rel k u v) (hk : k + 3 ≤ 1539) (v1 : Int32) (v2 : Int32) : wpX_nodeChar (fun r => wpY_nodeChar (fun r' => r' = r ∧ i_Rel (k + 3) u v) v v1 v2) u v1 v2 := by
  refine me_get (P := fun u' v' => wpX_nodeChar (fun r => wpY_nodeChar (fun r' => r' = r ∧ i_Rel (k + 3) u v) v' v1 v2) u' v1 v2) I ?_
  intro tcap ncap lvs t len cur mks kd sz st cnt now par rd nt nl nc nm reg k1 op k2 wt ss cp rr cr cc fr kl tk f_spanFrom f_spanTo f_spanTextEnd f_spanKind a_text a_marks a_regKinds a_regLens a_regCodes a_nodeParent a_nodeRedo a_nodeLen a_nodeCur a_nodeMarks a_nodeText a_recCodes a_chKeys a_chText a_frameCodes a_frameLen a_framePos a_frameTimes a_frameLevel q a_texty a_marksy a_infoy a_heldy a_stripsy a_sizey a_kindy a_dueKeyy a_dueLevely hI hfr htk hT hG hN hT2 hG2 hN2 hQ
  have J : ∀ x : Int32, x = x ∧ i_Rel (k + 3) u v := fun x => ⟨rfl, I⟩
  obtain ⟨⟨a1, a2, a3, a4, a5, a6⟩, ⟨t1, t2, t3, t4⟩, ⟨g1, g2, g3, g4⟩, ⟨n1, n2, n3, n4⟩, hIK, hIS, hIF⟩ := hI
  have Ym : v2 < 0 ∨ (¬ v2 < 0 ∧ (v1 < 0 ∨ (¬ v1 < 0 ∧ nI cnt ≤ v1))) → wpY_nodeChar (fun r' => r' = -1 ∧ i_Rel (k + 3) u v) (nI tcap, nI ncap, nI lvs, nI len, nI cur, nI now, nI cnt, nI q, nI k1, op, nI k2, wt, nI cp, nI cc, me_o reg, me_o ss, me_o rr, me_o cr, a_texty, a_marksy, a_infoy, a_heldy, a_stripsy, a_sizey, a_kindy, a_dueKeyy, a_dueLevely) v1 v2 := by
    intro h
    rcases h with h | ⟨h0, h⟩
    · exact br_t h (J _)
    · have hm : ¬ v2 < (-1 : Int32) := fun w => h0 (by
        rw [Int32.lt_iff_toInt_lt] at w ⊢
        rw [show ((-1 : Int32)).toInt = -1 from by decide] at w
        rw [show ((0 : Int32)).toInt = 0 from by decide]
        omega)
      rcases h with h | ⟨h1, h⟩
      · exact br_f h0 (br_t h (br_f hm (J _)))
      · exact br_f h0 (br_f h1 (br_t h (br_f hm (J _))))
  rcases pk_ix v1 (n := cnt) (by omega) with h | h | ⟨i, hi, rfl⟩
  · refine br_t h (Ym ?_)
    by_cases w : v2 < 0
    · exact Or.inl w
    · exact Or.inr ⟨w, Or.inl h⟩
  · by_cases h0 : v1 < 0
    · refine br_t h0 (Ym ?_)
      by_cases w : v2 < 0
      · exact Or.inl w
      · exact Or.inr ⟨w, Or.inl h0⟩
    · refine br_f h0 (br_t h (Ym ?_))
      by_cases w : v2 < 0
      · exact Or.inl w
      · exact Or.inr ⟨w, Or.inr ⟨h0, h⟩⟩
  · have vi : vp_in (nI i) 8 := vp_in_nI (by omega) (by omega)
    have ci := nI_clamp (n := i) (by omega)
    have p1 : ¬ nI i < 0 := nI_pos (by omega)
    have p2 : ¬ nI cnt ≤ nI i := nI_ge hi (by omega)
    obtain ⟨x1, x2, x3, x4, x5, x6⟩ := hN i hi
    obtain ⟨y1, y2, y3, y4, y5, y6⟩ := hN2 i hi
    have nb := (n4 i hi).1.1
    by_cases w : v2 < 0
    · exact br_f p1 (br_f p2 (br_t w (Ym (Or.inl w))))
    · obtain ⟨j, hj, rfl⟩ := nI_of w
      refine br_f p1 (br_f p2 (br_f w ⟨vi, ?_⟩))
      rw [ci, x3]
      have Yk : ∀ x : Int32, ((nI j < nI (nl i) → (vp_in ((nI i * 32) + nI j) 256 ∧ ((a_heldy ((nI i * 32) + nI j).toNatClampNeg) = x ∧ i_Rel (k + 3) u v))) ∧ (¬ nI j < nI (nl i) → ((-1 : Int32) = x ∧ i_Rel (k + 3) u v))) → wpY_nodeChar (fun r' => r' = x ∧ i_Rel (k + 3) u v) (nI tcap, nI ncap, nI lvs, nI len, nI cur, nI now, nI cnt, nI q, nI k1, op, nI k2, wt, nI cp, nI cc, me_o reg, me_o ss, me_o rr, me_o cr, a_texty, a_marksy, a_infoy, a_heldy, a_stripsy, a_sizey, a_kindy, a_dueKeyy, a_dueLevely) (nI i) (nI j) := by
        intro x H
        refine br_f w (ye_nodeInfo (w := 2) hi (by omega) (by omega) ?_)
        rw [y3]
        exact H
      refine pk_lt j (nl i) (fun h => ⟨pk_in (i * 32 + j) 256 (by omega) (me_ix32 _ _), ?_⟩) (fun h => Yk _ (br_f (nI_nlt h hj) (J _)))
      rw [pk_cl (i * 32 + j) (me_ix32 _ _), x6 j h]
      refine Yk _ (br_t (nI_lt h (by omega)) ⟨pk_in (i * 32 + j) 256 (by omega) (me_ix32 _ _), ?_⟩)
      rw [pk_cl (i * 32 + j) (me_ix32 _ _), y6 j h]
      exact J _
theorem i_vc_regKind {k : Nat} {u : SX} {v : SY} (I : i_Rel k u v) (hk : k + 3 ≤ 1539) (v1 : Int32) : wpX_regKind (fun r => wpY_regKind (fun r' => r' = r ∧ i_Rel (k + 3) u v) v v1) u v1 := by
  refine me_get (P := fun u' v' => wpX_regKind (fun r => wpY_regKind (fun r' => r' = r ∧ i_Rel (k + 3) u v) v' v1) u' v1) I ?_
  intro tcap ncap lvs t len cur mks kd sz st cnt now par rd nt nl nc nm reg k1 op k2 wt ss cp rr cr cc fr kl tk f_spanFrom f_spanTo f_spanTextEnd f_spanKind a_text a_marks a_regKinds a_regLens a_regCodes a_nodeParent a_nodeRedo a_nodeLen a_nodeCur a_nodeMarks a_nodeText a_recCodes a_chKeys a_chText a_frameCodes a_frameLen a_framePos a_frameTimes a_frameLevel q a_texty a_marksy a_infoy a_heldy a_stripsy a_sizey a_kindy a_dueKeyy a_dueLevely hI hfr htk hT hG hN hT2 hG2 hN2 hQ
  have J : ∀ x : Int32, x = x ∧ i_Rel (k + 3) u v := fun x => ⟨rfl, I⟩
  obtain ⟨⟨a1, a2, a3, a4, a5, a6⟩, ⟨t1, t2, t3, t4⟩, ⟨g1, g2, g3, g4⟩, ⟨n1, n2, n3, n4⟩, hIK, hIS, hIF⟩ := hI
  rcases pk_ix v1 (n := 4) (by omega) with h | h | ⟨j, hj, rfl⟩
  · exact br_t h (br_t h (J _))
  · by_cases h0 : v1 < 0
    · exact br_t h0 (br_t h0 (J _))
    · obtain ⟨j, hj, rfl⟩ := nI_of h0
      rw [nI_leI (by omega) hj] at h
      exact br_f h0 (br_t (nI_le (a := 4) h hj) (br_f h0 (br_f (nI_ge (a := 3) (by omega) hj) (J _))))
  · have v : vp_in (nI j) 4 := vp_in_nI (by omega) (by omega)
    have c := nI_clamp (n := j) (by omega)
    refine br_f (nI_pos (by omega)) (br_f (nI_ge (b := 4) hj (by omega)) ⟨v, br_f (nI_pos (by omega)) (br_t (nI_le (b := 3) (by omega) (by omega)) ⟨v, ?_⟩)⟩)
    rw [c, (hG.1 j hj).1, hG2.2 j hj]
    exact J _
theorem i_vc_regChar {k : Nat} {u : SX} {v : SY} (I : i_Rel k u v) (hk : k + 3 ≤ 1539) (v1 : Int32) (v2 : Int32) : wpX_regChar (fun r => wpY_regChar (fun r' => r' = r ∧ i_Rel (k + 3) u v) v v1 v2) u v1 v2 := by
  refine me_get (P := fun u' v' => wpX_regChar (fun r => wpY_regChar (fun r' => r' = r ∧ i_Rel (k + 3) u v) v' v1 v2) u' v1 v2) I ?_
  intro tcap ncap lvs t len cur mks kd sz st cnt now par rd nt nl nc nm reg k1 op k2 wt ss cp rr cr cc fr kl tk f_spanFrom f_spanTo f_spanTextEnd f_spanKind a_text a_marks a_regKinds a_regLens a_regCodes a_nodeParent a_nodeRedo a_nodeLen a_nodeCur a_nodeMarks a_nodeText a_recCodes a_chKeys a_chText a_frameCodes a_frameLen a_framePos a_frameTimes a_frameLevel q a_texty a_marksy a_infoy a_heldy a_stripsy a_sizey a_kindy a_dueKeyy a_dueLevely hI hfr htk hT hG hN hT2 hG2 hN2 hQ
  have J : ∀ x : Int32, x = x ∧ i_Rel (k + 3) u v := fun x => ⟨rfl, I⟩
  obtain ⟨⟨a1, a2, a3, a4, a5, a6⟩, ⟨t1, t2, t3, t4⟩, ⟨g1, g2, g3, g4⟩, ⟨n1, n2, n3, n4⟩, hIK, hIS, hIF⟩ := hI
  have Ym : v1 < 0 ∨ (¬ v1 < 0 ∧ 6 < v1) ∨ (¬ v1 < 0 ∧ ¬ 6 < v1 ∧ v2 < 0) → wpY_regChar (fun r' => r' = -1 ∧ i_Rel (k + 3) u v) (nI tcap, nI ncap, nI lvs, nI len, nI cur, nI now, nI cnt, nI q, nI k1, op, nI k2, wt, nI cp, nI cc, me_o reg, me_o ss, me_o rr, me_o cr, a_texty, a_marksy, a_infoy, a_heldy, a_stripsy, a_sizey, a_kindy, a_dueKeyy, a_dueLevely) v1 v2 := by
    intro h
    rcases h with h | ⟨h0, h⟩ | ⟨h0, h1, h⟩
    · exact br_t h (J _)
    · exact br_f h0 (br_t h (J _))
    · exact br_f h0 (br_f h1 (br_t h (J _)))
  by_cases w : v2 < 0
  · refine br_t w (Ym ?_)
    by_cases h0 : v1 < 0
    · exact Or.inl h0
    · by_cases h6 : 6 < v1
      · exact Or.inr (Or.inl ⟨h0, h6⟩)
      · exact Or.inr (Or.inr ⟨h0, h6, w⟩)
  · obtain ⟨i, hi, rfl⟩ := nI_of w
    rcases pk_ix v1 (n := 7) (by omega) with h | h | ⟨j, hj, rfl⟩
    · exact br_f w (br_f (Int32.not_le.mpr h) (Ym (Or.inl h)))
    · by_cases h0 : v1 < 0
      · exact br_f w (br_f (Int32.not_le.mpr h0) (Ym (Or.inl h0)))
      · obtain ⟨j, hj, rfl⟩ := nI_of h0
        rw [nI_leI (by omega) hj] at h
        refine br_f w (br_t (nI_pos' hj) (br_t (nI_le (a := 4) (by omega) hj) ?_))
        exact pk_eq j 4 (fun e => by omega) (fun _ => pk_eq j 5 (fun e => by omega) (fun _ => pk_eq j 6 (fun e => by omega) (fun _ => Ym (Or.inr (Or.inl ⟨h0, nI_lt (a := 6) (by omega) hj⟩)))))
    · have p0 : ¬ nI j < 0 := nI_pos (by omega)
      have p6 : ¬ 6 < nI j := nI_nlt (a := 6) (by omega) (by omega)
      have v7 : vp_in (nI j) 7 := vp_in_nI (by omega) (by omega)
      have cj := nI_clamp (n := j) (by omega)
      obtain ⟨y1, y2⟩ := hG2.1 j hj
      have hz := (g2 j hj).1
      have Yn : sz j ≤ i → wpY_regChar (fun r' => r' = -1 ∧ i_Rel (k + 3) u v) (nI tcap, nI ncap, nI lvs, nI len, nI cur, nI now, nI cnt, nI q, nI k1, op, nI k2, wt, nI cp, nI cc, me_o reg, me_o ss, me_o rr, me_o cr, a_texty, a_marksy, a_infoy, a_heldy, a_stripsy, a_sizey, a_kindy, a_dueKeyy, a_dueLevely) (nI j) (nI i) := fun h => by
        refine br_f p0 (br_f p6 (br_f w ⟨v7, br_f ?_ (J _)⟩))
        rw [cj, y1]; exact nI_nlt h hi
      have Ys : i < sz j → wpY_regChar (fun r' => r' = st j i ∧ i_Rel (k + 3) u v) (nI tcap, nI ncap, nI lvs, nI len, nI cur, nI now, nI cnt, nI q, nI k1, op, nI k2, wt, nI cp, nI cc, me_o reg, me_o ss, me_o rr, me_o cr, a_texty, a_marksy, a_infoy, a_heldy, a_stripsy, a_sizey, a_kindy, a_dueKeyy, a_dueLevely) (nI j) (nI i) := fun h => by
        refine br_f p0 (br_f p6 (br_f w ⟨v7, br_t ?_ ⟨pk_in (j * 32 + i) 224 (by omega) (me_ix32 _ _), ?_⟩⟩))
        · rw [cj, y1]; exact nI_lt h (by omega)
        · rw [pk_cl (j * 32 + i) (me_ix32 _ _), y2 i h]; exact J _
      refine br_f w (br_t (nI_pos' (by omega)) ?_)
      by_cases h4 : j < 4
      · refine br_f (nI_ge (b := 4) h4 (by omega)) ⟨vp_in_nI h4 (by omega), ?_⟩
        obtain ⟨x1, x2, x3⟩ := hG.1 j h4
        rw [cj, x2]
        refine pk_le (sz j) i (fun h => Yn h) (fun h => ⟨pk_in (j * 32 + i) 128 (by omega) (me_ix32 _ _), ?_⟩)
        rw [pk_cl (j * 32 + i) (me_ix32 _ _), x3 i h]
        exact Ys h
      · have h5 := me_CH3 g4
        refine br_t (nI_le (a := 4) (by omega) (by omega)) ?_
        have hj3 : j = 4 ∨ j = 5 ∨ j = 6 := by omega
        rcases hj3 with rfl | rfl | rfl
        · refine br_t rfl (pk_le (sz 4) i (fun h => Yn h) (fun h => ⟨vp_in_nI (by omega) (by omega), ?_⟩))
          rw [nI_clamp (by omega), hG.2.1 i h]
          exact Ys h
        · refine br_f (by decide) (br_t rfl (pk_le (sz 5) i (fun h => Yn h) (fun h => ⟨vp_in_nI (by omega) (by omega), ?_⟩)))
          rw [nI_clamp (by omega), hG.2.2.1 i h]
          exact Ys h
        · refine br_f (by decide) (br_f (by decide) (br_t rfl (pk_le (sz 6) i (fun h => Yn h) (fun h => ⟨vp_in_nI (by omega) (by omega), ?_⟩))))
          rw [nI_clamp (by omega), hG.2.2.2 i h]
          exact Ys h
theorem i_vc_state {k : Nat} {u : SX} {v : SY} (I : i_Rel k u v) (hk : k + 3 ≤ 1539) (v1 : Int32) : wpX_state (fun r => wpY_state (fun r' => r' = r ∧ i_Rel (k + 3) u v) v v1) u v1 := by
  refine me_get (P := fun u' v' => wpX_state (fun r => wpY_state (fun r' => r' = r ∧ i_Rel (k + 3) u v) v' v1) u' v1) I ?_
  intro tcap ncap lvs t len cur mks kd sz st cnt now par rd nt nl nc nm reg k1 op k2 wt ss cp rr cr cc fr kl tk f_spanFrom f_spanTo f_spanTextEnd f_spanKind a_text a_marks a_regKinds a_regLens a_regCodes a_nodeParent a_nodeRedo a_nodeLen a_nodeCur a_nodeMarks a_nodeText a_recCodes a_chKeys a_chText a_frameCodes a_frameLen a_framePos a_frameTimes a_frameLevel q a_texty a_marksy a_infoy a_heldy a_stripsy a_sizey a_kindy a_dueKeyy a_dueLevely hI hfr htk hT hG hN hT2 hG2 hN2 hQ
  have J : ∀ x : Int32, x = x ∧ i_Rel (k + 3) u v := fun x => ⟨rfl, I⟩
  obtain ⟨⟨a1, a2, a3, a4, a5, a6⟩, ⟨t1, t2, t3, t4⟩, ⟨g1, g2, g3, g4⟩, ⟨n1, n2, n3, n4⟩, hIK, hIS, hIF⟩ := hI
  rcases pk_ix v1 (n := 10) (by omega) with h | h | ⟨j, hj, rfl⟩
  · have n5 : ¬ 5 ≤ v1 := fun w => absurd (Int32.le_trans (show (0 : Int32) ≤ 5 by decide) w) (Int32.not_le.mpr h)
    have nk : ∀ x : Int32, 0 ≤ x → ¬ v1 = x := fun x hx e => by rw [e] at h; exact absurd hx (Int32.not_le.mpr h)
    exact br_t h (br_f n5 (br_f (nk 0 (by decide)) (br_f (nk 1 (by decide)) (br_f (nk 2 (by decide)) (br_f (nk 3 (by decide)) (br_f (nk 4 (by decide)) (J _)))))))
  · by_cases h0 : v1 < 0
    · exact absurd (Int32.le_trans (show (0 : Int32) ≤ nI 10 by decide) h) (Int32.not_le.mpr h0)
    · obtain ⟨j, hj, rfl⟩ := nI_of h0
      rw [nI_leI (by omega) hj] at h
      refine br_f h0 (br_t (nI_lt (a := 9) (by omega) hj) (br_t (nI_le (a := 5) (by omega) hj) ?_))
      exact pk_eq j 5 (fun e => by omega) (fun _ => pk_eq j 6 (fun e => by omega) (fun _ => pk_eq j 7 (fun e => by omega) (fun _ => pk_eq j 8 (fun e => by omega) (fun _ => pk_eq j 9 (fun e => by omega) (fun _ => J _)))))
  · have hjs : j = 0 ∨ j = 1 ∨ j = 2 ∨ j = 3 ∨ j = 4 ∨ j = 5 ∨ j = 6 ∨ j = 7 ∨ j = 8 ∨ j = 9 := by omega
    rcases hjs with rfl | rfl | rfl | rfl | rfl | rfl | rfl | rfl | rfl | rfl
    · exact br_f (by decide) (br_f (by decide) (br_t rfl (br_f (by decide) (br_t rfl (J _)))))
    · exact br_f (by decide) (br_f (by decide) (br_f (by decide) (br_t rfl (br_f (by decide) (br_f (by decide) (br_t rfl (J _)))))))
    · exact br_f (by decide) (br_f (by decide) (br_f (by decide) (br_f (by decide) (br_t rfl (br_f (by decide) (br_f (by decide) (br_f (by decide) (br_t rfl (J _)))))))))
    · exact br_f (by decide) (br_f (by decide) (br_f (by decide) (br_f (by decide) (br_f (by decide) (br_t rfl (br_f (by decide) (br_f (by decide) (br_f (by decide) (br_f (by decide) (br_t rfl (J _)))))))))))
    · exact br_f (by decide) (br_f (by decide) (br_f (by decide) (br_f (by decide) (br_f (by decide) (br_f (by decide) (br_t rfl (br_f (by decide) (br_f (by decide) (br_f (by decide) (br_f (by decide) (br_f (by decide) (br_t rfl (J _)))))))))))))
    · exact br_f (by decide) (br_f (by decide) (br_f (by decide) (br_f (by decide) (br_f (by decide) (br_f (by decide) (br_f (by decide) (br_t rfl (br_t (by decide) (br_t rfl (J _))))))))))
    · exact br_f (by decide) (br_f (by decide) (br_f (by decide) (br_f (by decide) (br_f (by decide) (br_f (by decide) (br_f (by decide) (br_f (by decide) (br_t rfl (br_t (by decide) (br_f (by decide) (br_t rfl (J _))))))))))))
    · exact br_f (by decide) (br_f (by decide) (br_f (by decide) (br_f (by decide) (br_f (by decide) (br_f (by decide) (br_f (by decide) (br_f (by decide) (br_f (by decide) (br_t rfl (br_t (by decide) (br_f (by decide) (br_f (by decide) (br_t rfl (J _))))))))))))))
    · exact br_f (by decide) (br_f (by decide) (br_f (by decide) (br_f (by decide) (br_f (by decide) (br_f (by decide) (br_f (by decide) (br_f (by decide) (br_f (by decide) (br_f (by decide) (br_t rfl (br_t (by decide) (br_f (by decide) (br_f (by decide) (br_f (by decide) (br_t rfl (J _))))))))))))))))
    · exact br_f (by decide) (br_f (by decide) (br_f (by decide) (br_f (by decide) (br_f (by decide) (br_f (by decide) (br_f (by decide) (br_f (by decide) (br_f (by decide) (br_f (by decide) (br_f (by decide) (br_t rfl (br_t (by decide) (br_f (by decide) (br_f (by decide) (br_f (by decide) (br_f (by decide) (br_t rfl (J _))))))))))))))))))
end
section
/-! the owed statements: press, jump, forget, the constructors -/
theorem i_vc_press {k : Nat} {u : SX} {v : SY} (I : i_Rel k u v) (hk : k + 3 ≤ 1539) (v1 : Int32) : wpX_press (fun r u' => wpY_press (fun r' v' => r' = r ∧ i_Rel (k + 3) u' v') v v1) u v1 := by
  refine me_get (P := fun u v => wpX_press (fun r u' => wpY_press (fun r' v' => r' = r ∧ i_Rel (k + 3) u' v') v v1) u v1) I ?_
  intro tcap ncap lvs t len cur mks kd sz st cnt now par rd nt nl nc nm reg k1 op k2 wt ss cp rr cr cc fr kl tk f_spanFrom f_spanTo f_spanTextEnd f_spanKind a_text a_marks a_regKinds a_regLens a_regCodes a_nodeParent a_nodeRedo a_nodeLen a_nodeCur a_nodeMarks a_nodeText a_recCodes a_chKeys a_chText a_frameCodes a_frameLen a_framePos a_frameTimes a_frameLevel q a_texty a_marksy a_infoy a_heldy a_stripsy a_sizey a_kindy a_dueKeyy a_dueLevely hI hfr htk hT hG hN hT2 hG2 hN2 hQ
  by_cases hv : v1 = 8 ∨ v1 = 10 ∨ v1 = 27 ∨ (¬ v1 < 32 ∧ v1 ≤ 126)
  · obtain ⟨n, n1, n2, rfl⟩ : ∃ n : Nat, 1 ≤ n ∧ n ≤ 126 ∧ v1 = nI n := by
      rcases hv with h | h | h | ⟨h1, h2⟩
      · exact ⟨8, by omega, by omega, h⟩
      · exact ⟨10, by omega, by omega, h⟩
      · exact ⟨27, by omega, by omega, h⟩
      · have h0 : ¬ v1 < 0 := fun w => h1 (Int32.lt_trans w (by decide))
        obtain ⟨j, hj, rfl⟩ := nI_of h0
        rw [show (32 : Int32) = nI 32 from rfl, nI_ltI hj (by omega)] at h1
        rw [show (126 : Int32) = nI 126 from rfl, nI_leI hj (by omega)] at h2
        exact ⟨j, by omega, h2, rfl⟩
    obtain ⟨res, c', i', f', t', hX, hY⟩ := me_pressed hI hfr htk n1 n2
    have kY : ∀ u', me_RX c' u' → wpY_press (fun r' v' => r' = res ∧ i_Rel (k + 3) u' v') (nI tcap, nI ncap, nI lvs, nI len, nI cur, nI now, nI cnt, nI q, nI k1, op, nI k2, wt, nI cp, nI cc, me_o reg, me_o ss, me_o rr, me_o cr, a_texty, a_marksy, a_infoy, a_heldy, a_stripsy, a_sizey, a_kindy, a_dueKeyy, a_dueLevely) (nI n) := by
      intro u' R'
      have k32 : wY_press_32 (fun r' v' => r' = res ∧ i_Rel (k + 3) u' v') (nI n) (nI tcap) (nI ncap) (nI lvs) (nI len) (nI cur) (nI now) (nI cnt) (nI q) (nI k1) op (nI k2) wt (nI cp) (nI cc) (me_o reg) (me_o ss) (me_o rr) (me_o cr) a_texty a_marksy a_infoy a_heldy a_stripsy a_sizey a_kindy a_dueKeyy a_dueLevely := hY _ q a_texty a_marksy a_infoy a_heldy a_stripsy a_sizey a_kindy a_dueKeyy a_dueLevely hT2 hG2 hN2 hQ (fun v' S' => ⟨rfl, c', i', f', t', R', S'⟩)
      refine br_c (fun _ => k32) (fun w1 => br_c (fun _ => k32) (fun w2 => br_c (fun _ => k32) (fun w3 => ?_)))
      have h := ((hv.resolve_left w1).resolve_left w2).resolve_left w3
      exact br_f h.1 (br_t h.2 k32)
    have k32 : wX_press_32 (fun r u' => wpY_press (fun r' v' => r' = r ∧ i_Rel (k + 3) u' v') (nI tcap, nI ncap, nI lvs, nI len, nI cur, nI now, nI cnt, nI q, nI k1, op, nI k2, wt, nI cp, nI cc, me_o reg, me_o ss, me_o rr, me_o cr, a_texty, a_marksy, a_infoy, a_heldy, a_stripsy, a_sizey, a_kindy, a_dueKeyy, a_dueLevely) (nI n)) (nI n) (nI tcap) (nI ncap) (nI lvs) (nI len) (nI cur) (nI cnt) (nI now) (me_o reg) (nI k1) op (nI k2) wt (me_o ss) (nI cp) (me_o rr) (nI (sz 4)) (nI (sz 5)) (nI (sz 6)) (me_o cr) (nI cc) (nI fr.length) (nI kl) f_spanFrom f_spanTo f_spanTextEnd f_spanKind a_text a_marks a_regKinds a_regLens a_regCodes a_nodeParent a_nodeRedo a_nodeLen a_nodeCur a_nodeMarks a_nodeText a_recCodes a_chKeys a_chText a_frameCodes a_frameLen a_framePos a_frameTimes a_frameLevel := hX _ _ _ _ _ a_text a_marks a_regKinds a_regLens a_regCodes a_nodeParent a_nodeRedo a_nodeLen a_nodeCur a_nodeMarks a_nodeText a_recCodes a_chKeys a_chText a_frameCodes a_frameLen a_framePos a_frameTimes a_frameLevel hT hG hN kY
    refine br_c (fun _ => k32) (fun w1 => br_c (fun _ => k32) (fun w2 => br_c (fun _ => k32) (fun w3 => ?_)))
    have h := ((hv.resolve_left w1).resolve_left w2).resolve_left w3
    exact br_f h.1 (br_t h.2 k32)
  · have w1 : ¬ v1 = 8 := fun w => hv (Or.inl w)
    have w2 : ¬ v1 = 10 := fun w => hv (Or.inr (Or.inl w))
    have w3 : ¬ v1 = 27 := fun w => hv (Or.inr (Or.inr (Or.inl w)))
    subst hfr
    have J : i_Rel (k + 3) (nI tcap, nI ncap, nI lvs, nI len, nI cur, nI cnt, nI now, me_o reg, nI k1, op, nI k2, wt, me_o ss, nI cp, me_o rr, nI (sz 4), nI (sz 5), nI (sz 6), me_o cr, nI cc, 0, nI kl, f_spanFrom, f_spanTo, f_spanTextEnd, f_spanKind, a_text, a_marks, a_regKinds, a_regLens, a_regCodes, a_nodeParent, a_nodeRedo, a_nodeLen, a_nodeCur, a_nodeMarks, a_nodeText, a_recCodes, a_chKeys, a_chText, a_frameCodes, a_frameLen, a_framePos, a_frameTimes, a_frameLevel) (nI tcap, nI ncap, nI lvs, nI len, nI cur, nI now, nI cnt, nI q, nI k1, op, nI k2, wt, nI cp, nI cc, me_o reg, me_o ss, me_o rr, me_o cr, a_texty, a_marksy, a_infoy, a_heldy, a_stripsy, a_sizey, a_kindy, a_dueKeyy, a_dueLevely) := ⟨(tcap, ncap, lvs, t, len, cur, mks, kd, sz, st, cnt, now, par, rd, nt, nl, nc, nm, reg, k1, op, k2, wt, ss, cp, rr, cr, cc, [], kl, tk), hI, rfl, htk, me_inX hT hG hN trivial, me_inY hT2 hG2 hN2 hQ⟩
    have kY : wpY_press (fun r' v' => r' = 2 ∧ i_Rel (k + 3) (nI tcap, nI ncap, nI lvs, nI len, nI cur, nI cnt, nI now, me_o reg, nI k1, op, nI k2, wt, me_o ss, nI cp, me_o rr, nI (sz 4), nI (sz 5), nI (sz 6), me_o cr, nI cc, 0, nI kl, f_spanFrom, f_spanTo, f_spanTextEnd, f_spanKind, a_text, a_marks, a_regKinds, a_regLens, a_regCodes, a_nodeParent, a_nodeRedo, a_nodeLen, a_nodeCur, a_nodeMarks, a_nodeText, a_recCodes, a_chKeys, a_chText, a_frameCodes, a_frameLen, a_framePos, a_frameTimes, a_frameLevel) v') (nI tcap, nI ncap, nI lvs, nI len, nI cur, nI now, nI cnt, nI q, nI k1, op, nI k2, wt, nI cp, nI cc, me_o reg, me_o ss, me_o rr, me_o cr, a_texty, a_marksy, a_infoy, a_heldy, a_stripsy, a_sizey, a_kindy, a_dueKeyy, a_dueLevely) v1 :=
      br_f w1 (br_f w2 (br_f w3 (br_c (fun _ => ⟨rfl, J⟩) (fun w4 => br_f (fun w5 => hv (Or.inr (Or.inr (Or.inr ⟨w4, w5⟩)))) ⟨rfl, J⟩))))
    exact br_f w1 (br_f w2 (br_f w3 (br_c (fun _ => kY) (fun w4 => br_f (fun w5 => hv (Or.inr (Or.inr (Or.inr ⟨w4, w5⟩)))) kY))))
theorem i_vc_jump {k : Nat} {u : SX} {v : SY} (I : i_Rel k u v) (hk : k + 3 ≤ 1539) (v1 : Int32) : wpX_jump (fun r u' => wpY_jump (fun r' v' => r' = r ∧ i_Rel (k + 3) u' v') v v1) u v1 := by
  refine me_get (P := fun u v => wpX_jump (fun r u' => wpY_jump (fun r' v' => r' = r ∧ i_Rel (k + 3) u' v') v v1) u v1) I ?_
  intro tcap ncap lvs t len cur mks kd sz st cnt now par rd nt nl nc nm reg k1 op k2 wt ss cp rr cr cc fr kl tk f_spanFrom f_spanTo f_spanTextEnd f_spanKind a_text a_marks a_regKinds a_regLens a_regCodes a_nodeParent a_nodeRedo a_nodeLen a_nodeCur a_nodeMarks a_nodeText a_recCodes a_chKeys a_chText a_frameCodes a_frameLen a_framePos a_frameTimes a_frameLevel q a_texty a_marksy a_infoy a_heldy a_stripsy a_sizey a_kindy a_dueKeyy a_dueLevely hI hfr htk hT hG hN hT2 hG2 hN2 hQ
  subst hfr htk
  have hI' := hI
  obtain ⟨⟨a1, a2, a3, a4, a5, a6⟩, hIT, hIG, hIN, hIK, hIS, hIF⟩ := hI
  have hIN' := hIN
  obtain ⟨n1, n2, n3, n4⟩ := hIN
  have J : i_Rel (k + 3) (nI tcap, nI ncap, nI lvs, nI len, nI cur, nI cnt, nI now, me_o reg, nI k1, op, nI k2, wt, me_o ss, nI cp, me_o rr, nI (sz 4), nI (sz 5), nI (sz 6), me_o cr, nI cc, 0, nI kl, f_spanFrom, f_spanTo, f_spanTextEnd, f_spanKind, a_text, a_marks, a_regKinds, a_regLens, a_regCodes, a_nodeParent, a_nodeRedo, a_nodeLen, a_nodeCur, a_nodeMarks, a_nodeText, a_recCodes, a_chKeys, a_chText, a_frameCodes, a_frameLen, a_framePos, a_frameTimes, a_frameLevel) (nI tcap, nI ncap, nI lvs, nI len, nI cur, nI now, nI cnt, nI q, nI k1, op, nI k2, wt, nI cp, nI cc, me_o reg, me_o ss, me_o rr, me_o cr, a_texty, a_marksy, a_infoy, a_heldy, a_stripsy, a_sizey, a_kindy, a_dueKeyy, a_dueLevely) := ⟨(tcap, ncap, lvs, t, len, cur, mks, kd, sz, st, cnt, now, par, rd, nt, nl, nc, nm, reg, k1, op, k2, wt, ss, cp, rr, cr, cc, [], kl, 0), hI', rfl, rfl, me_inX hT hG hN trivial, me_inY hT2 hG2 hN2 hQ⟩
  obtain ⟨r, hr0, mX, mY⟩ := me_mode hI'
  by_cases hr : r = 0
  · have hss := hr0 hr
    subst hr
    rcases pk_ix v1 (n := cnt) (by omega) with h | h | ⟨n, hn, rfl⟩
    · have kY : wpY_jump (fun r' v' => r' = 1 ∧ i_Rel (k + 3) (nI tcap, nI ncap, nI lvs, nI len, nI cur, nI cnt, nI now, me_o reg, nI k1, op, nI k2, wt, me_o ss, nI cp, me_o rr, nI (sz 4), nI (sz 5), nI (sz 6), me_o cr, nI cc, 0, nI kl, f_spanFrom, f_spanTo, f_spanTextEnd, f_spanKind, a_text, a_marks, a_regKinds, a_regLens, a_regCodes, a_nodeParent, a_nodeRedo, a_nodeLen, a_nodeCur, a_nodeMarks, a_nodeText, a_recCodes, a_chKeys, a_chText, a_frameCodes, a_frameLen, a_framePos, a_frameTimes, a_frameLevel) v') (nI tcap, nI ncap, nI lvs, nI len, nI cur, nI now, nI cnt, nI q, nI k1, op, nI k2, wt, nI cp, nI cc, me_o reg, me_o ss, me_o rr, me_o cr, a_texty, a_marksy, a_infoy, a_heldy, a_stripsy, a_sizey, a_kindy, a_dueKeyy, a_dueLevely) v1 := by
        unfold wpY_jump
        exact mY q a_texty a_marksy a_infoy a_heldy a_stripsy a_sizey a_kindy a_dueKeyy a_dueLevely _ (br_t rfl (br_t h ⟨rfl, J⟩))
      unfold wpX_jump
      exact mX _ _ _ _ a_text a_marks a_regKinds a_regLens a_regCodes a_nodeParent a_nodeRedo a_nodeLen a_nodeCur a_nodeMarks a_nodeText a_recCodes a_chKeys a_chText a_frameCodes a_frameLen a_framePos a_frameTimes a_frameLevel _ (br_t rfl (br_t h kY))
    · have kY : wpY_jump (fun r' v' => r' = 1 ∧ i_Rel (k + 3) (nI tcap, nI ncap, nI lvs, nI len, nI cur, nI cnt, nI now, me_o reg, nI k1, op, nI k2, wt, me_o ss, nI cp, me_o rr, nI (sz 4), nI (sz 5), nI (sz 6), me_o cr, nI cc, 0, nI kl, f_spanFrom, f_spanTo, f_spanTextEnd, f_spanKind, a_text, a_marks, a_regKinds, a_regLens, a_regCodes, a_nodeParent, a_nodeRedo, a_nodeLen, a_nodeCur, a_nodeMarks, a_nodeText, a_recCodes, a_chKeys, a_chText, a_frameCodes, a_frameLen, a_framePos, a_frameTimes, a_frameLevel) v') (nI tcap, nI ncap, nI lvs, nI len, nI cur, nI now, nI cnt, nI q, nI k1, op, nI k2, wt, nI cp, nI cc, me_o reg, me_o ss, me_o rr, me_o cr, a_texty, a_marksy, a_infoy, a_heldy, a_stripsy, a_sizey, a_kindy, a_dueKeyy, a_dueLevely) v1 := by
        unfold wpY_jump
        exact mY q a_texty a_marksy a_infoy a_heldy a_stripsy a_sizey a_kindy a_dueKeyy a_dueLevely _ (br_t rfl (br_c (fun _ => ⟨rfl, J⟩) (fun _ => br_f (Int32.not_lt.mpr h) ⟨rfl, J⟩)))
      unfold wpX_jump
      exact mX _ _ _ _ a_text a_marks a_regKinds a_regLens a_regCodes a_nodeParent a_nodeRedo a_nodeLen a_nodeCur a_nodeMarks a_nodeText a_recCodes a_chKeys a_chText a_frameCodes a_frameLen a_framePos a_frameTimes a_frameLevel _ (br_t rfl (br_c (fun _ => kY) (fun _ => br_f (Int32.not_lt.mpr h) kY)))
    · have hI2 := me_inv_jmp hI' hn
      have kY : ∀ u', me_RX (me_rest (me_jmp (tcap, ncap, lvs, t, len, cur, mks, kd, sz, st, cnt, now, par, rd, nt, nl, nc, nm, reg, k1, op, k2, wt, ss, cp, rr, cr, cc, [], kl, 0) n) n) u' → wpY_jump (fun r' v' => r' = 0 ∧ i_Rel (k + 3) u' v') (nI tcap, nI ncap, nI lvs, nI len, nI cur, nI now, nI cnt, nI q, nI k1, op, nI k2, wt, nI cp, nI cc, me_o reg, me_o ss, me_o rr, me_o cr, a_texty, a_marksy, a_infoy, a_heldy, a_stripsy, a_sizey, a_kindy, a_dueKeyy, a_dueLevely) (nI n) := by
        intro u' R'
        unfold wpY_jump
        refine mY q a_texty a_marksy a_infoy a_heldy a_stripsy a_sizey a_kindy a_dueKeyy a_dueLevely _ (br_t rfl (br_f (nI_pos (by omega)) (br_t (nI_lt hn (by omega)) ⟨n + 1, ?_⟩)))
        refine ye_jump_25 a4 hIN' (fun a_info' hN3 => ?_) n n rd a_infoy hn (Nat.le_refl _) rfl hN2
        refine ye_restoreC hn hI2 (me_inY hT2 hG2 hN3 hQ) (fun v' S' => ⟨rfl, _, me_inv_rest hn hss hI2, rfl, rfl, R', S'⟩)
      unfold wpX_jump
      refine mX _ _ _ _ a_text a_marks a_regKinds a_regLens a_regCodes a_nodeParent a_nodeRedo a_nodeLen a_nodeCur a_nodeMarks a_nodeText a_recCodes a_chKeys a_chText a_frameCodes a_frameLen a_framePos a_frameTimes a_frameLevel _ (br_t rfl (br_f (nI_pos (by omega)) (br_t (nI_lt hn (by omega)) ⟨9, ?_⟩)))
      refine xe_jump_25 a4 hIN' (fun a_redo' hN3 => ?_) 8 0 n rd a_nodeRedo (by omega) hn (by omega) rfl hN
      exact xe_restoreC hn hI2 (me_inX hT hG hN3 trivial) (me_allX fun f_textCap f_nodeCap f_levels f_len f_cur f_nodeCount f_node f_reg f_c1 f_op f_c2 f_waiting f_sessionStart f_copies f_recReg f_recLen f_chKeyLen f_chTextLen f_chReg f_chCount f_depth f_keyLevel f_spanFrom f_spanTo f_spanTextEnd f_spanKind a_text a_marks a_regKinds a_regLens a_regCodes a_nodeParent a_nodeRedo a_nodeLen a_nodeCur a_nodeMarks a_nodeText a_recCodes a_chKeys a_chText a_frameCodes a_frameLen a_framePos a_frameTimes a_frameLevel R' => kY (f_textCap, f_nodeCap, f_levels, f_len, f_cur, f_nodeCount, f_node, f_reg, f_c1, f_op, f_c2, f_waiting, f_sessionStart, f_copies, f_recReg, f_recLen, f_chKeyLen, f_chTextLen, f_chReg, f_chCount, f_depth, f_keyLevel, f_spanFrom, f_spanTo, f_spanTextEnd, f_spanKind, a_text, a_marks, a_regKinds, a_regLens, a_regCodes, a_nodeParent, a_nodeRedo, a_nodeLen, a_nodeCur, a_nodeMarks, a_nodeText, a_recCodes, a_chKeys, a_chText, a_frameCodes, a_frameLen, a_framePos, a_frameTimes, a_frameLevel) R')
  · have kY : wpY_jump (fun r' v' => r' = 1 ∧ i_Rel (k + 3) (nI tcap, nI ncap, nI lvs, nI len, nI cur, nI cnt, nI now, me_o reg, nI k1, op, nI k2, wt, me_o ss, nI cp, me_o rr, nI (sz 4), nI (sz 5), nI (sz 6), me_o cr, nI cc, 0, nI kl, f_spanFrom, f_spanTo, f_spanTextEnd, f_spanKind, a_text, a_marks, a_regKinds, a_regLens, a_regCodes, a_nodeParent, a_nodeRedo, a_nodeLen, a_nodeCur, a_nodeMarks, a_nodeText, a_recCodes, a_chKeys, a_chText, a_frameCodes, a_frameLen, a_framePos, a_frameTimes, a_frameLevel) v') (nI tcap, nI ncap, nI lvs, nI len, nI cur, nI now, nI cnt, nI q, nI k1, op, nI k2, wt, nI cp, nI cc, me_o reg, me_o ss, me_o rr, me_o cr, a_texty, a_marksy, a_infoy, a_heldy, a_stripsy, a_sizey, a_kindy, a_dueKeyy, a_dueLevely) v1 := by
      unfold wpY_jump
      exact mY q a_texty a_marksy a_infoy a_heldy a_stripsy a_sizey a_kindy a_dueKeyy a_dueLevely _ (br_f hr ⟨rfl, J⟩)
    unfold wpX_jump
    exact mX _ _ _ _ a_text a_marks a_regKinds a_regLens a_regCodes a_nodeParent a_nodeRedo a_nodeLen a_nodeCur a_nodeMarks a_nodeText a_recCodes a_chKeys a_chText a_frameCodes a_frameLen a_framePos a_frameTimes a_frameLevel _ (br_f hr kY)
theorem i_vc_forget {k : Nat} {u : SX} {v : SY} (I : i_Rel k u v) (hk : k + 3 ≤ 1539) : wpX_forget (fun r u' => wpY_forget (fun r' v' => r' = r ∧ i_Rel (k + 3) u' v') v) u := by
  refine me_get (P := fun u v => wpX_forget (fun r u' => wpY_forget (fun r' v' => r' = r ∧ i_Rel (k + 3) u' v') v) u) I ?_
  intro tcap ncap lvs t len cur mks kd sz st cnt now par rd nt nl nc nm reg k1 op k2 wt ss cp rr cr cc fr kl tk f_spanFrom f_spanTo f_spanTextEnd f_spanKind a_text a_marks a_regKinds a_regLens a_regCodes a_nodeParent a_nodeRedo a_nodeLen a_nodeCur a_nodeMarks a_nodeText a_recCodes a_chKeys a_chText a_frameCodes a_frameLen a_framePos a_frameTimes a_frameLevel q a_texty a_marksy a_infoy a_heldy a_stripsy a_sizey a_kindy a_dueKeyy a_dueLevely hI hfr htk hT hG hN hT2 hG2 hN2 hQ
  subst hfr htk
  have hl : len ≤ 32 := Nat.le_trans hI.2.1.1 hI.1.2.1
  have J : i_Rel (k + 3) (nI tcap, nI ncap, nI lvs, nI len, nI cur, nI cnt, nI now, me_o reg, nI k1, op, nI k2, wt, me_o ss, nI cp, me_o rr, nI (sz 4), nI (sz 5), nI (sz 6), me_o cr, nI cc, 0, nI kl, f_spanFrom, f_spanTo, f_spanTextEnd, f_spanKind, a_text, a_marks, a_regKinds, a_regLens, a_regCodes, a_nodeParent, a_nodeRedo, a_nodeLen, a_nodeCur, a_nodeMarks, a_nodeText, a_recCodes, a_chKeys, a_chText, a_frameCodes, a_frameLen, a_framePos, a_frameTimes, a_frameLevel) (nI tcap, nI ncap, nI lvs, nI len, nI cur, nI now, nI cnt, nI q, nI k1, op, nI k2, wt, nI cp, nI cc, me_o reg, me_o ss, me_o rr, me_o cr, a_texty, a_marksy, a_infoy, a_heldy, a_stripsy, a_sizey, a_kindy, a_dueKeyy, a_dueLevely) := ⟨(tcap, ncap, lvs, t, len, cur, mks, kd, sz, st, cnt, now, par, rd, nt, nl, nc, nm, reg, k1, op, k2, wt, ss, cp, rr, cr, cc, [], kl, 0), hI, rfl, rfl, me_inX hT hG hN trivial, me_inY hT2 hG2 hN2 hQ⟩
  obtain ⟨r, hr0, mX, mY⟩ := me_mode hI
  by_cases hr : r = 0
  · subst hr
    have kY : ∀ u', me_RX (me_plant (tcap, ncap, lvs, t, len, cur, mks, kd, sz, st, cnt, now, par, rd, nt, nl, nc, nm, reg, k1, op, k2, wt, ss, cp, rr, cr, cc, [], kl, 0)) u' → wpY_forget (fun r' v' => r' = 0 ∧ i_Rel (k + 3) u' v') (nI tcap, nI ncap, nI lvs, nI len, nI cur, nI now, nI cnt, nI q, nI k1, op, nI k2, wt, nI cp, nI cc, me_o reg, me_o ss, me_o rr, me_o cr, a_texty, a_marksy, a_infoy, a_heldy, a_stripsy, a_sizey, a_kindy, a_dueKeyy, a_dueLevely) := by
      intro u' R'
      unfold wpY_forget
      refine mY q a_texty a_marksy a_infoy a_heldy a_stripsy a_sizey a_kindy a_dueKeyy a_dueLevely _ (br_t rfl ?_)
      exact ye_plantC hl hT2 hG2 hQ (me_allY fun f_cap f_nodeCap f_levels f_len f_cur f_now f_nodeCount f_queued f_c1 f_op f_c2 f_waits f_copies f_recCount f_reg f_begin f_recording f_recReg a_text a_marks a_info a_held a_strips a_size a_kind a_dueKey a_dueLevel S' => ⟨rfl, _, me_inv_plant hI, rfl, rfl, R', S'⟩)
    unfold wpX_forget
    refine mX _ _ _ _ a_text a_marks a_regKinds a_regLens a_regCodes a_nodeParent a_nodeRedo a_nodeLen a_nodeCur a_nodeMarks a_nodeText a_recCodes a_chKeys a_chText a_frameCodes a_frameLen a_framePos a_frameTimes a_frameLevel _ (br_t rfl ?_)
    exact xe_plantC hl (me_inX hT hG hN trivial) (me_allX fun f_textCap f_nodeCap f_levels f_len f_cur f_nodeCount f_node f_reg f_c1 f_op f_c2 f_waiting f_sessionStart f_copies f_recReg f_recLen f_chKeyLen f_chTextLen f_chReg f_chCount f_depth f_keyLevel f_spanFrom f_spanTo f_spanTextEnd f_spanKind a_text a_marks a_regKinds a_regLens a_regCodes a_nodeParent a_nodeRedo a_nodeLen a_nodeCur a_nodeMarks a_nodeText a_recCodes a_chKeys a_chText a_frameCodes a_frameLen a_framePos a_frameTimes a_frameLevel R' => kY (f_textCap, f_nodeCap, f_levels, f_len, f_cur, f_nodeCount, f_node, f_reg, f_c1, f_op, f_c2, f_waiting, f_sessionStart, f_copies, f_recReg, f_recLen, f_chKeyLen, f_chTextLen, f_chReg, f_chCount, f_depth, f_keyLevel, f_spanFrom, f_spanTo, f_spanTextEnd, f_spanKind, a_text, a_marks, a_regKinds, a_regLens, a_regCodes, a_nodeParent, a_nodeRedo, a_nodeLen, a_nodeCur, a_nodeMarks, a_nodeText, a_recCodes, a_chKeys, a_chText, a_frameCodes, a_frameLen, a_framePos, a_frameTimes, a_frameLevel) R')
  · have kY : wpY_forget (fun r' v' => r' = 1 ∧ i_Rel (k + 3) (nI tcap, nI ncap, nI lvs, nI len, nI cur, nI cnt, nI now, me_o reg, nI k1, op, nI k2, wt, me_o ss, nI cp, me_o rr, nI (sz 4), nI (sz 5), nI (sz 6), me_o cr, nI cc, 0, nI kl, f_spanFrom, f_spanTo, f_spanTextEnd, f_spanKind, a_text, a_marks, a_regKinds, a_regLens, a_regCodes, a_nodeParent, a_nodeRedo, a_nodeLen, a_nodeCur, a_nodeMarks, a_nodeText, a_recCodes, a_chKeys, a_chText, a_frameCodes, a_frameLen, a_framePos, a_frameTimes, a_frameLevel) v') (nI tcap, nI ncap, nI lvs, nI len, nI cur, nI now, nI cnt, nI q, nI k1, op, nI k2, wt, nI cp, nI cc, me_o reg, me_o ss, me_o rr, me_o cr, a_texty, a_marksy, a_infoy, a_heldy, a_stripsy, a_sizey, a_kindy, a_dueKeyy, a_dueLevely) := by
      unfold wpY_forget
      exact mY q a_texty a_marksy a_infoy a_heldy a_stripsy a_sizey a_kindy a_dueKeyy a_dueLevely _ (br_f hr ⟨rfl, J⟩)
    unfold wpX_forget
    exact mX _ _ _ _ a_text a_marks a_regKinds a_regLens a_regCodes a_nodeParent a_nodeRedo a_nodeLen a_nodeCur a_nodeMarks a_nodeText a_recCodes a_chKeys a_chText a_frameCodes a_frameLen a_framePos a_frameTimes a_frameLevel _ (br_f hr kY)
/-- the state before the tree is planted -/
def me_c0 (tcap ncap lvs cnt : Nat) : me_CC := (tcap, ncap, lvs, fun _ => 0, 0, 0, fun _ => none, fun _ => 0, fun _ => 0, fun _ _ => 0, cnt, 0, fun _ => none, fun _ => none, fun _ _ => 0, fun _ => 0, fun _ => 0, fun _ _ => none, none, 0, 0, 0, 0, none, 0, none, none, 0, [], 0, 0)
theorem me_inv_c0 {tcap ncap lvs : Nat} (hA : me_IA tcap ncap lvs) : me_Inv (me_c0 tcap ncap lvs 1) := by
  have hT : me_IT tcap (fun _ => 0) 0 0 (fun _ => none) := ⟨Nat.zero_le _, Nat.le_refl _, fun i hi => by omega, fun m _ j h => by cases h⟩
  refine ⟨hA, hT, ⟨fun r _ => ⟨Nat.zero_le _, fun h => absurd (show (0 : Nat) = 1 from h) (by decide)⟩, fun r _ => ⟨Nat.zero_le _, fun i hi => absurd hi (Nat.not_lt_zero i)⟩, fun i hi => absurd hi (Nat.not_lt_zero i), Or.inl rfl⟩, ⟨by omega, by have := hA.2.2.1; omega, by omega, fun k hk => ⟨hT, fun _ => rfl, fun h => by omega, fun j h => by cases h⟩⟩, ⟨fun r h => (by cases h), by omega, by omega, Or.inl rfl, Or.inl rfl, fun h => absurd h (by decide)⟩, ⟨fun s h => (by cases h), by omega, fun r h => (by cases h), fun r h => (by cases h), by omega⟩, fun f h => by cases h⟩
theorem i_vc0 (k0 : Int32) (k1 : Int32) (k2 : Int32) : wpX_init (fun u => wpY_init (fun v => i_Rel 3 u v) k0 k1 k2) k0 k1 k2 := by
  obtain ⟨tcap, b1, b2, h0⟩ := me_clampN k0 8 32 (by omega) (by omega)
  obtain ⟨ncap, b3, b4, h1⟩ := me_clampN k1 2 8 (by omega) (by omega)
  obtain ⟨lvs, b5, b6, h2⟩ := me_clampN k2 1 4 (by omega) (by omega)
  have hA : me_IA tcap ncap lvs := ⟨b1, b2, b3, b4, b5, b6⟩
  have hI1 := me_inv_plant (me_inv_c0 hA)
  have hI : me_Inv (me_plant (me_c0 tcap ncap lvs 0)) := hI1
  have hG0 : me_GY (fun _ => 0) (fun _ => 0) (fun _ _ => 0) (fun _ => 0) (fun _ => 0) (fun _ => 0) := ⟨fun r _ => ⟨rfl, fun i hi => absurd hi (Nat.not_lt_zero i)⟩, fun r _ => rfl⟩
  have hGX0 : me_GX (fun _ => 0) (fun _ => 0) (fun _ _ => 0) (fun _ => 0) (fun _ => 0) (fun _ => 0) (fun _ => 0) (fun _ => 0) (fun _ => 0) := ⟨fun r _ => ⟨rfl, rfl, fun i hi => absurd hi (Nat.not_lt_zero i)⟩, fun i hi => absurd hi (Nat.not_lt_zero i), fun i hi => absurd hi (Nat.not_lt_zero i), fun i hi => absurd hi (Nat.not_lt_zero i)⟩
  have kY : ∀ u, me_RX (me_plant (me_c0 tcap ncap lvs 0)) u → wpY_init (fun v => i_Rel 3 u v) k0 k1 k2 := by
    intro u R
    have k168 : wY_init_168 (fun v => i_Rel 3 u v) (nI lvs) (nI tcap) (nI ncap) 0 0 0 0 0 0 0 0 0 0 0 0 (-1) (-1) (-1) (-1) (fun _ => 0) (fun _ => 0) (fun _ => 0) (fun _ => 0) (fun _ => 0) (fun _ => 0) (fun _ => 0) (fun _ => 0) (fun _ => 0) := by
      refine nm_e (nm_e (nm_e ?_))
      unfold wpY_forget
      refine br_t (by decide) (br_f (by decide) (br_t rfl (br_t rfl (br_t rfl (br_t rfl (br_t rfl ?_))))))
      have hT0 : me_TX (fun _ => 0) 0 (fun _ => none) (fun _ => 0) (upd (upd (upd (fun _ => 0) 0 (-1)) 1 (-1)) 2 (-1)) := ⟨fun i hi => by omega, fun m hm => by
        have hm3 : m = 0 ∨ m = 1 ∨ m = 2 := by omega
        rcases hm3 with rfl | rfl | rfl
        · rw [pk_un (by omega), pk_un (by omega), pk_us]; rfl
        · rw [pk_un (by omega), pk_us]; rfl
        · rw [pk_us]; rfl⟩
      exact ye_plantC (tcap := tcap) (ncap := ncap) (lvs := lvs) (cur := 0) (cnt := 0) (now := 0) (par := fun _ => none) (rd := fun _ => none) (nt := fun _ _ => 0) (nl := fun _ => 0) (nc := fun _ => 0) (nm := fun _ _ => none) (reg := none) (k1 := 0) (op := 0) (k2 := 0) (wt := 0) (ss := none) (cp := 0) (rr := none) (cr := none) (cc := 0) (fr := []) (kl := 0) (tk := 0) (q := 0) (Nat.zero_le _) hT0 hG0 ⟨by omega, Nat.zero_le _, Or.inl rfl, fun i hi => by omega⟩ (me_allY fun f_cap f_nodeCap f_levels f_len f_cur f_now f_nodeCount f_queued f_c1 f_op f_c2 f_waits f_copies f_recCount f_reg f_begin f_recording f_recReg a_text a_marks a_info a_held a_strips a_size a_kind a_dueKey a_dueLevel S' => ⟨_, hI, rfl, rfl, R, S'⟩)
    have k145 : wY_init_145 (fun v => i_Rel 3 u v) k2 (nI ncap) (nI tcap) 0 0 0 0 0 0 0 0 0 0 0 0 0 (-1) (-1) (-1) (-1) (fun _ => 0) (fun _ => 0) (fun _ => 0) (fun _ => 0) (fun _ => 0) (fun _ => 0) (fun _ => 0) (fun _ => 0) (fun _ => 0) := by
      rcases h2 with ⟨w1, e⟩ | ⟨w1, w2, e⟩ | ⟨w1, w2, e⟩
      · rw [e] at k168; exact br_f w1 k168
      · rw [e] at k168; exact br_t w1 (br_f w2 k168)
      · rw [← e] at k168; exact br_t w1 (br_t w2 k168)
    have k120 : wY_init_120 (fun v => i_Rel 3 u v) k1 k2 (nI tcap) 0 0 0 0 0 0 0 0 0 0 0 0 0 0 (-1) (-1) (-1) (-1) (fun _ => 0) (fun _ => 0) (fun _ => 0) (fun _ => 0) (fun _ => 0) (fun _ => 0) (fun _ => 0) (fun _ => 0) (fun _ => 0) := by
      rcases h1 with ⟨w1, e⟩ | ⟨w1, w2, e⟩ | ⟨w1, w2, e⟩
      · rw [e] at k145; exact br_f w1 k145
      · rw [e] at k145; exact br_t w1 (br_f w2 k145)
      · rw [← e] at k145; exact br_t w1 (br_t w2 k145)
    rcases h0 with ⟨w1, e⟩ | ⟨w1, w2, e⟩ | ⟨w1, w2, e⟩
    · rw [e] at k120; exact br_f w1 k120
    · rw [e] at k120; exact br_t w1 (br_f w2 k120)
    · rw [← e] at k120; exact br_t w1 (br_t w2 k120)
  unfold wpX_init
  refine xe_clampN (lo := 8) (hi := 32) rfl rfl h0 (xe_clampN (lo := 2) (hi := 8) rfl rfl h1 (xe_clampN (lo := 1) (hi := 4) rfl rfl h2 ⟨4, ?_⟩))
  refine xe_init_210 (fun m hm => ?_) 3 0 (fun _ => 0) (by omega) (fun m hm => by omega)
  exact xe_plantC (tcap := tcap) (ncap := ncap) (lvs := lvs) (t := fun _ => 0) (len := 0) (cur := 0) (mks := fun _ => none) (kd := fun _ => 0) (sz := fun _ => 0) (st := fun _ _ => 0) (cnt := 0) (now := 0) (par := fun _ => none) (rd := fun _ => none) (nt := fun _ _ => 0) (nl := fun _ => 0) (nc := fun _ => 0) (nm := fun _ _ => none) (reg := none) (k1 := 0) (op := 0) (k2 := 0) (wt := 0) (ss := none) (cp := 0) (rr := none) (cr := none) (cc := 0) (fr := []) (kl := 0) (tk := 0) (by omega) (me_inX ⟨fun i hi => by omega, fun j hj => hm j hj⟩ hGX0 (fun k hk => by omega) trivial) (fun u R => kY u R)
end
