section
/-! ===== bits of an Int32 (began as rows of BITS.to-paste, renamed) ===== -/
def tq_bt (x : Int32) (i : Nat) : Bool := x.toBitVec.getLsbD i
theorem tq_bext {x y : Int32} (h : ∀ i, i < 32 → tq_bt x i = tq_bt y i) : x = y := Int32.toBitVec_inj.mp (BitVec.eq_of_getLsbD_eq (fun i hi => h i hi))
theorem tq_bor (x y : Int32) (i : Nat) : tq_bt (x ||| y) i = (tq_bt x i || tq_bt y i) := by unfold tq_bt; rw [Int32.toBitVec_or, BitVec.getLsbD_or]
theorem tq_band (x y : Int32) (i : Nat) : tq_bt (x &&& y) i = (tq_bt x i && tq_bt y i) := by unfold tq_bt; rw [Int32.toBitVec_and, BitVec.getLsbD_and]
theorem tq_bxor (x y : Int32) (i : Nat) : tq_bt (x ^^^ y) i = (tq_bt x i ^^ tq_bt y i) := by unfold tq_bt; rw [Int32.toBitVec_xor, BitVec.getLsbD_xor]
theorem tq_bbig {x : Int32} {i : Nat} (h : 32 ≤ i) : tq_bt x i = false := BitVec.getLsbD_of_ge _ _ h
theorem tq_bm1 : ∀ i, i < 32 → tq_bt (-1) i = true := by decide +kernel
theorem tq_b1 : ∀ i, i < 32 → tq_bt 1 i = decide (i = 0) := by decide +kernel
theorem tq_b0 (i : Nat) : tq_bt 0 i = false := BitVec.getLsbD_zero
theorem tq_sl : ∀ n, n < 32 → ((nI n &&& 31).toBitVec.smod 32).toNat = n := by decide +kernel
theorem tq_bshl (n : Nat) (hn : n < 32) (x : Int32) {i : Nat} (hi : i < 32) : tq_bt (x <<< (nI n &&& 31)) i = (decide (n ≤ i) && tq_bt x (i - n)) := by
  unfold tq_bt
  rw [Int32.toBitVec_shiftLeft]
  show (x.toBitVec <<< ((nI n &&& 31).toBitVec.smod 32).toNat).getLsbD i = _
  rw [tq_sl n hn, BitVec.getLsbD_shiftLeft]
  rcases Nat.lt_or_ge i n with h | h
  · simp [h, Nat.not_le.mpr h]
  · simp [hi, h, Nat.not_lt.mpr h]
theorem tq_bsshr (n : Nat) (hn : n < 32) (x : Int32) {i : Nat} (hi : i < 32) : tq_bt (x >>> (nI n &&& 31)) i = if n + i < 32 then tq_bt x (n + i) else tq_bt x 31 := by
  unfold tq_bt
  rw [Int32.toBitVec_shiftRight]
  show (x.toBitVec.sshiftRight ((nI n &&& 31).toBitVec.smod 32).toNat).getLsbD i = _
  rw [tq_sl n hn, BitVec.getLsbD_sshiftRight, BitVec.msb_eq_getLsbD_last]
  simp [hi]
theorem tq_one {n : Nat} (hn : n < 32) (i : Nat) : tq_bt ((1 : Int32) <<< (nI n &&& 31)) i = decide (i = n) := by
  rcases Nat.lt_or_ge i 32 with h | h
  · rw [tq_bshl n hn 1 h, tq_b1 (i - n) (by omega)]
    by_cases e : i = n
    · subst e
      simp
    · rw [decide_eq_false e]
      by_cases l : n ≤ i
      · rw [decide_eq_false (show ¬ i - n = 0 by omega), Bool.and_false]
      · rw [decide_eq_false l, Bool.false_and]
  · rw [tq_bbig h, decide_eq_false (by omega)]
theorem tq_oneT {n : Nat} (hn : n < 32) (i : Nat) : tq_bt ((1 : Int32) <<< (nI n &&& 31)) i = true ↔ i = n := by
  rw [tq_one hn, decide_eq_true_iff]
theorem tq_orT (x y : Int32) (i : Nat) : tq_bt (x ||| y) i = true ↔ tq_bt x i = true ∨ tq_bt y i = true := by
  rw [tq_bor, Bool.or_eq_true]
theorem tq_andT (x y : Int32) (i : Nat) : tq_bt (x &&& y) i = true ↔ tq_bt x i = true ∧ tq_bt y i = true := by
  rw [tq_band, Bool.and_eq_true]
theorem tq_bit_t {x : Int32} {c : Nat} (hc : c < 32) (h : tq_bt x c = true) : (x >>> (nI c &&& 31)) &&& 1 = 1 := by
  apply tq_bext
  intro i hi
  rw [tq_band, tq_b1 i hi]
  by_cases e : i = 0
  · subst e
    rw [tq_bsshr c hc x hi, if_pos (by omega), Nat.add_zero, h]
    rfl
  · rw [decide_eq_false e, Bool.and_false]
theorem tq_bit_f {x : Int32} {c : Nat} (hc : c < 32) (h : tq_bt x c = false) : (x >>> (nI c &&& 31)) &&& 1 = 0 := by
  apply tq_bext
  intro i hi
  rw [tq_band, tq_b1 i hi, tq_b0]
  by_cases e : i = 0
  · subst e
    rw [tq_bsshr c hc x hi, if_pos (by omega), Nat.add_zero, h]
    rfl
  · rw [decide_eq_false e, Bool.and_false]
theorem tq_bit {x : Int32} {c : Nat} (hc : c < 32) : (x >>> (nI c &&& 31)) &&& 1 = 1 ↔ tq_bt x c = true := by
  constructor
  · intro h
    cases e : tq_bt x c with
    | true => rfl
    | false =>
      rw [tq_bit_f hc e] at h
      exact absurd h (by decide)
  · exact tq_bit_t hc
theorem tq_bit2 {x y : Int32} {c : Nat} (hc : c < 32) : ((x >>> (nI c &&& 31)) &&& (y >>> (nI c &&& 31))) &&& 1 = 1 ↔ tq_bt x c = true ∧ tq_bt y c = true := by
  have e : ((x >>> (nI c &&& 31)) &&& (y >>> (nI c &&& 31))) &&& 1 = ((x &&& y) >>> (nI c &&& 31)) &&& 1 := by
    apply tq_bext
    intro i hi
    rw [tq_band, tq_band, tq_band, tq_bsshr c hc x hi, tq_bsshr c hc y hi, tq_bsshr c hc (x &&& y) hi, tq_band, tq_band]
    by_cases l : c + i < 32
    · rw [if_pos l, if_pos l, if_pos l]
    · rw [if_neg l, if_neg l, if_neg l]
  rw [e, tq_bit hc, tq_andT]
theorem tq_bitN {x y : Int32} {c : Nat} (hc : c < 32) : ((x &&& (y ^^^ (-1))) >>> (nI c &&& 31)) &&& 1 = 1 ↔ tq_bt x c = true ∧ ¬ tq_bt y c = true := by
  rw [tq_bit hc, tq_andT, tq_bxor, tq_bm1 c hc]
  cases tq_bt y c <;> simp
/-! ===== counts ===== -/
noncomputable def tq_cn (P : Nat → Prop) : Nat → Nat
  | 0 => 0
  | n + 1 => tq_cn P n + @ite Nat (P n) (Classical.propDecidable (P n)) 1 0
theorem tq_cn_t {P : Nat → Prop} {n : Nat} (h : P n) : tq_cn P (n + 1) = tq_cn P n + 1 := by
  show tq_cn P n + @ite Nat (P n) (Classical.propDecidable (P n)) 1 0 = _
  rw [if_pos h]
theorem tq_cn_f {P : Nat → Prop} {n : Nat} (h : ¬ P n) : tq_cn P (n + 1) = tq_cn P n := by
  show tq_cn P n + @ite Nat (P n) (Classical.propDecidable (P n)) 1 0 = _
  rw [if_neg h]
  rfl
theorem tq_cn_le (P : Nat → Prop) : ∀ n, tq_cn P n ≤ n
  | 0 => Nat.le_refl 0
  | n + 1 => by
    have := tq_cn_le P n
    by_cases h : P n
    · rw [tq_cn_t h]; omega
    · rw [tq_cn_f h]; omega
theorem tq_cn_ext {P Q : Nat → Prop} : ∀ {n : Nat}, (∀ i, i < n → (P i ↔ Q i)) → tq_cn P n = tq_cn Q n
  | 0, _ => rfl
  | n + 1, h => by
    have ih := tq_cn_ext (n := n) (fun i hi => h i (by omega))
    by_cases p : P n
    · rw [tq_cn_t p, tq_cn_t ((h n (by omega)).mp p), ih]
    · rw [tq_cn_f p, tq_cn_f (fun q => p ((h n (by omega)).mpr q)), ih]
theorem tq_cn_mono {P Q : Nat → Prop} : ∀ {n : Nat}, (∀ i, i < n → P i → Q i) → tq_cn P n ≤ tq_cn Q n
  | 0, _ => Nat.le_refl 0
  | n + 1, h => by
    have ih := tq_cn_mono (n := n) (fun i hi => h i (by omega))
    by_cases p : P n
    · rw [tq_cn_t p, tq_cn_t (h n (by omega) p)]; omega
    · rw [tq_cn_f p]
      by_cases q : Q n
      · rw [tq_cn_t q]; omega
      · rw [tq_cn_f q]; omega
theorem tq_cn_ins {P Q : Nat → Prop} {c : Nat} (hp : ¬ P c) (hq : Q c) : ∀ {n : Nat}, c < n → (∀ i, i < n → i ≠ c → (P i ↔ Q i)) → tq_cn Q n = tq_cn P n + 1
  | 0, hc, _ => absurd hc (by omega)
  | n + 1, hc, h => by
    by_cases e : n = c
    · subst e
      rw [tq_cn_t hq, tq_cn_f hp, tq_cn_ext (n := n) (fun i hi => h i (by omega) (by omega))]
    · have ih := tq_cn_ins hp hq (n := n) (by omega) (fun i hi hn => h i (by omega) hn)
      by_cases p : P n
      · rw [tq_cn_t p, tq_cn_t ((h n (by omega) e).mp p), ih]
      · rw [tq_cn_f p, tq_cn_f (fun q => p ((h n (by omega) e).mpr q)), ih]
theorem tq_cn_lt {P Q : Nat → Prop} {n c : Nat} (hc : c < n) (hp : ¬ P c) (hq : Q c) (h : ∀ i, i < n → P i → Q i) : tq_cn P n < tq_cn Q n := by
  have a : tq_cn (fun i => P i ∨ i = c) n = tq_cn P n + 1 := tq_cn_ins hp (Or.inr rfl) hc (fun i _ hn => ⟨Or.inl, fun z => z.resolve_right hn⟩)
  have b : tq_cn (fun i => P i ∨ i = c) n ≤ tq_cn Q n := tq_cn_mono (fun i hi z => z.elim (h i hi) (fun e => by rw [e]; exact hq))
  omega
theorem tq_cn_full {P : Nat → Prop} : ∀ {n : Nat}, n ≤ tq_cn P n → ∀ i, i < n → P i
  | 0, _ => fun i hi => absurd hi (by omega)
  | n + 1, h => by
    have l := tq_cn_le P n
    by_cases p : P n
    · rw [tq_cn_t p] at h
      intro i hi
      by_cases e : i = n
      · rw [e]; exact p
      · exact tq_cn_full (n := n) (by omega) i (by omega)
    · rw [tq_cn_f p] at h
      omega
theorem tq_cn_rel {P : Nat → Prop} {ρ : Nat → Nat → Prop} {N : Nat} : ∀ (s : Nat) (Q : Nat → Prop), (∀ a, a < s → P a → ∃ c, c < N ∧ Q c ∧ ρ a c) → (∀ a b c, a < s → b < s → P a → P b → ρ a c → ρ b c → a = b) → tq_cn P s ≤ tq_cn Q N
  | 0, _, _, _ => Nat.zero_le _
  | s + 1, Q, h, u => by
    by_cases p : P s
    · obtain ⟨c, hc, qc, rc⟩ := h s (by omega) p
      have ih := tq_cn_rel (P := P) (ρ := ρ) (N := N) s (fun i => Q i ∧ i ≠ c)
        (fun a ha pa => by
          obtain ⟨d, hd, qd, rd⟩ := h a (by omega) pa
          refine ⟨d, hd, ⟨qd, fun e => ?_⟩, rd⟩
          rw [e] at rd
          have := u a s c (by omega) (by omega) pa p rd rc
          omega)
        (fun a b d ha hb => u a b d (by omega) (by omega))
      have i := tq_cn_ins (P := fun i => Q i ∧ i ≠ c) (Q := Q) (c := c) (fun z => z.2 rfl) qc hc (fun i _ hn => ⟨fun z => z.1, fun z => ⟨z, hn⟩⟩)
      rw [tq_cn_t p]
      omega
    · rw [tq_cn_f p]
      exact tq_cn_rel s Q (fun a ha pa => h a (by omega) pa) (fun a b d ha hb => u a b d (by omega) (by omega))
/-- two counts joined by a relation that is total and one to one both ways -/
theorem tq_cn_bij {P Q : Nat → Prop} {ρ : Nat → Nat → Prop} {s N : Nat} (h1 : ∀ a, a < s → P a → ∃ c, c < N ∧ Q c ∧ ρ a c) (h2 : ∀ c, c < N → Q c → ∃ a, a < s ∧ P a ∧ ρ a c)
    (u1 : ∀ a b c, a < s → b < s → P a → P b → ρ a c → ρ b c → a = b) (u2 : ∀ a c d, c < N → d < N → Q c → Q d → ρ a c → ρ a d → c = d) : tq_cn P s = tq_cn Q N :=
  Nat.le_antisymm (tq_cn_rel s Q h1 u1) (tq_cn_rel (ρ := fun c a => ρ a c) N P h2 (fun c d a hc hd qc qd => u2 a c d hc hd qc qd))
end
section
/-! ===== maps of three points as codes below 27 ===== -/
def tq_dg (c p : Nat) : Nat := if p = 0 then c / 9 else if p = 1 then c / 3 % 3 else c % 3
def tq_tm (f g : Nat) : Nat := 9 * tq_dg g (tq_dg f 0) + 3 * tq_dg g (tq_dg f 1) + tq_dg g (tq_dg f 2)
def tq_rk (c : Nat) : Nat := (if tq_dg c 0 = 0 ∨ tq_dg c 1 = 0 ∨ tq_dg c 2 = 0 then 1 else 0) + (if tq_dg c 0 = 1 ∨ tq_dg c 1 = 1 ∨ tq_dg c 2 = 1 then 1 else 0) + (if tq_dg c 0 = 2 ∨ tq_dg c 1 = 2 ∨ tq_dg c 2 = 2 then 1 else 0)
theorem tq_dg_lt {c : Nat} (hc : c < 27) (p : Nat) : tq_dg c p < 3 := by
  unfold tq_dg
  by_cases h0 : p = 0
  · rw [if_pos h0]; omega
  · rw [if_neg h0]
    by_cases h1 : p = 1
    · rw [if_pos h1]; omega
    · rw [if_neg h1]; omega
theorem tq_tm_lt (f : Nat) {g : Nat} (hg : g < 27) : tq_tm f g < 27 := by
  have a := tq_dg_lt hg (tq_dg f 0)
  have b := tq_dg_lt hg (tq_dg f 1)
  have c := tq_dg_lt hg (tq_dg f 2)
  unfold tq_tm
  omega
theorem tq_dg_mk {x y z : Nat} (hx : x < 3) (hy : y < 3) (hz : z < 3) : tq_dg (9 * x + 3 * y + z) 0 = x ∧ tq_dg (9 * x + 3 * y + z) 1 = y ∧ tq_dg (9 * x + 3 * y + z) 2 = z := by
  refine ⟨?_, ?_, ?_⟩
  · show (9 * x + 3 * y + z) / 9 = x
    omega
  · show (9 * x + 3 * y + z) / 3 % 3 = y
    omega
  · show (9 * x + 3 * y + z) % 3 = z
    omega
theorem tq_dg_tm (f : Nat) {g : Nat} (hg : g < 27) : ∀ p, p < 3 → tq_dg (tq_tm f g) p = tq_dg g (tq_dg f p) := by
  have h := tq_dg_mk (tq_dg_lt hg (tq_dg f 0)) (tq_dg_lt hg (tq_dg f 1)) (tq_dg_lt hg (tq_dg f 2))
  intro p hp
  have hc : p = 0 ∨ p = 1 ∨ p = 2 := by omega
  rcases hc with rfl | rfl | rfl
  · exact h.1
  · exact h.2.1
  · exact h.2.2
theorem tq_assoc {f g h : Nat} (hf : f < 27) (hg : g < 27) (hh : h < 27) : tq_tm (tq_tm f g) h = tq_tm f (tq_tm g h) := by
  have e1 := tq_dg_tm f hg
  have e2 := tq_dg_tm g hh
  show 9 * tq_dg h (tq_dg (tq_tm f g) 0) + 3 * tq_dg h (tq_dg (tq_tm f g) 1) + tq_dg h (tq_dg (tq_tm f g) 2) = 9 * tq_dg (tq_tm g h) (tq_dg f 0) + 3 * tq_dg (tq_tm g h) (tq_dg f 1) + tq_dg (tq_tm g h) (tq_dg f 2)
  rw [e1 0 (by omega), e1 1 (by omega), e1 2 (by omega), e2 _ (tq_dg_lt hf 0), e2 _ (tq_dg_lt hf 1), e2 _ (tq_dg_lt hf 2)]
theorem tq_id_l : ∀ c, c < 27 → tq_tm 5 c = c := by decide +kernel
theorem tq_id_r : ∀ c, c < 27 → tq_tm c 5 = c := by decide +kernel
theorem tq_pow6 : ∀ c, c < 27 → tq_rk c = 3 → tq_tm c (tq_tm c (tq_tm c (tq_tm c (tq_tm c c)))) = 5 := by decide +kernel
theorem tq_inv3 : ∀ c, c < 27 → ∀ x, x < 27 → tq_tm c x = 5 → tq_rk c = 3 := by decide +kernel
theorem tq_rk_mono : ∀ a, a < 27 → ∀ x, x < 27 → tq_rk (tq_tm a x) ≤ tq_rk a := by decide +kernel
def tq_p6 (h : Nat) : Nat := tq_tm h (tq_tm h (tq_tm h (tq_tm h (tq_tm h h))))
theorem tq_kfact : ∀ a, a < 27 → ∀ c, c < 27 → tq_rk (tq_tm a (tq_tm c a)) = tq_rk a → tq_tm a (tq_p6 (tq_tm c a)) = a := by decide +kernel
/-! ===== the edges, what is reached ===== -/
def tq_gn (f g q : Nat) : Nat := if q = 0 then f else g
def tq_ed (f g e c : Nat) : Nat := if e % 2 = 0 then tq_tm c (tq_gn f g (e / 2)) else tq_tm (tq_gn f g (e / 2)) c
def tq_us (k e : Nat) : Prop := k = 2 ∨ (k = 0 ↔ e % 2 = 0)
def tq_E (f g k c t : Nat) : Prop := ∃ e, e < 4 ∧ tq_us k e ∧ t = tq_ed f g e c
def tq_RC (f g k s t : Nat) : Prop := ∀ P : Nat → Prop, P s → (∀ u v, P u → tq_E f g k u v → P v) → P t
def tq_M (f g c : Nat) : Prop := tq_RC f g 0 5 c
def tq_LV (f g : Nat) : Nat → Nat → Prop
  | 0, t => t = 5
  | r + 1, t => tq_LV f g r t ∨ ∃ c, c < 27 ∧ tq_LV f g r c ∧ tq_E f g 0 c t
theorem tq_gn_lt {f g : Nat} (hf : f < 27) (hg : g < 27) (q : Nat) : tq_gn f g q < 27 := by
  unfold tq_gn
  by_cases h : q = 0
  · rw [if_pos h]; exact hf
  · rw [if_neg h]; exact hg
theorem tq_ed_r {f g e c : Nat} (h : e % 2 = 0) : tq_ed f g e c = tq_tm c (tq_gn f g (e / 2)) := if_pos h
theorem tq_ed_l {f g e c : Nat} (h : ¬ e % 2 = 0) : tq_ed f g e c = tq_tm (tq_gn f g (e / 2)) c := if_neg h
theorem tq_ed_lt {f g : Nat} (hf : f < 27) (hg : g < 27) (e : Nat) {c : Nat} (hc : c < 27) : tq_ed f g e c < 27 := by
  by_cases h : e % 2 = 0
  · rw [tq_ed_r h]; exact tq_tm_lt _ (tq_gn_lt hf hg _)
  · rw [tq_ed_l h]; exact tq_tm_lt _ hc
theorem tq_E_iff {f g k c t : Nat} (hk : k < 3) : tq_E f g k c t ↔ (k ≠ 1 ∧ (t = tq_tm c f ∨ t = tq_tm c g)) ∨ (k ≠ 0 ∧ (t = tq_tm f c ∨ t = tq_tm g c)) := by
  constructor
  · rintro ⟨e, he, hu, ht⟩
    have hc : e = 0 ∨ e = 1 ∨ e = 2 ∨ e = 3 := by omega
    unfold tq_us at hu
    rcases hc with rfl | rfl | rfl | rfl
    · exact Or.inl ⟨by omega, Or.inl ht⟩
    · exact Or.inr ⟨by omega, Or.inl ht⟩
    · exact Or.inl ⟨by omega, Or.inr ht⟩
    · exact Or.inr ⟨by omega, Or.inr ht⟩
  · rintro (⟨hu, ht | ht⟩ | ⟨hu, ht | ht⟩)
    · exact ⟨0, by omega, by unfold tq_us; omega, ht⟩
    · exact ⟨2, by omega, by unfold tq_us; omega, ht⟩
    · exact ⟨1, by omega, by unfold tq_us; omega, ht⟩
    · exact ⟨3, by omega, by unfold tq_us; omega, ht⟩
theorem tq_E_lt {f g k c t : Nat} (hf : f < 27) (hg : g < 27) (hc : c < 27) (h : tq_E f g k c t) : t < 27 := by
  obtain ⟨e, _, _, rfl⟩ := h
  exact tq_ed_lt hf hg e hc
theorem tq_rc_refl (f g k s : Nat) : tq_RC f g k s s := fun _ h _ => h
theorem tq_rc_step {f g k s u v : Nat} (h : tq_RC f g k s u) (e : tq_E f g k u v) : tq_RC f g k s v := fun P h0 hs => hs u v (h P h0 hs) e
theorem tq_rc_trans {f g k s u v : Nat} (h : tq_RC f g k s u) (h2 : tq_RC f g k u v) : tq_RC f g k s v := h2 (fun x => tq_RC f g k s x) h (fun _ _ => tq_rc_step)
theorem tq_rc_lt {f g k s t : Nat} (hf : f < 27) (hg : g < 27) (hs : s < 27) (h : tq_RC f g k s t) : t < 27 := h (fun x => x < 27) hs (fun _ _ hu e => tq_E_lt hf hg hu e)
theorem tq_rc_02 {f g s t : Nat} (h : tq_RC f g 0 s t) : tq_RC f g 2 s t := fun P h0 hs => h P h0 (fun u v hu e => hs u v hu (by
  obtain ⟨x, hx, _, ht⟩ := e
  exact ⟨x, hx, Or.inl rfl, ht⟩))
section
variable {f g : Nat}
theorem tq_E0 {c t : Nat} : tq_E f g 0 c t ↔ t = tq_tm c f ∨ t = tq_tm c g := by
  rw [tq_E_iff (by omega)]
  constructor
  · rintro (⟨_, h⟩ | ⟨h, _⟩)
    · exact h
    · exact absurd rfl h
  · exact fun h => Or.inl ⟨by omega, h⟩
theorem tq_M_lt (hf : f < 27) (hg : g < 27) {c : Nat} (h : tq_M f g c) : c < 27 := tq_rc_lt hf hg (by omega) h
theorem tq_M_5 : tq_M f g 5 := tq_rc_refl f g 0 5
theorem tq_M_right (hf : f < 27) (hg : g < 27) {a b : Nat} (ha : a < 27) (hb : tq_M f g b) : tq_RC f g 0 a (tq_tm a b) := by
  have h := hb (fun b => b < 27 ∧ tq_RC f g 0 a (tq_tm a b)) ⟨by omega, by rw [tq_id_r a ha]; exact tq_rc_refl _ _ _ _⟩ (fun u v hu e => by
    obtain ⟨hu, h⟩ := hu
    rcases tq_E0.mp e with rfl | rfl
    · exact ⟨tq_tm_lt _ hf, tq_rc_step h (tq_E0.mpr (Or.inl (tq_assoc ha hu hf).symm))⟩
    · exact ⟨tq_tm_lt _ hg, tq_rc_step h (tq_E0.mpr (Or.inr (tq_assoc ha hu hg).symm))⟩)
  exact h.2
theorem tq_M_mul (hf : f < 27) (hg : g < 27) {a b : Nat} (ha : tq_M f g a) (hb : tq_M f g b) : tq_M f g (tq_tm a b) := tq_rc_trans ha (tq_M_right hf hg (tq_M_lt hf hg ha) hb)
theorem tq_M_f (hf : f < 27) : tq_M f g f := tq_rc_step (tq_rc_refl f g 0 5) (tq_E0.mpr (Or.inl (tq_id_l f hf).symm))
theorem tq_M_g (hg : g < 27) : tq_M f g g := tq_rc_step (tq_rc_refl f g 0 5) (tq_E0.mpr (Or.inr (tq_id_l g hg).symm))
theorem tq_M_left (hf : f < 27) (hg : g < 27) {a b : Nat} (ha : tq_M f g a) (hb : b < 27) : tq_RC f g 2 b (tq_tm a b) := by
  have h := ha (fun a => a < 27 ∧ ∀ b, b < 27 → tq_RC f g 2 b (tq_tm a b)) ⟨by omega, fun b hb => by rw [tq_id_l b hb]; exact tq_rc_refl _ _ _ _⟩ (fun u v hu e => by
    obtain ⟨hu, h⟩ := hu
    rcases tq_E0.mp e with rfl | rfl
    · refine ⟨tq_tm_lt _ hf, fun b hb => ?_⟩
      rw [tq_assoc hu hf hb]
      exact tq_rc_trans (tq_rc_step (tq_rc_refl _ _ _ _) ((tq_E_iff (by omega)).mpr (Or.inr ⟨by omega, Or.inl rfl⟩))) (h _ (tq_tm_lt _ hb))
    · refine ⟨tq_tm_lt _ hg, fun b hb => ?_⟩
      rw [tq_assoc hu hg hb]
      exact tq_rc_trans (tq_rc_step (tq_rc_refl _ _ _ _) ((tq_E_iff (by omega)).mpr (Or.inr ⟨by omega, Or.inr rfl⟩))) (h _ (tq_tm_lt _ hb)))
  exact h.2 b hb
theorem tq_M_E (hf : f < 27) (hg : g < 27) {k c t : Nat} (hk : k < 3) (hc : tq_M f g c) (e : tq_E f g k c t) : tq_M f g t := by
  rcases (tq_E_iff hk).mp e with ⟨_, rfl | rfl⟩ | ⟨_, rfl | rfl⟩
  · exact tq_M_mul hf hg hc (tq_M_f hf)
  · exact tq_M_mul hf hg hc (tq_M_g hg)
  · exact tq_M_mul hf hg (tq_M_f hf) hc
  · exact tq_M_mul hf hg (tq_M_g hg) hc
theorem tq_M_rc (hf : f < 27) (hg : g < 27) {k c t : Nat} (hk : k < 3) (hc : tq_M f g c) (h : tq_RC f g k c t) : tq_M f g t := h (tq_M f g) hc (fun _ _ hu e => tq_M_E hf hg hk hu e)
/-- a unit's right ideal is all -/
theorem tq_unit (hf : f < 27) (hg : g < 27) {c : Nat} (hc : tq_M f g c) : tq_rk c = 3 ↔ ∀ t, tq_RC f g 0 c t ↔ tq_M f g t := by
  have lc := tq_M_lt hf hg hc
  constructor
  · intro h t
    refine ⟨tq_M_rc hf hg (by omega) hc, fun ht => ?_⟩
    have lt := tq_M_lt hf hg ht
    have m2 := tq_M_mul hf hg hc hc
    have m3 := tq_M_mul hf hg hc m2
    have m4 := tq_M_mul hf hg hc m3
    have m5 := tq_M_mul hf hg hc m4
    have e : tq_tm c (tq_tm (tq_tm c (tq_tm c (tq_tm c (tq_tm c c)))) t) = t := by
      rw [← tq_assoc lc (tq_M_lt hf hg m5) lt, tq_pow6 c lc h, tq_id_l t lt]
    have r := tq_M_right hf hg lc (tq_M_mul hf hg m5 ht)
    rwa [e] at r
  · intro h
    have r := (h 5).mpr tq_M_5
    have x := r (fun t => ∃ x, x < 27 ∧ t = tq_tm c x) ⟨5, by omega, (tq_id_r c lc).symm⟩ (fun u v hu e => by
      obtain ⟨x, hx, rfl⟩ := hu
      rcases tq_E0.mp e with rfl | rfl
      · exact ⟨tq_tm x f, tq_tm_lt _ hf, tq_assoc lc hx hf⟩
      · exact ⟨tq_tm x g, tq_tm_lt _ hg, tq_assoc lc hx hg⟩)
    obtain ⟨x, hx, e⟩ := x
    exact tq_inv3 c lc x hx e.symm
/-- an element of least rank lies in every two-sided ideal -/
theorem tq_least (hf : f < 27) (hg : g < 27) {a c : Nat} (ha : tq_M f g a) (hc : tq_M f g c) (hm : ∀ b, tq_M f g b → tq_rk a ≤ tq_rk b) : tq_RC f g 2 c a := by
  have la := tq_M_lt hf hg ha
  have lc := tq_M_lt hf hg hc
  have mh := tq_M_mul hf hg hc ha
  have lh := tq_M_lt hf hg mh
  have e1 : tq_rk (tq_tm a (tq_tm c a)) = tq_rk a := Nat.le_antisymm (tq_rk_mono a la _ lh) (hm _ (tq_M_mul hf hg ha mh))
  have e2 := tq_kfact a la c lc e1
  have m2 := tq_M_mul hf hg mh mh
  have m3 := tq_M_mul hf hg mh m2
  have m4 := tq_M_mul hf hg mh m3
  have m5 := tq_M_mul hf hg mh m4
  have e3 : tq_p6 (tq_tm c a) = tq_tm c (tq_tm a (tq_tm (tq_tm c a) (tq_tm (tq_tm c a) (tq_tm (tq_tm c a) (tq_tm (tq_tm c a) (tq_tm c a)))))) := tq_assoc lc la (tq_M_lt hf hg m5)
  have r1 := tq_rc_02 (tq_M_right hf hg lc (tq_M_mul hf hg ha m5))
  have r2 := tq_M_left hf hg ha (tq_rc_lt hf hg lc r1)
  rw [← e3] at r1 r2
  rw [e2] at r2
  exact tq_rc_trans r1 r2
theorem tq_LV_M : ∀ {r t : Nat}, tq_LV f g r t → tq_M f g t
  | 0, t, h => by
    have e : t = 5 := h
    rw [e]
    exact tq_M_5
  | r + 1, t, h => by
    have h' : tq_LV f g r t ∨ ∃ c, c < 27 ∧ tq_LV f g r c ∧ tq_E f g 0 c t := h
    rcases h' with h' | ⟨c, _, hc, e⟩
    · exact tq_LV_M h'
    · exact tq_rc_step (tq_LV_M hc) e
theorem tq_LV_5 : ∀ r, tq_LV f g r 5
  | 0 => rfl
  | r + 1 => Or.inl (tq_LV_5 r)
end
end
section
/-! ===== the law's own static methods ===== -/
theorem tq_div9 {g : Nat} (hg : g < 27) : nI g / 9 = nI (g / 9) := pk_div (d := 9) (by omega) (by omega) (by omega)
theorem tq_div3 {g : Nat} (hg : g < 27) : nI g / 3 = nI (g / 3) := pk_div (d := 3) (by omega) (by omega) (by omega)
theorem tq_rem3 {g : Nat} (hg : g < 27) : nI g - nI g / 3 * 3 = nI (g % 3) := pk_rem (d := 3) (by omega) (by omega) (by omega)
theorem tq_mid {g : Nat} (hg : g < 27) : nI g / 3 - nI g / 3 / 3 * 3 = nI (g / 3 % 3) := by
  rw [tq_div3 hg]
  exact tq_rem3 (by omega)
theorem tq_sel {K : Int32 → Prop} {a g : Nat} (ha : a < 3) (hg : g < 27) (h : K (nI (tq_dg g a))) : ((nI a = 0 → (¬ (9 : Int32) = 0 ∧ K (nI g / 9))) ∧ (¬ nI a = 0 → ((nI a = 1 → (¬ (3 : Int32) = 0 ∧ (¬ (3 : Int32) = 0 ∧ K ((nI g / 3) - (nI g / 3) / 3 * 3)))) ∧ (¬ nI a = 1 → (¬ (3 : Int32) = 0 ∧ K (nI g - nI g / 3 * 3)))))) := by
  rw [tq_mid hg, tq_rem3 hg, tq_div9 hg]
  have hc : a = 0 ∨ a = 1 ∨ a = 2 := by omega
  rcases hc with rfl | rfl | rfl
  · exact br_t (by decide) ⟨by decide, h⟩
  · exact br_f (by decide) (br_t (by decide) ⟨by decide, by decide, h⟩)
  · exact br_f (by decide) (br_f (by decide) ⟨by decide, h⟩)
theorem tq_sum3 (x y z : Nat) : ((9 * nI x) + (3 * nI y)) + nI z = nI (9 * x + 3 * y + z) := by
  have e9 : (9 : Int32) * nI x = nI (9 * x) := pk_mul 9 x
  have e3 : (3 : Int32) * nI y = nI (3 * y) := pk_mul 3 y
  rw [e9, e3, nI_add, nI_add]
theorem tq_times {post : Int32 → Prop} {f g : Nat} (hf : f < 27) (hg : g < 27) (H : post (nI (tq_tm f g))) : wpL_times post () (nI f) (nI g) := by
  unfold wpL_times
  refine ⟨by decide, nm_r (tq_div9 hf) ⟨by decide, by decide, nm_r (tq_mid hf) ⟨by decide, nm_r (tq_rem3 hf) (tq_sel (K := wL_times_43 post (nI g) (nI (f / 3 % 3)) (nI (f % 3))) (by omega) hg ?_)⟩⟩⟩
  unfold wL_times_43
  refine tq_sel (K := wL_times_72 post (nI g) (nI (f % 3)) (nI (tq_dg g (f / 9)))) (by omega) hg ?_
  unfold wL_times_72
  refine tq_sel (K := wL_times_103 post (nI (tq_dg g (f / 9))) (nI (tq_dg g (f / 3 % 3)))) (by omega) hg ?_
  unfold wL_times_103
  rw [tq_sum3]
  exact H
/-- what one round of wider adds -/
def tq_WI (f g k : Nat) (x0 : Int32) (i : Nat) (s : Int32) : Prop := ∀ t, tq_bt s t = true ↔ (tq_bt x0 t = true ∨ ∃ c, c < i ∧ tq_bt x0 c = true ∧ tq_E f g k c t)
theorem tq_WI_skip {f g k i : Nat} {x0 s : Int32} (h : tq_WI f g k x0 i s) (hb : ¬ tq_bt x0 i = true) : tq_WI f g k x0 (i + 1) s := by
  intro t
  rw [h t]
  constructor
  · rintro (a | ⟨c, hc, b, e⟩)
    · exact Or.inl a
    · exact Or.inr ⟨c, by omega, b, e⟩
  · rintro (a | ⟨c, hc, b, e⟩)
    · exact Or.inl a
    · by_cases ec : c = i
      · rw [ec] at b
        exact absurd b hb
      · exact Or.inr ⟨c, by omega, b, e⟩
theorem tq_WI_add {f g k i : Nat} {x0 s s' : Int32} (h : tq_WI f g k x0 i s) (hb : tq_bt x0 i = true) (hs : ∀ t, tq_bt s' t = true ↔ (tq_bt s t = true ∨ tq_E f g k i t)) : tq_WI f g k x0 (i + 1) s' := by
  intro t
  rw [hs t, h t]
  constructor
  · rintro ((a | ⟨c, hc, b, e⟩) | e)
    · exact Or.inl a
    · exact Or.inr ⟨c, by omega, b, e⟩
    · exact Or.inr ⟨i, by omega, hb, e⟩
  · rintro (a | ⟨c, hc, b, e⟩)
    · exact Or.inl (Or.inl a)
    · by_cases ec : c = i
      · rw [ec] at e
        exact Or.inr e
      · exact Or.inl (Or.inr ⟨c, by omega, b, e⟩)
theorem tq_or2 {x : Int32} {a b : Nat} (ha : a < 27) (hb : b < 27) (t : Nat) : tq_bt (x ||| (((1 : Int32) <<< (nI a &&& 31)) ||| ((1 : Int32) <<< (nI b &&& 31)))) t = true ↔ (tq_bt x t = true ∨ (t = a ∨ t = b)) := by
  rw [tq_orT, tq_orT, tq_oneT (by omega), tq_oneT (by omega)]
theorem tq_w50 {post : Int32 → Prop} {J : Int32 → Int32 → Prop} {x0 s : Int32} {f g k i : Nat} (hf : f < 27) (hg : g < 27) (hk : k < 3) (hi : i < 27)
    (H : ∀ s', (∀ t, tq_bt s' t = true ↔ (tq_bt s t = true ∨ (k ≠ 0 ∧ (t = tq_tm f i ∨ t = tq_tm g i)))) → J s' (nI (i + 1))) : wL_wider_50 post J x0 (nI f) (nI g) (nI k) s (nI i) := by
  unfold wL_wider_50
  refine pk_eq k 0 (fun z => nm_r (nI_1 i) (H s (fun t => ⟨Or.inl, fun h => h.elim id (fun q => absurd z q.1)⟩))) (fun z => ?_)
  refine tq_times hf hi (tq_times hg hi ?_)
  refine nm_e (nm_r (nI_1 i) (H _ (fun t => ?_)))
  rw [tq_or2 (tq_tm_lt _ hi) (tq_tm_lt _ hi)]
  constructor
  · rintro (a | a)
    · exact Or.inl a
    · exact Or.inr ⟨z, a⟩
  · rintro (a | ⟨_, a⟩)
    · exact Or.inl a
    · exact Or.inr a
theorem tq_wider {post : Int32 → Prop} {x0 : Int32} {f g k : Nat} (hf : f < 27) (hg : g < 27) (hk : k < 3)
    (H : ∀ r, tq_WI f g k x0 27 r → post r) : wpL_wider post () x0 (nI f) (nI g) (nI k) := by
  refine pk_loop (fun n i s => wL_wider_6 post x0 (nI f) (nI g) (nI k) n s (nI i)) (fun i s => tq_WI f g k x0 i s) 27 0 x0 (by omega) (fun t => ⟨Or.inl, fun h => h.elim id (fun q => by obtain ⟨c, hc, _⟩ := q; exact absurd hc (by omega))⟩) ?_ ?_
  · exact fun n s h => pk_le 27 27 (fun _ => H s h) (fun z => absurd z (by omega))
  · intro n i s hi h hw
    refine pk_le 27 i (fun z => absurd z (by omega)) (fun _ => ?_)
    refine ek_if (tq_bit (c := i) (by omega)) (fun b => ?_) (fun b => nm_r (nI_1 i) (hw _ (tq_WI_skip h b)))
    refine pk_eq k 1 (fun z => ?_) (fun z => ?_)
    · refine tq_w50 hf hg hk hi (fun s' hs => hw s' (tq_WI_add h b (fun t => ?_)))
      rw [hs t, tq_E_iff hk]
      constructor
      · rintro (a | a)
        · exact Or.inl a
        · exact Or.inr (Or.inr a)
      · rintro (a | ⟨a, _⟩ | a)
        · exact Or.inl a
        · exact absurd z a
        · exact Or.inr a
    · refine tq_times hi hf (tq_times hi hg (nm_e ?_))
      refine tq_w50 hf hg hk hi (fun s' hs => hw s' (tq_WI_add h b (fun t => ?_)))
      rw [hs t, tq_or2 (tq_tm_lt _ hf) (tq_tm_lt _ hg), tq_E_iff hk]
      constructor
      · rintro ((a | a) | a)
        · exact Or.inl a
        · exact Or.inr (Or.inl ⟨z, a⟩)
        · exact Or.inr (Or.inr a)
      · rintro (a | ⟨_, a⟩ | a)
        · exact Or.inl (Or.inl a)
        · exact Or.inl (Or.inr a)
        · exact Or.inr a
/-- the closure's rounds: sound, kept, and closed already or at least as many as the rounds -/
def tq_CI (f g k : Nat) (x0 : Int32) (i : Nat) (s : Int32) : Prop :=
  (∀ t, tq_bt s t = true → ∃ c, tq_bt x0 c = true ∧ tq_RC f g k c t) ∧ (∀ t, tq_bt x0 t = true → tq_bt s t = true) ∧ (∀ t, tq_bt s t = true → t < 27)
  ∧ ((∀ c t, tq_bt s c = true → tq_E f g k c t → tq_bt s t = true) ∨ i ≤ tq_cn (fun t => tq_bt s t = true) 27)
theorem tq_CI_step {f g k i : Nat} {x0 s r : Int32} (hf : f < 27) (hg : g < 27) (h : tq_CI f g k x0 i s) (hr : tq_WI f g k s 27 r) : tq_CI f g k x0 (i + 1) r := by
  obtain ⟨h1, h2, h3, h4⟩ := h
  have up : ∀ t, tq_bt s t = true → tq_bt r t = true := fun t a => (hr t).mpr (Or.inl a)
  have lt : ∀ t, tq_bt r t = true → t < 27 := fun t a => by
    rcases (hr t).mp a with b | ⟨c, hc, b, e⟩
    · exact h3 t b
    · exact tq_E_lt hf hg hc e
  have snd : ∀ t, tq_bt r t = true → ∃ c, tq_bt x0 c = true ∧ tq_RC f g k c t := fun t a => by
    rcases (hr t).mp a with b | ⟨c, hc, b, e⟩
    · exact h1 t b
    · obtain ⟨d, hd, q⟩ := h1 c b
      exact ⟨d, hd, tq_rc_step q e⟩
  refine ⟨snd, fun t a => up t (h2 t a), lt, ?_⟩
  by_cases cl : ∀ c t, tq_bt s c = true → tq_E f g k c t → tq_bt s t = true
  · have eq : ∀ t, tq_bt r t = true → tq_bt s t = true := fun t a => by
      rcases (hr t).mp a with b | ⟨c, hc, b, e⟩
      · exact b
      · exact cl c t b e
    exact Or.inl (fun c t a e => up t (cl c t (eq c a) e))
  · rcases h4 with h4 | h4
    · exact absurd h4 cl
    · have nx : ∃ t, tq_bt r t = true ∧ ¬ tq_bt s t = true := by
        apply Classical.byContradiction
        intro z
        refine cl (fun c t a e => Classical.byContradiction (fun b => z ⟨t, (hr t).mpr (Or.inr ⟨c, h3 c a, a, e⟩), b⟩))
      obtain ⟨t, a, b⟩ := nx
      have := tq_cn_lt (P := fun t => tq_bt s t = true) (Q := fun t => tq_bt r t = true) (lt t a) b a (fun i _ z => up i z)
      exact Or.inr (by omega)
theorem tq_closed {post : Int32 → Prop} {x0 : Int32} {f g k : Nat} (hf : f < 27) (hg : g < 27) (hk : k < 3) (h0 : ∀ t, tq_bt x0 t = true → t < 27)
    (H : ∀ r, (∀ t, tq_bt r t = true ↔ ∃ c, tq_bt x0 c = true ∧ tq_RC f g k c t) → post r) : wpL_closed post () x0 (nI f) (nI g) (nI k) := by
  refine pk_loop (fun n i s => wL_closed_6 post (nI f) (nI g) (nI k) n s (nI i)) (fun i s => tq_CI f g k x0 i s) 27 0 x0 (by omega) ⟨fun t a => ⟨t, a, tq_rc_refl _ _ _ _⟩, fun _ a => a, h0, Or.inr (Nat.zero_le _)⟩ ?_ ?_
  · intro n s h
    refine pk_le 27 27 (fun _ => H s ?_) (fun z => absurd z (by omega))
    obtain ⟨h1, h2, h3, h4⟩ := h
    have cl : ∀ c t, tq_bt s c = true → tq_E f g k c t → tq_bt s t = true := by
      rcases h4 with h4 | h4
      · exact h4
      · exact fun c t a e => tq_cn_full h4 t (tq_E_lt hf hg (h3 c a) e)
    intro t
    refine ⟨h1 t, fun q => ?_⟩
    obtain ⟨c, a, q⟩ := q
    exact q (fun x => tq_bt s x = true) (h2 c a) cl
  · intro n i s hi h hw
    exact pk_le 27 i (fun z => absurd z (by omega)) (fun _ => tq_wider hf hg hk (fun r hr => nm_r (nI_1 i) (hw r (tq_CI_step hf hg h hr))))
theorem tq_closed1 {post : Int32 → Prop} {f g k c : Nat} (hf : f < 27) (hg : g < 27) (hk : k < 3) (hc : c < 27)
    (H : ∀ r, (∀ t, tq_bt r t = true ↔ tq_RC f g k c t) → post r) : wpL_closed post () ((1 : Int32) <<< (nI c &&& 31)) (nI f) (nI g) (nI k) := by
  refine tq_closed hf hg hk (fun t a => by rw [tq_oneT (by omega)] at a; omega) (fun r hr => H r (fun t => ?_))
  rw [hr t]
  constructor
  · rintro ⟨d, a, q⟩
    rw [tq_oneT (by omega)] at a
    rwa [a] at q
  · exact fun q => ⟨c, (tq_oneT (by omega) c).mpr rfl, q⟩
theorem tq_ones {post : Int32 → Prop} {x : Int32} {P : Nat → Prop} (hx : ∀ t, t < 27 → (tq_bt x t = true ↔ P t)) (H : post (nI (tq_cn P 27))) : wpL_ones post () x := by
  refine pk_loop (fun n i s => wL_ones_4 post x n s (nI i)) (fun i s => s = nI (tq_cn P i)) 27 0 0 (by omega) rfl ?_ ?_
  · intro n s h
    refine pk_le 27 27 (fun _ => ?_) (fun z => absurd z (by omega))
    rw [h]
    exact H
  · intro n i s hi h hw
    refine pk_le 27 i (fun z => absurd z (by omega)) (fun _ => nm_e (nm_r (nI_1 i) (hw _ ?_)))
    rw [h]
    by_cases b : tq_bt x i = true
    · rw [tq_bit_t (by omega) b, tq_cn_t ((hx i hi).mp b), nI_1]
    · rw [tq_bit_f (by omega) (by cases e : tq_bt x i with | true => exact absurd e b | false => rfl), tq_cn_f (fun q => b ((hx i hi).mpr q))]
      exact nI_add _ 0
end
section
/-! ===== the small methods of TransformMonoid ===== -/
theorem tq_nm1 {a : Nat} (h : a < 2 ^ 31) : ¬ nI a = -1 := by
  intro e
  have := congrArg Int32.toInt e
  rw [nI_toInt h] at this
  have e1 : (-1 : Int32).toInt = -1 := by decide
  rw [e1] at this
  omega
theorem tq_mul3 (x y : Nat) : ((3 : Int32) * nI x) + nI y = nI (3 * x + y) := by
  have e3 : (3 : Int32) * nI x = nI (3 * x) := pk_mul 3 x
  rw [e3, nI_add]
theorem tq_ix (x y : Nat) : ((4 : Int32) * nI x) + nI y = nI (4 * x + y) := by
  have e4 : (4 : Int32) * nI x = nI (4 * x) := pk_mul 4 x
  rw [e4, nI_add]
theorem tq_isCode {post : Int32 → Prop} {nn cc zz kk x : Int32} {a1 a2 a3 a4 a5 a6 a7 a8 a9 a10 a11 a12 : Nat → Int32} {c : Nat} (hc : c < 27) (H : post 1) (hx : x = nI c := by rfl) : wpX_isCode post (nn, 27, cc, zz, kk, a1, a2, a3, a4, a5, a6, a7, a8, a9, a10, a11, a12) x :=
  pk_lt c 0 (fun z => absurd z (by omega)) (fun _ => pk_le 27 c (fun z => absurd z (by omega)) (fun _ => H) rfl hx) hx
theorem tq_imageOf {post : Int32 → Prop} {mm cc zz kk x y : Int32} {a1 a2 a3 a4 a5 a6 a7 a8 a9 a10 a11 a12 : Nat → Int32} {c p : Nat} (hc : c < 27) (hp : p < 3) (H : post (nI (tq_dg c p))) (hx : x = nI c := by rfl) (hy : y = nI p := by rfl) : wpX_imageOf post (3, mm, cc, zz, kk, a1, a2, a3, a4, a5, a6, a7, a8, a9, a10, a11, a12) x y := by
  subst hx
  subst hy
  have hh : p = 0 ∨ p = 1 ∨ p = 2 := by omega
  rcases hh with rfl | rfl | rfl
  · refine nm_r (e' := nI 2) (by decide) ⟨3, ?_⟩
    refine pk_le 2 0 (fun z => absurd z (by omega)) (fun _ => ⟨by decide, nm_r (tq_div3 hc) (nm_r (pk_m1 1) ?_)⟩)
    refine pk_le 1 0 (fun z => absurd z (by omega)) (fun _ => ⟨by decide, nm_r (tq_div3 (show c / 3 < 27 by omega)) (nm_r (pk_m1 0) ?_)⟩)
    refine pk_le 0 0 (fun _ => ⟨by decide, ?_⟩) (fun z => absurd z (by omega))
    have e : tq_dg c 0 = c / 3 / 3 % 3 := by
      show c / 9 = c / 3 / 3 % 3
      omega
    rw [e] at H
    exact ek_v (P := post) (tq_rem3 (show c / 3 / 3 < 27 by omega)) H
  · refine nm_r (e' := nI 2) (by decide) ⟨2, ?_⟩
    refine pk_le 2 1 (fun z => absurd z (by omega)) (fun _ => ⟨by decide, nm_r (tq_div3 hc) (nm_r (pk_m1 1) ?_)⟩)
    refine pk_le 1 1 (fun _ => ⟨by decide, ?_⟩) (fun z => absurd z (by omega))
    exact ek_v (P := post) (tq_rem3 (show c / 3 < 27 by omega)) H
  · refine nm_r (e' := nI 2) (by decide) ⟨1, ?_⟩
    refine pk_le 2 2 (fun _ => ⟨by decide, ?_⟩) (fun z => absurd z (by omega))
    exact ek_v (P := post) (tq_rem3 hc) H
theorem tq_compose {post : Int32 → Prop} {mm cc zz kk x y : Int32} {a1 a2 a3 a4 a5 a6 a7 a8 a9 a10 a11 a12 : Nat → Int32} {f g : Nat} (hf : f < 27) (hg : g < 27) (H : post (nI (tq_tm f g))) (hx : x = nI f := by rfl) (hy : y = nI g := by rfl) : wpX_compose post (3, mm, cc, zz, kk, a1, a2, a3, a4, a5, a6, a7, a8, a9, a10, a11, a12) x y := by
  subst hx
  subst hy
  refine ⟨4, ?_⟩
  refine pk_le 3 0 (fun z => absurd z (by omega)) (fun _ => tq_imageOf hf (by omega) (tq_imageOf hg (tq_dg_lt hf 0) (nm_r (tq_mul3 0 _) (nm_r (nI_1 0) ?_))))
  refine pk_le 3 1 (fun z => absurd z (by omega)) (fun _ => tq_imageOf hf (by omega) (tq_imageOf hg (tq_dg_lt hf 1) (nm_r (tq_mul3 _ _) (nm_r (nI_1 1) ?_))))
  refine pk_le 3 2 (fun z => absurd z (by omega)) (fun _ => tq_imageOf hf (by omega) (tq_imageOf hg (tq_dg_lt hf 2) (nm_r (tq_mul3 _ _) (nm_r (nI_1 2) ?_))))
  refine pk_le 3 3 (fun _ => ?_) (fun z => absurd z (by omega))
  have e : tq_tm f g = 3 * (3 * (3 * 0 + tq_dg g (tq_dg f 0)) + tq_dg g (tq_dg f 1)) + tq_dg g (tq_dg f 2) := by
    unfold tq_tm
    omega
  rw [e] at H
  exact H
def tq_im (c : Nat) : Int32 := ((0 ||| ((1 : Int32) <<< (nI (tq_dg c 0) &&& 31))) ||| ((1 : Int32) <<< (nI (tq_dg c 1) &&& 31))) ||| ((1 : Int32) <<< (nI (tq_dg c 2) &&& 31))
theorem tq_rkv : ∀ c, c < 27 → (((0 : Int32) + ((tq_im c >>> (nI 0 &&& 31)) &&& 1)) + ((tq_im c >>> (nI 1 &&& 31)) &&& 1)) + ((tq_im c >>> (nI 2 &&& 31)) &&& 1) = nI (tq_rk c) := by decide +kernel
theorem tq_rk_le (c : Nat) : tq_rk c ≤ 3 := by
  have h : ∀ (P : Prop) [Decidable P], (if P then 1 else 0) ≤ 1 := fun P _ => by
    by_cases p : P
    · rw [if_pos p]; exact Nat.le_refl _
    · rw [if_neg p]; exact Nat.zero_le _
  have h0 := h (tq_dg c 0 = 0 ∨ tq_dg c 1 = 0 ∨ tq_dg c 2 = 0)
  have h1 := h (tq_dg c 0 = 1 ∨ tq_dg c 1 = 1 ∨ tq_dg c 2 = 1)
  have h2 := h (tq_dg c 0 = 2 ∨ tq_dg c 1 = 2 ∨ tq_dg c 2 = 2)
  unfold tq_rk
  omega
theorem tq_rankOf {post : Int32 → Prop} {mm cc zz kk x : Int32} {a1 a2 a3 a4 a5 a6 a7 a8 a9 a10 a11 a12 : Nat → Int32} {c : Nat} (hc : c < 27) (H : post (nI (tq_rk c))) (hx : x = nI c := by rfl) : wpX_rankOf post (3, mm, cc, zz, kk, a1, a2, a3, a4, a5, a6, a7, a8, a9, a10, a11, a12) x := by
  subst hx
  refine ⟨4, ?_⟩
  refine pk_le 3 0 (fun z => absurd z (by omega)) (fun _ => tq_imageOf hc (by omega) (nm_e (nm_r (nI_1 0) ?_)))
  refine pk_le 3 1 (fun z => absurd z (by omega)) (fun _ => tq_imageOf hc (by omega) (nm_e (nm_r (nI_1 1) ?_)))
  refine pk_le 3 2 (fun z => absurd z (by omega)) (fun _ => tq_imageOf hc (by omega) (nm_e (nm_r (nI_1 2) ?_)))
  refine pk_le 3 3 (fun _ => ?_) (fun z => absurd z (by omega))
  refine ⟨4, ?_⟩
  refine pk_le 3 0 (fun z => absurd z (by omega)) (fun _ => nm_e (nm_r (nI_1 0) ?_))
  refine pk_le 3 1 (fun z => absurd z (by omega)) (fun _ => nm_e (nm_r (nI_1 1) ?_))
  refine pk_le 3 2 (fun z => absurd z (by omega)) (fun _ => nm_e (nm_r (nI_1 2) ?_))
  refine pk_le 3 3 (fun _ => ?_) (fun z => absurd z (by omega))
  exact ek_v (P := post) (tq_rkv c hc) H
theorem tq_init {post : St2 → Prop} (H : post (3, 27, 0, 0, 0, (fun _ => 0), (fun _ => 0), (fun _ => 0), (fun _ => 0), (fun _ => 0), (fun _ => 0), (fun _ => 0), (fun _ => 0), (fun _ => 0), (fun _ => 0), (fun _ => 0), (fun _ => 0))) : wpX_init post 12 4356 (0, 0, 0, 0, 0) 3 := by
  refine ⟨by decide, by decide, by decide, by decide, by decide, by decide, by decide, by decide, by decide, by decide, by decide, by decide, by decide, by decide, by decide, by decide, by decide, by decide, by decide, by decide, by decide, by decide, by decide, by decide, br_t (by decide) ?_⟩
  unfold wX_init_121
  refine br_t (by decide) ⟨4, ?_⟩
  refine br_f (by decide) (nm_r (e' := 3) (by decide) (nm_r (e' := 1) (by decide) ?_))
  refine br_f (by decide) (nm_r (e' := 9) (by decide) (nm_r (e' := 2) (by decide) ?_))
  refine br_f (by decide) (nm_r (e' := 27) (by decide) (nm_r (e' := 3) (by decide) ?_))
  exact br_t (by decide) H
theorem tq_generate {post : Int32 → St2 → Prop} {nn zz kk : Int32} {a1 a2 a3 a4 a5 a6 a7 a8 a9 a10 a11 a12 : Nat → Int32} {c j : Nat} (hc : c < 27) (hj : j < 4) (H : post (nI j) (nn, 27, nI (j + 1), zz, 0, upd a1 j (nI c), a2, a3, a4, a5, a6, a7, a8, a9, a10, a11, a12)) : wpX_generate post (nn, 27, nI j, zz, kk, a1, a2, a3, a4, a5, a6, a7, a8, a9, a10, a11, a12) (nI c) := by
  unfold wpX_generate
  refine tq_isCode hc (br_f (by decide) (pk_eq j 4 (fun z => absurd z (by omega)) (fun _ => ⟨pk_in j 4 hj, nm_r (e' := upd a1 j (nI c)) (by rw [nI_clamp (by omega)]) (nm_r (nI_1 j) ?_)⟩)))
  rw [nI_pred]
  exact H
end
section
/-! ===== the search: pure rows ===== -/
def tq_BI (f g a k s : Nat) (cd ln : Nat → Nat) (b2 b3 b4 b5 b6 b7 : Nat → Int32) : Prop :=
  (s = tq_cn (fun c => b2 c ≠ -1) 27 ∧ 0 < s ∧ cd 0 = 5 ∧ ln 0 = 0)
  ∧ (∀ j, j < s → cd j < 27 ∧ b3 j = nI (cd j) ∧ b2 (cd j) = nI j ∧ tq_M f g (cd j) ∧ b6 j = nI (ln j) ∧ ln j ≤ j)
  ∧ (∀ c, c < 27 → b2 c ≠ -1 → ∃ j, j < s ∧ cd j = c)
  ∧ (∀ j, j < s → 0 < j → ∃ i q, i < j ∧ q < 2 ∧ b4 j = nI i ∧ b5 j = nI q ∧ cd j = tq_tm (cd i) (tq_gn f g q) ∧ ln j = ln i + 1)
  ∧ (∀ i j, i ≤ j → j < s → ln i ≤ ln j)
  ∧ (a < s → ∀ j, j < s → ln j ≤ ln a + 1)
  ∧ (∀ i q, q < 2 → (i < a ∨ (i = a ∧ q < k)) → ∃ b, b < s ∧ b7 (4 * i + q) = nI b ∧ cd b = tq_tm (cd i) (tq_gn f g q) ∧ ln b ≤ ln i + 1)
theorem tq_BI_le {f g a k s : Nat} {cd ln : Nat → Nat} {b2 b3 b4 b5 b6 b7 : Nat → Int32} (h : tq_BI f g a k s cd ln b2 b3 b4 b5 b6 b7) : s ≤ 27 := by
  rw [h.1.1]
  exact tq_cn_le _ _
theorem tq_BI_next {f g a s : Nat} {cd ln : Nat → Nat} {b2 b3 b4 b5 b6 b7 : Nat → Int32} (h : tq_BI f g a 2 s cd ln b2 b3 b4 b5 b6 b7) : tq_BI f g (a + 1) 0 s cd ln b2 b3 b4 b5 b6 b7 := by
  obtain ⟨h1, h2, h3, h4, h5, h6, h7⟩ := h
  refine ⟨h1, h2, h3, h4, h5, fun ha j hj => ?_, fun i q hq hi => h7 i q hq (by omega)⟩
  have x := h6 (by omega) j hj
  have y := h5 a (a + 1) (by omega) ha
  omega
theorem tq_BI_old {f g a k s : Nat} {cd ln : Nat → Nat} {b2 b3 b4 b5 b6 b7 : Nat → Int32} (h : tq_BI f g a k s cd ln b2 b3 b4 b5 b6 b7) (hf : f < 27) (hg : g < 27) (ha : a < s) (hk : k < 2)
    (hb : ¬ b2 (tq_tm (cd a) (tq_gn f g k)) = -1) : ∃ b, b < s ∧ b2 (tq_tm (cd a) (tq_gn f g k)) = nI b ∧ tq_BI f g a (k + 1) s cd ln b2 b3 b4 b5 b6 (upd b7 (4 * a + k) (nI b)) := by
  obtain ⟨h1, h2, h3, h4, h5, h6, h7⟩ := h
  obtain ⟨b, hbs, e⟩ := h3 _ (tq_tm_lt _ (tq_gn_lt hf hg k)) hb
  refine ⟨b, hbs, by rw [← e]; exact (h2 b hbs).2.2.1, h1, h2, h3, h4, h5, h6, fun i q hq hi => ?_⟩
  by_cases hx : i = a ∧ q = k
  · obtain ⟨rfl, rfl⟩ := hx
    exact ⟨b, hbs, pk_us, e, h6 ha b hbs⟩
  · obtain ⟨b', x1, x2, x3, x4⟩ := h7 i q hq (by omega)
    exact ⟨b', x1, by rw [pk_un (by omega)]; exact x2, x3, x4⟩
theorem tq_BI_new {f g a k s : Nat} {cd ln : Nat → Nat} {b2 b3 b4 b5 b6 b7 : Nat → Int32} (h : tq_BI f g a k s cd ln b2 b3 b4 b5 b6 b7) (hf : f < 27) (hg : g < 27) (ha : a < s) (hk : k < 2)
    (hb : b2 (tq_tm (cd a) (tq_gn f g k)) = -1) : s < 27 ∧ ∃ cd' ln', tq_BI f g a (k + 1) (s + 1) cd' ln' (upd b2 (tq_tm (cd a) (tq_gn f g k)) (nI s)) (upd b3 s (nI (tq_tm (cd a) (tq_gn f g k)))) (upd b4 s (nI a)) (upd b5 s (nI k)) (upd b6 s (nI (ln a + 1))) (upd b7 (4 * a + k) (nI s)) := by
  have hl := tq_BI_le h
  obtain ⟨h1, h2, h3, h4, h5, h6, h7⟩ := h
  generalize ec : tq_tm (cd a) (tq_gn f g k) = c at hb
  have hc : c < 27 := by rw [← ec]; exact tq_tm_lt _ (tq_gn_lt hf hg k)
  have hM : tq_M f g c := by
    rw [← ec]
    refine tq_rc_step (h2 a ha).2.2.2.1 (tq_E0.mpr ?_)
    unfold tq_gn
    by_cases hk0 : k = 0
    · rw [if_pos hk0]; exact Or.inl rfl
    · rw [if_neg hk0]; exact Or.inr rfl
  have hcnt : tq_cn (fun d => upd b2 c (nI s) d ≠ -1) 27 = tq_cn (fun d => b2 d ≠ -1) 27 + 1 := by
    refine tq_cn_ins (c := c) (fun z => z hb) ?_ hc (fun i hi hn => ?_)
    · show upd b2 c (nI s) c ≠ -1
      rw [pk_us]
      exact tq_nm1 (by omega)
    · show b2 i ≠ -1 ↔ upd b2 c (nI s) i ≠ -1
      rw [pk_un hn]
  have hs1 : s + 1 ≤ 27 := by
    have := tq_cn_le (fun d => upd b2 c (nI s) d ≠ -1) 27
    rw [hcnt, ← h1.1] at this
    exact this
  refine ⟨by omega, (fun j => if j = s then c else cd j), (fun j => if j = s then ln a + 1 else ln j), ?_⟩
  have cdo : ∀ j, j < s → (fun j => if j = s then c else cd j) j = cd j := fun j hj => if_neg (by omega)
  have lno : ∀ j, j < s → (fun j => if j = s then ln a + 1 else ln j) j = ln j := fun j hj => if_neg (by omega)
  have cds : (fun j => if j = s then c else cd j) s = c := if_pos rfl
  have lns : (fun j => if j = s then ln a + 1 else ln j) s = ln a + 1 := if_pos rfl
  revert cdo lno cds lns
  generalize (fun j => if j = s then c else cd j) = cd'
  generalize (fun j => if j = s then ln a + 1 else ln j) = ln'
  intro cdo lno cds lns
  have ncd : ∀ j, j < s → cd j ≠ c := fun j hj e => by
    have x := (h2 j hj).2.2.1
    rw [e, hb] at x
    exact tq_nm1 (by omega) x.symm
  refine ⟨⟨by rw [hcnt, ← h1.1], by omega, by rw [cdo 0 h1.2.1]; exact h1.2.2.1, by rw [lno 0 h1.2.1]; exact h1.2.2.2⟩, ?_, ?_, ?_, ?_, ?_, ?_⟩
  · intro j hj
    by_cases e : j = s
    · rw [e, cds, lns, pk_us, pk_us, pk_us]
      have := (h2 a ha).2.2.2.2.2
      exact ⟨hc, rfl, rfl, hM, rfl, by omega⟩
    · have hj' : j < s := by omega
      obtain ⟨x1, x2, x3, x4, x5, x6⟩ := h2 j hj'
      rw [cdo j hj', lno j hj', pk_un e, pk_un e, pk_un (ncd j hj')]
      exact ⟨x1, x2, x3, x4, x5, x6⟩
  · intro d hd hn
    by_cases e : d = c
    · exact ⟨s, by omega, by rw [cds, e]⟩
    · rw [pk_un e] at hn
      obtain ⟨j, hj, ej⟩ := h3 d hd hn
      exact ⟨j, by omega, by rw [cdo j hj]; exact ej⟩
  · intro j hj h0
    by_cases e : j = s
    · refine ⟨a, k, by omega, hk, by rw [e]; exact pk_us, by rw [e]; exact pk_us, ?_, ?_⟩
      · rw [e, cds, cdo a ha, ec]
      · rw [e, lns, lno a ha]
    · have hj' : j < s := by omega
      obtain ⟨i, q, x1, x2, x3, x4, x5, x6⟩ := h4 j hj' h0
      exact ⟨i, q, x1, x2, by rw [pk_un e]; exact x3, by rw [pk_un e]; exact x4, by rw [cdo j hj', cdo i (by omega)]; exact x5, by rw [lno j hj', lno i (by omega)]; exact x6⟩
  · intro i j hij hj
    by_cases e : j = s
    · rw [e, lns]
      by_cases e2 : i = s
      · rw [e2, lns]; exact Nat.le_refl _
      · rw [lno i (by omega)]
        exact h6 ha i (by omega)
    · rw [lno j (by omega), lno i (by omega)]
      exact h5 i j hij (by omega)
  · intro _ j hj
    rw [lno a ha]
    by_cases e : j = s
    · rw [e, lns]; exact Nat.le_refl _
    · rw [lno j (by omega)]
      exact h6 ha j (by omega)
  · intro i q hq hi
    by_cases hx : i = a ∧ q = k
    · obtain ⟨rfl, rfl⟩ := hx
      exact ⟨s, by omega, pk_us, by rw [cds, cdo i ha, ec], by rw [lns, lno i ha]; exact Nat.le_refl _⟩
    · have hi' : i < s := by omega
      obtain ⟨b', x1, x2, x3, x4⟩ := h7 i q hq (by omega)
      exact ⟨b', by omega, by rw [pk_un (by omega)]; exact x2, by rw [cdo b' x1, cdo i hi']; exact x3, by rw [lno b' x1, lno i hi']; exact x4⟩
/-- the picture of a refreshed state -/
def tq_KX (f g s : Nat) (cd ln : Nat → Nat) (a2 a3 a6 a7 a8 : Nat → Int32) : Prop :=
  (0 < s ∧ s ≤ 27 ∧ cd 0 = 5 ∧ ln 0 = 0)
  ∧ (∀ j, j < s → cd j < 27 ∧ a3 j = nI (cd j) ∧ a2 (cd j) = nI j ∧ tq_M f g (cd j) ∧ a6 j = nI (ln j) ∧ ln j ≤ j)
  ∧ (∀ c, c < 27 → a2 c ≠ -1 → ∃ j, j < s ∧ cd j = c)
  ∧ (∀ j, j < s → 0 < j → ∃ i q, i < j ∧ q < 2 ∧ cd j = tq_tm (cd i) (tq_gn f g q) ∧ ln j = ln i + 1)
  ∧ (∀ i q, i < s → q < 2 → ∃ b, b < s ∧ a7 (4 * i + q) = nI b ∧ cd b = tq_tm (cd i) (tq_gn f g q) ∧ ln b ≤ ln i + 1)
  ∧ (∀ i q, i < s → q < 2 → ∃ b, b < s ∧ a8 (4 * i + q) = nI b ∧ cd b = tq_tm (tq_gn f g q) (cd i))
/-- the state of an object after both calls of generate: not refreshed, or refreshed -/
def tq_SP (f g : Nat) (nn mm cc zz kk : Int32) (a1 a2 a3 a6 a7 a8 : Nat → Int32) : Prop :=
  nn = 3 ∧ mm = 27 ∧ cc = 2 ∧ a1 0 = nI f ∧ a1 1 = nI g ∧ (kk = 0 ∨ (kk = 1 ∧ ∃ s cd ln, zz = nI s ∧ tq_KX f g s cd ln a2 a3 a6 a7 a8))
/-! ===== the search: the walk ===== -/
theorem tq_enter1 {post : St2 → Prop} {nn mm cc kk p2 : Int32} {a1 a2 a3 a4 a5 a6 a7 a8 a9 a10 a11 a12 : Nat → Int32} {a c s l : Nat} (hc : c < 27) (hs : s < 27) (ha : a < 27) (hl : a6 a = nI l) (H : post (nn, mm, cc, nI (s + 1), kk, a1, upd a2 c (nI s), upd a3 s (nI c), upd a4 s (nI a), upd a5 s p2, upd a6 s (nI (l + 1)), a7, a8, a9, a10, a11, a12)) :
    wpX_enter post (nn, mm, cc, nI s, kk, a1, a2, a3, a4, a5, a6, a7, a8, a9, a10, a11, a12) (nI c) (nI a) p2 := by
  have e1 : (nI c).toNatClampNeg = c := nI_clamp (by omega)
  have e2 : (nI s).toNatClampNeg = s := nI_clamp (by omega)
  have e3 : (nI a).toNatClampNeg = a := nI_clamp (by omega)
  refine ⟨pk_in c 256 (by omega), nm_r (by rw [e1]) ⟨pk_in s 256 (by omega), nm_r (by rw [e2]) ⟨pk_in s 256 (by omega), nm_r (by rw [e2]) ⟨pk_in s 256 (by omega), nm_r (by rw [e2]) (br_f (tq_nm1 (by omega)) ⟨pk_in a 256 (by omega), ?_⟩)⟩⟩⟩⟩
  unfold wX_enter_65
  exact ⟨pk_in s 256 (by omega), nm_r (by rw [e2, e3, hl, nI_1]) (nm_r (nI_1 s) H)⟩
theorem tq_enter0 {post : St2 → Prop} {nn mm cc kk p2 : Int32} {a1 a2 a3 a4 a5 a6 a7 a8 a9 a10 a11 a12 : Nat → Int32} {c : Nat} (hc : c < 27) (H : post (nn, mm, cc, 1, kk, a1, upd a2 c 0, upd a3 0 (nI c), upd a4 0 (-1), upd a5 0 p2, upd a6 0 0, a7, a8, a9, a10, a11, a12)) :
    wpX_enter post (nn, mm, cc, 0, kk, a1, a2, a3, a4, a5, a6, a7, a8, a9, a10, a11, a12) (nI c) (-1) p2 := by
  have e1 : (nI c).toNatClampNeg = c := nI_clamp (by omega)
  have e2 : (0 : Int32).toNatClampNeg = 0 := by decide
  refine ⟨pk_in c 256 (by omega), nm_r (by rw [e1]) ⟨pk_in 0 256 (by omega), nm_r (by rw [e2]) ⟨pk_in 0 256 (by omega), nm_r (by rw [e2]) ⟨pk_in 0 256 (by omega), nm_r (by rw [e2]) (br_t rfl ?_)⟩⟩⟩⟩
  unfold wX_enter_65
  exact ⟨pk_in 0 256 (by omega), nm_r (by rw [e2]) (nm_r (e' := 1) (by decide) H)⟩
theorem tq_r139 {post : St2 → Prop} {J77 J94 : Int32 → Int32 → Int32 → Int32 → Int32 → Int32 → (Nat → Int32) → (Nat → Int32) → (Nat → Int32) → (Nat → Int32) → (Nat → Int32) → (Nat → Int32) → (Nat → Int32) → (Nat → Int32) → (Nat → Int32) → (Nat → Int32) → (Nat → Int32) → (Nat → Int32) → Prop}
    {nn mm cc zz kk : Int32} {a1 a2 a3 a4 a5 a6 a7 a8 a9 a10 a11 a12 : Nat → Int32} {a k c : Nat} {v : Int32} (ha : a < 27) (hk : k < 2) (hc : c < 27) (hv : a2 c = v) (H : J94 (nI (k + 1)) nn mm cc zz kk a1 a2 a3 a4 a5 a6 (upd a7 (4 * a + k) v) a8 a9 a10 a11 a12) :
    wX_refresh_139 post J77 J94 (nI a) (nI k) (nI c) nn mm cc zz kk a1 a2 a3 a4 a5 a6 a7 a8 a9 a10 a11 a12 := by
  have e1 : (nI c).toNatClampNeg = c := nI_clamp (by omega)
  unfold wX_refresh_139
  exact ⟨pk_in c 256 (by omega), pk_in (4 * a + k) 1024 (by omega) (tq_ix a k), nm_r (by rw [tq_ix, nI_clamp (by omega), e1, hv]) (nm_r (nI_1 k) H)⟩
theorem tq_r94 {post : St2 → Prop} {J77 : Int32 → Int32 → Int32 → Int32 → Int32 → Int32 → (Nat → Int32) → (Nat → Int32) → (Nat → Int32) → (Nat → Int32) → (Nat → Int32) → (Nat → Int32) → (Nat → Int32) → (Nat → Int32) → (Nat → Int32) → (Nat → Int32) → (Nat → Int32) → (Nat → Int32) → Prop}
    {f g a k s n : Nat} {cd ln : Nat → Nat} {a1 a2 a3 a4 a5 a6 a7 a8 a9 a10 a11 a12 : Nat → Int32} (hf : f < 27) (hg : g < 27) (h1 : a1 0 = nI f) (h2 : a1 1 = nI g) (ha : a < s) (hk : k < 2) (h : tq_BI f g a k s cd ln a2 a3 a4 a5 a6 a7)
    (H : ∀ s' cd' ln' b2 b3 b4 b5 b6 b7, a < s' → tq_BI f g a (k + 1) s' cd' ln' b2 b3 b4 b5 b6 b7 → wX_refresh_94 post J77 (nI a) n (nI (k + 1)) 3 27 2 (nI s') 1 a1 b2 b3 b4 b5 b6 b7 a8 a9 a10 a11 a12) :
    wX_refresh_94 post J77 (nI a) (n + 1) (nI k) 3 27 2 (nI s) 1 a1 a2 a3 a4 a5 a6 a7 a8 a9 a10 a11 a12 := by
  have hl := tq_BI_le h
  have ea : (nI a).toNatClampNeg = a := nI_clamp (by omega)
  have ek : (nI k).toNatClampNeg = k := nI_clamp (by omega)
  have hgn : a1 k = nI (tq_gn f g k) := by
    have hh : k = 0 ∨ k = 1 := by omega
    rcases hh with rfl | rfl
    · exact h1
    · exact h2
  have hca := h.2.1 a ha
  have hc : tq_tm (cd a) (tq_gn f g k) < 27 := tq_tm_lt _ (tq_gn_lt hf hg k)
  refine pk_le 2 k (fun z => absurd z (by omega)) (fun _ => ⟨pk_in a 256 (by omega), pk_in k 4 (by omega), tq_compose hca.1 (tq_gn_lt hf hg k) ⟨pk_in (tq_tm (cd a) (tq_gn f g k)) 256 (by omega), br_c (fun z => ?_) (fun z => ?_)⟩ (by rw [ea]; exact hca.2.1) (by rw [ek]; exact hgn)⟩)
  · rw [nI_clamp (by omega)] at z
    obtain ⟨hs, cd', ln', h'⟩ := tq_BI_new h hf hg ha hk z
    exact tq_enter1 hc hs (by omega) hca.2.2.2.2.1 (tq_r139 (by omega) hk hc pk_us (H _ _ _ _ _ _ _ _ _ (by omega) h'))
  · rw [nI_clamp (by omega)] at z
    obtain ⟨b, hb, eb, h'⟩ := tq_BI_old h hf hg ha hk z
    exact tq_r139 (by omega) hk hc eb (H _ _ _ _ _ _ _ _ _ ha h')
/-- the left table, up to a place -/
def tq_LI (f g a k s : Nat) (cd : Nat → Nat) (b8 : Nat → Int32) : Prop := ∀ i q, q < 2 → (i < a ∨ (i = a ∧ q < k)) → ∃ b, b < s ∧ b8 (4 * i + q) = nI b ∧ cd b = tq_tm (tq_gn f g q) (cd i)
theorem tq_LI_add {f g a k s b : Nat} {cd : Nat → Nat} {b8 : Nat → Int32} (h : tq_LI f g a k s cd b8) (hk : k < 2) (hb : b < s) (e : cd b = tq_tm (tq_gn f g k) (cd a)) : tq_LI f g a (k + 1) s cd (upd b8 (4 * a + k) (nI b)) := by
  intro i q hq hi
  by_cases hx : i = a ∧ q = k
  · obtain ⟨rfl, rfl⟩ := hx
    exact ⟨b, hb, pk_us, e⟩
  · obtain ⟨b', x1, x2, x3⟩ := h i q hq (by omega)
    exact ⟨b', x1, by rw [pk_un (by omega)]; exact x2, x3⟩
theorem tq_r180 {post : St2 → Prop} {J170 : Int32 → (Nat → Int32) → (Nat → Int32) → (Nat → Int32) → (Nat → Int32) → (Nat → Int32) → (Nat → Int32) → (Nat → Int32) → (Nat → Int32) → (Nat → Int32) → (Nat → Int32) → (Nat → Int32) → (Nat → Int32) → Prop}
    {f g a k s n : Nat} {cd ln : Nat → Nat} {a1 a2 a3 a4 a5 a6 a7 a8 a9 a10 a11 a12 : Nat → Int32} (hf : f < 27) (hg : g < 27) (ha : a < s) (hk : k < 2) (h : tq_BI f g s 0 s cd ln a2 a3 a4 a5 a6 a7) (hl : tq_LI f g a k s cd a8)
    (H : ∀ b8, tq_LI f g a (k + 1) s cd b8 → wX_refresh_180 post J170 (nI a) 3 27 2 (nI s) 1 n (nI (k + 1)) a1 a2 a3 a4 a5 a6 a7 b8 a9 a10 a11 a12) :
    wX_refresh_180 post J170 (nI a) 3 27 2 (nI s) 1 (n + 1) (nI k) a1 a2 a3 a4 a5 a6 a7 a8 a9 a10 a11 a12 := by
  have hs := tq_BI_le h
  obtain ⟨g1, g2, g3, g4, g5, g6, g7⟩ := h
  have ea : (nI a).toNatClampNeg = a := nI_clamp (by omega)
  have ek : (nI k).toNatClampNeg = k := nI_clamp (by omega)
  refine pk_le 2 k (fun z => absurd z (by omega)) (fun _ => pk_eq a 0 (fun z => ?_) (fun z => ?_))
  · subst z
    obtain ⟨b, x1, x2, x3, _⟩ := g7 0 k hk (Or.inl ha)
    have e : cd b = tq_tm (tq_gn f g k) (cd 0) := by
      rw [x3, g1.2.2.1, tq_id_l _ (tq_gn_lt hf hg k), tq_id_r _ (tq_gn_lt hf hg k)]
    have x2' : a7 k = nI b := by
      rw [← x2]
      exact congrArg a7 (by omega)
    exact ⟨pk_in k 1024 (by omega), pk_in (4 * 0 + k) 1024 (by omega) (tq_ix 0 k), nm_r (e' := upd a8 (4 * 0 + k) (nI b)) (by rw [tq_ix, nI_clamp (by omega), ek, x2']) (nm_r (nI_1 k) (H _ (tq_LI_add hl hk x1 e)))⟩
  · obtain ⟨i, q, i1, i2, i3, i4, i5, i6⟩ := g4 a ha (by omega)
    obtain ⟨b, y1, y2, y3⟩ := hl i k hk (Or.inl i1)
    obtain ⟨b', x1, x2, x3, _⟩ := g7 b q i2 (Or.inl y1)
    have e : cd b' = tq_tm (tq_gn f g k) (cd a) := by
      rw [x3, y3, i5, tq_assoc (tq_gn_lt hf hg k) (g2 i (by omega)).1 (tq_gn_lt hf hg q)]
    refine ⟨pk_in a 256 (by omega), pk_in (4 * i + k) 1024 (by omega) (by rw [ea, i3, tq_ix]), nm_r (e' := nI b) (by rw [ea, i3, tq_ix, nI_clamp (by omega), y2]) ⟨pk_in a 256 (by omega), pk_in (4 * b + q) 1024 (by omega) (by rw [ea, i4, tq_ix]), ?_⟩⟩
    exact ⟨pk_in (4 * a + k) 1024 (by omega) (tq_ix a k), nm_r (e' := upd a8 (4 * a + k) (nI b')) (by rw [tq_ix a k, nI_clamp (show 4 * a + k < 2 ^ 31 by omega), ea, i4, tq_ix, nI_clamp (by omega), x2]) (nm_r (nI_1 k) (H _ (tq_LI_add hl hk x1 e)))⟩
theorem tq_r170 {post : St2 → Prop} {f g s : Nat} {cd ln : Nat → Nat} {a1 a2 a3 a4 a5 a6 a7 a8 a9 a10 a11 a12 : Nat → Int32} (hf : f < 27) (hg : g < 27) (h : tq_BI f g s 0 s cd ln a2 a3 a4 a5 a6 a7)
    (H : ∀ b8, tq_LI f g s 0 s cd b8 → post (3, 27, 2, nI s, 1, a1, a2, a3, a4, a5, a6, a7, b8, a9, a10, a11, a12)) : ∃ n, wX_refresh_170 post 3 27 2 (nI s) 1 n 0 a1 a2 a3 a4 a5 a6 a7 a8 a9 a10 a11 a12 := by
  have hs := tq_BI_le h
  refine pk_loop (fun n i t => wX_refresh_170 post 3 27 2 (nI s) 1 n (nI i) a1 a2 a3 a4 a5 a6 a7 t a9 a10 a11 a12) (fun i t => tq_LI f g i 0 s cd t) s 0 a8 (by omega) (fun i q hq hi => absurd hi (by omega)) ?_ ?_
  · exact fun n t ht => pk_le s s (fun _ => H t ht) (fun z => absurd z (by omega))
  · intro n i t hi ht hw
    refine pk_le s i (fun z => absurd z (by omega)) (fun _ => ⟨3, ?_⟩)
    refine tq_r180 (k := 0) hf hg hi (by omega) h ht (fun t1 ht1 => tq_r180 (k := 1) hf hg hi (by omega) h ht1 (fun t2 ht2 => ?_))
    exact pk_le 2 2 (fun _ => nm_r (nI_1 i) (hw t2 (fun x q hq hx => ht2 x q hq (by omega)))) (fun z => absurd z (by omega))
theorem tq_r77 {post : St2 → Prop} {f g s : Nat} {cd ln : Nat → Nat} {a1 a2 a3 a4 a5 a6 a7 a8 a9 a10 a11 a12 : Nat → Int32} (hf : f < 27) (hg : g < 27) (h1 : a1 0 = nI f) (h2 : a1 1 = nI g) (h : tq_BI f g 0 0 s cd ln a2 a3 a4 a5 a6 a7)
    (H : ∀ s' cd' ln' b2 b3 b4 b5 b6 b7 b8, tq_KX f g s' cd' ln' b2 b3 b6 b7 b8 → post (3, 27, 2, nI s', 1, a1, b2, b3, b4, b5, b6, b7, b8, a9, a10, a11, a12)) :
    ∃ n, wX_refresh_77 post n 0 3 27 2 (nI s) 1 a1 a2 a3 a4 a5 a6 a7 a8 a9 a10 a11 a12 := by
  refine lp8 (fun n a s b2 b3 b4 b5 b6 b7 => wX_refresh_77 post n (nI a) 3 27 2 (nI s) 1 a1 b2 b3 b4 b5 b6 b7 a8 a9 a10 a11 a12) (fun a s b2 b3 b4 b5 b6 b7 => a ≤ s ∧ ∃ cd ln, tq_BI f g a 0 s cd ln b2 b3 b4 b5 b6 b7) (fun a s b2 b3 b4 b5 b6 b7 => 27 - a) ?_ 0 s a2 a3 a4 a5 a6 a7 ⟨by omega, cd, ln, h⟩
  rintro n a s b2 b3 b4 b5 b6 b7 ⟨has, cd, ln, h⟩ hw
  have hs := tq_BI_le h
  refine pk_le 256 a (fun z => absurd z (by omega)) (fun _ => pk_le s a (fun z => ?_) (fun z => ?_))
  · have e : a = s := by omega
    subst e
    refine tq_r170 hf hg h (fun b8 h8 => H _ cd ln _ _ _ _ _ _ _ ?_)
    obtain ⟨g1, g2, g3, g4, g5, g6, g7⟩ := h
    refine ⟨⟨g1.2.1, hs, g1.2.2.1, g1.2.2.2⟩, g2, g3, fun j hj h0 => ?_, fun i q hi hq => g7 i q hq (Or.inl hi), fun i q hi hq => h8 i q hq (Or.inl hi)⟩
    obtain ⟨i, q, x1, x2, _, _, x5, x6⟩ := g4 j hj h0
    exact ⟨i, q, x1, x2, x5, x6⟩
  · refine ⟨3, ?_⟩
    refine tq_r94 (k := 0) hf hg h1 h2 z (by omega) h (fun s1 cd1 ln1 c2 c3 c4 c5 c6 c7 z1 h1' => tq_r94 (k := 1) hf hg h1 h2 z1 (by omega) h1' (fun s2 cd2 ln2 d2 d3 d4 d5 d6 d7 z2 h2' => ?_))
    exact pk_le 2 2 (fun _ => nm_r (nI_1 a) (hw (a + 1) s2 d2 d3 d4 d5 d6 d7 ⟨by omega, cd2, ln2, tq_BI_next h2'⟩ (by omega))) (fun z => absurd z (by omega))
theorem tq_BI_0 {f g : Nat} {b2 b3 b4 b5 b6 b7 : Nat → Int32} (h : ∀ c, c < 27 → b2 c = -1) : tq_BI f g 0 0 1 (fun _ => 5) (fun _ => 0) (upd b2 5 0) (upd b3 0 (nI 5)) (upd b4 0 (-1)) (upd b5 0 (-1)) (upd b6 0 0) b7 := by
  have z : ∀ n, n ≤ 27 → tq_cn (fun c => b2 c ≠ -1) n = 0 := by
    intro n
    induction n with
    | zero => exact fun _ => rfl
    | succ n ih =>
      intro hn
      rw [tq_cn_f (fun q => q (h n (by omega)))]
      exact ih (by omega)
  have c1 : tq_cn (fun c => upd b2 5 0 c ≠ -1) 27 = tq_cn (fun c => b2 c ≠ -1) 27 + 1 := by
    refine tq_cn_ins (c := 5) (fun q => q (h 5 (by omega))) ?_ (by omega) (fun i hi hn => ?_)
    · show upd b2 5 0 5 ≠ -1
      rw [pk_us]
      decide
    · show b2 i ≠ -1 ↔ upd b2 5 0 i ≠ -1
      rw [pk_un hn]
  refine ⟨⟨by rw [c1, z 27 (by omega)], by omega, rfl, rfl⟩, ?_, ?_, fun j hj h0 => absurd hj (by omega), fun _ _ _ _ => Nat.le_refl _, fun _ j hj => by show 0 ≤ 0 + 1; omega, fun i q hq hi => absurd hi (by omega)⟩
  · intro j hj
    have e : j = 0 := by omega
    subst e
    exact ⟨by decide, pk_us, pk_us, tq_M_5, pk_us, Nat.le_refl _⟩
  · intro c hc hn
    by_cases e : c = 5
    · exact ⟨0, by omega, e.symm⟩
    · rw [pk_un e] at hn
      exact absurd (h c hc) hn
theorem tq_refresh {post : St2 → Prop} {f g : Nat} {nn mm cc zz kk : Int32} {a1 a2 a3 a4 a5 a6 a7 a8 a9 a10 a11 a12 : Nat → Int32} (hf : f < 27) (hg : g < 27) (h : tq_SP f g nn mm cc zz kk a1 a2 a3 a6 a7 a8)
    (H : ∀ s cd ln b2 b3 b4 b5 b6 b7 b8, a1 0 = nI f → a1 1 = nI g → tq_KX f g s cd ln b2 b3 b6 b7 b8 → post (3, 27, 2, nI s, 1, a1, b2, b3, b4, b5, b6, b7, b8, a9, a10, a11, a12)) : wpX_refresh post (nn, mm, cc, zz, kk, a1, a2, a3, a4, a5, a6, a7, a8, a9, a10, a11, a12) := by
  obtain ⟨rfl, rfl, rfl, h1, h2, h3⟩ := h
  rcases h3 with rfl | ⟨rfl, s, cd, ln, rfl, hK⟩
  · refine br_t rfl ?_
    refine pk_loop (fun n i t => wX_refresh_15 post 3 27 2 zz 1 n (nI i) a1 t a3 a4 a5 a6 a7 a8 a9 a10 a11 a12) (fun i t => ∀ c, c < i → t c = -1) 27 0 a2 (by omega) (fun c hc => absurd hc (by omega)) ?_ ?_
    · intro n t ht
      refine pk_le 27 27 (fun _ => ⟨4, ?_⟩) (fun z => absurd z (by omega))
      refine pk_le 3 0 (fun z => absurd z (by omega)) (fun _ => nm_r (tq_mul3 0 0) (nm_r (nI_1 0) ?_))
      refine pk_le 3 1 (fun z => absurd z (by omega)) (fun _ => nm_r (tq_mul3 _ 1) (nm_r (nI_1 1) ?_))
      refine pk_le 3 2 (fun z => absurd z (by omega)) (fun _ => nm_r (tq_mul3 _ 2) (nm_r (nI_1 2) ?_))
      refine pk_le 3 3 (fun _ => ?_) (fun z => absurd z (by omega))
      exact tq_enter0 (c := 5) (by omega) (tq_r77 hf hg h1 h2 (tq_BI_0 ht) (fun s cd ln b2 b3 b4 b5 b6 b7 b8 hK => H s cd ln b2 b3 b4 b5 b6 b7 b8 h1 h2 hK))
    · intro n i t hi ht hw
      refine pk_le 27 i (fun z => absurd z (by omega)) (fun _ => ⟨pk_in i 256 (by omega), nm_r (by rw [nI_clamp (by omega)]) (nm_r (nI_1 i) (hw _ (fun c hc => ?_)))⟩)
      by_cases e : c = i
      · rw [e]; exact pk_us
      · rw [pk_un e]; exact ht c (by omega)
  · exact br_f (by decide) (H s cd ln _ _ _ _ _ _ _ h1 h2 hK)
end
section
/-! ===== what a refreshed state says ===== -/
theorem tq_cn_0 {P : Nat → Prop} : ∀ {n : Nat}, (∀ i, i < n → ¬ P i) → tq_cn P n = 0
  | 0, _ => rfl
  | n + 1, h => by
    rw [tq_cn_f (h n (by omega))]
    exact tq_cn_0 (fun i hi => h i (by omega))
theorem tq_cn_all {P : Nat → Prop} : ∀ {n : Nat}, (∀ i, i < n → P i) → tq_cn P n = n
  | 0, _ => rfl
  | n + 1, h => by
    rw [tq_cn_t (h n (by omega)), tq_cn_all (fun i hi => h i (by omega))]
theorem tq_cn_up {P : Nat → Prop} {i : Nat} : ∀ {j : Nat}, i ≤ j → tq_cn P i ≤ tq_cn P j
  | 0, h => by
    have e : i = 0 := by omega
    rw [e]
    exact Nat.le_refl _
  | j + 1, h => by
    by_cases e : i = j + 1
    · rw [e]; exact Nat.le_refl _
    · have := tq_cn_up (P := P) (i := i) (j := j) (by omega)
      by_cases p : P j
      · rw [tq_cn_t p]; omega
      · rw [tq_cn_f p]; omega
theorem tq_E0q {f g c q : Nat} : tq_E f g 0 c (tq_tm c (tq_gn f g q)) := by
  rw [tq_E0]
  unfold tq_gn
  by_cases h : q = 0
  · rw [if_pos h]; exact Or.inl rfl
  · rw [if_neg h]; exact Or.inr rfl
theorem tq_E0i {f g c t : Nat} (h : tq_E f g 0 c t) : ∃ q, q < 2 ∧ t = tq_tm c (tq_gn f g q) := by
  rcases tq_E0.mp h with e | e
  · exact ⟨0, by omega, e⟩
  · exact ⟨1, by omega, e⟩
section
variable {f g s : Nat} {cd ln : Nat → Nat} {a2 a3 a6 a7 a8 : Nat → Int32}
theorem tq_KX_ix (h : tq_KX f g s cd ln a2 a3 a6 a7 a8) {c : Nat} (hc : tq_M f g c) : ∃ j, j < s ∧ cd j = c := by
  obtain ⟨h1, h2, h3, h4, h5, h6⟩ := h
  refine hc (fun c => ∃ j, j < s ∧ cd j = c) ⟨0, h1.1, h1.2.2.1⟩ (fun u v hu e => ?_)
  obtain ⟨j, hj, rfl⟩ := hu
  obtain ⟨q, hq, rfl⟩ := tq_E0i e
  obtain ⟨b, x1, _, x3, _⟩ := h5 j q hj hq
  exact ⟨b, x1, x3⟩
theorem tq_KX_inj (h : tq_KX f g s cd ln a2 a3 a6 a7 a8) {i j : Nat} (hi : i < s) (hj : j < s) (e : cd i = cd j) : i = j := by
  have x := (h.2.1 i hi).2.2.1
  rw [e, (h.2.1 j hj).2.2.1] at x
  have := h.1.2.1
  exact ((nI_eq (by omega) (by omega)).mp x).symm
theorem tq_KX_no (h : tq_KX f g s cd ln a2 a3 a6 a7 a8) {c : Nat} (hc : c < 27) (hn : ¬ tq_M f g c) : a2 c = -1 := by
  apply Classical.byContradiction
  intro z
  obtain ⟨j, hj, e⟩ := h.2.2.1 c hc z
  rw [← e] at hn
  exact hn (h.2.1 j hj).2.2.2.1
theorem tq_KX_yes (h : tq_KX f g s cd ln a2 a3 a6 a7 a8) {c : Nat} (hM : tq_M f g c) : ¬ a2 c = -1 := by
  obtain ⟨j, hj, e⟩ := tq_KX_ix h hM
  rw [← e, (h.2.1 j hj).2.2.1]
  have := h.1.2.1
  exact tq_nm1 (by omega)
theorem tq_KX_cn (h : tq_KX f g s cd ln a2 a3 a6 a7 a8) {P Q : Nat → Prop} (hQ : ∀ c, c < 27 → (Q c ↔ (tq_M f g c ∧ P c))) : tq_cn (fun a => P (cd a)) s = tq_cn Q 27 := by
  refine tq_cn_bij (ρ := fun a c => cd a = c) (fun a ha pa => ⟨cd a, (h.2.1 a ha).1, (hQ _ (h.2.1 a ha).1).mpr ⟨(h.2.1 a ha).2.2.2.1, pa⟩, rfl⟩) (fun c hc qc => ?_) (fun a b c ha hb _ _ ea eb => tq_KX_inj h ha hb (ea.trans eb.symm)) (fun a c d _ _ _ _ ec ed => ec.symm.trans ed)
  obtain ⟨hM, hP⟩ := (hQ c hc).mp qc
  obtain ⟨j, hj, e⟩ := tq_KX_ix h hM
  exact ⟨j, hj, by show P (cd j); rw [e]; exact hP, e⟩
theorem tq_KX_nx (h : tq_KX f g s cd ln a2 a3 a6 a7 a8) {a e : Nat} (ha : a < s) (he : e < 4) : ∃ b, b < s ∧ (e % 2 = 0 → a7 (4 * a + e / 2) = nI b) ∧ (¬ e % 2 = 0 → a8 (4 * a + e / 2) = nI b) ∧ cd b = tq_ed f g e (cd a) := by
  by_cases p : e % 2 = 0
  · obtain ⟨b, x1, x2, x3, _⟩ := h.2.2.2.2.1 a (e / 2) ha (by omega)
    exact ⟨b, x1, fun _ => x2, fun z => absurd p z, by rw [tq_ed_r p]; exact x3⟩
  · obtain ⟨b, x1, x2, x3⟩ := h.2.2.2.2.2 a (e / 2) ha (by omega)
    exact ⟨b, x1, fun z => absurd z p, fun _ => x2, by rw [tq_ed_l p]; exact x3⟩
theorem tq_KX_LV (h : tq_KX f g s cd ln a2 a3 a6 a7 a8) : ∀ r a, a < s → (tq_LV f g r (cd a) ↔ ln a ≤ r) := by
  intro r
  induction r with
  | zero =>
    intro a ha
    show cd a = 5 ↔ ln a ≤ 0
    constructor
    · intro e
      have := tq_KX_inj h ha h.1.1 (e.trans h.1.2.2.1.symm)
      rw [this, h.1.2.2.2]
      exact Nat.le_refl _
    · intro e
      by_cases z : a = 0
      · rw [z]; exact h.1.2.2.1
      · obtain ⟨i, q, _, _, _, x⟩ := h.2.2.2.1 a ha (by omega)
        omega
  | succ r ih =>
    intro a ha
    show (tq_LV f g r (cd a) ∨ ∃ c, c < 27 ∧ tq_LV f g r c ∧ tq_E f g 0 c (cd a)) ↔ ln a ≤ r + 1
    constructor
    · rintro (x | ⟨c, _, x, e⟩)
      · have := (ih a ha).mp x
        omega
      · obtain ⟨i, hi, rfl⟩ := tq_KX_ix h (tq_LV_M x)
        have y := (ih i hi).mp x
        obtain ⟨q, hq, eq⟩ := tq_E0i e
        obtain ⟨b, x1, _, x3, x4⟩ := h.2.2.2.2.1 i q hi hq
        have z := tq_KX_inj h ha x1 (eq.trans x3.symm)
        rw [z]
        omega
    · intro l
      by_cases z : a = 0
      · left
        rw [z, h.1.2.2.1]
        exact tq_LV_5 r
      · obtain ⟨i, q, x1, x2, x3, x4⟩ := h.2.2.2.1 a ha (by omega)
        right
        refine ⟨cd i, (h.2.1 i (by omega)).1, (ih i (by omega)).mpr (by omega), ?_⟩
        rw [x3]
        exact tq_E0q
end
/-! ===== spread: pure rows ===== -/
def tq_QI (f g kd s st : Nat) (cd : Nat → Nat) (q i e : Nat) (b10 b12 : Nat → Int32) : Prop :=
  q = tq_cn (fun a => b10 a ≠ 0) s ∧ b10 st ≠ 0
  ∧ (∀ a, a < s → (b10 a = 0 ∨ b10 a = 1) ∧ (b10 a ≠ 0 → tq_RC f g kd (cd st) (cd a) ∧ ∃ j, j < q ∧ b12 j = nI a))
  ∧ (∀ j, j < q → ∃ a, a < s ∧ b12 j = nI a ∧ b10 a ≠ 0)
  ∧ (∀ j a x b, a < s → b < s → x < 4 → tq_us kd x → b12 j = nI a → (j < i ∨ (j = i ∧ x < e)) → cd b = tq_ed f g x (cd a) → b10 b ≠ 0)
theorem tq_QI_old {f g kd s st q i e a b : Nat} {cd : Nat → Nat} {b10 b12 : Nat → Int32} (inj : ∀ i j, i < s → j < s → cd i = cd j → i = j) (hs : s ≤ 27) (h : tq_QI f g kd s st cd q i e b10 b12) (ha : a < s) (hb : b < s) (hi : b12 i = nI a) (eb : cd b = tq_ed f g e (cd a)) (hx : tq_us kd e → b10 b ≠ 0) :
    tq_QI f g kd s st cd q i (e + 1) b10 b12 := by
  obtain ⟨h1, h2, h3, h4, h5⟩ := h
  refine ⟨h1, h2, h3, h4, fun j a' x b' ha' hb' hx4 hu hj hc e' => ?_⟩
  by_cases z : j = i ∧ x = e
  · obtain ⟨rfl, rfl⟩ := z
    rw [hi] at hj
    have ea : a = a' := (nI_eq (by omega) (by omega)).mp hj
    rw [← ea] at e'
    have := inj b' b hb' hb (e'.trans eb.symm)
    rw [this]
    exact hx hu
  · exact h5 j a' x b' ha' hb' hx4 hu hj (by omega) e'
theorem tq_QI_new {f g kd s st q i e a b : Nat} {cd : Nat → Nat} {b10 b12 : Nat → Int32} (inj : ∀ i j, i < s → j < s → cd i = cd j → i = j) (hs : s ≤ 27) (h : tq_QI f g kd s st cd q i e b10 b12) (ha : a < s) (hb : b < s) (hq : i < q) (he : e < 4) (hi : b12 i = nI a) (eb : cd b = tq_ed f g e (cd a)) (hu : tq_us kd e) (hz : b10 b = 0) :
    q < s ∧ tq_QI f g kd s st cd (q + 1) i (e + 1) (upd b10 b 1) (upd b12 q (nI b)) := by
  obtain ⟨h1, h2, h3, h4, h5⟩ := h
  have hcnt : tq_cn (fun d => upd b10 b 1 d ≠ 0) s = tq_cn (fun d => b10 d ≠ 0) s + 1 := by
    refine tq_cn_ins (c := b) (fun z => z hz) ?_ hb (fun i hi hn => ?_)
    · show upd b10 b 1 b ≠ 0
      rw [pk_us]
      decide
    · show b10 i ≠ 0 ↔ upd b10 b 1 i ≠ 0
      rw [pk_un hn]
  have hqs : q + 1 ≤ s := by
    have := tq_cn_le (fun d => upd b10 b 1 d ≠ 0) s
    rw [hcnt, ← h1] at this
    exact this
  have mono : ∀ d, b10 d ≠ 0 → upd b10 b 1 d ≠ 0 := fun d hd => by
    by_cases z : d = b
    · rw [z, pk_us]; decide
    · rw [pk_un z]; exact hd
  refine ⟨by omega, by rw [hcnt, ← h1], mono st h2, fun d hd => ?_, fun j hj => ?_, fun j a' x b' ha' hb' hx4 hu' hj hc e' => ?_⟩
  · by_cases z : d = b
    · rw [z, pk_us]
      refine ⟨Or.inr rfl, fun _ => ⟨?_, q, by omega, pk_us⟩⟩
      obtain ⟨a'', y1, y2, y3⟩ := h4 i hq
      rw [hi] at y2
      have ea : a = a'' := (nI_eq (by omega) (by omega)).mp y2
      rw [← ea] at y3
      exact tq_rc_step ((h3 a ha).2 y3).1 ⟨e, he, hu, eb⟩
    · rw [pk_un z]
      refine ⟨(h3 d hd).1, fun y => ?_⟩
      obtain ⟨y1, j, y2, y3⟩ := (h3 d hd).2 y
      exact ⟨y1, j, by omega, by rw [pk_un (by omega)]; exact y3⟩
  · by_cases z : j = q
    · exact ⟨b, hb, by rw [z]; exact pk_us, by rw [pk_us]; decide⟩
    · obtain ⟨a', y1, y2, y3⟩ := h4 j (by omega)
      exact ⟨a', y1, by rw [pk_un z]; exact y2, mono a' y3⟩
  · have hjq : j ≠ q := by omega
    rw [pk_un hjq] at hj
    by_cases z : j = i ∧ x = e
    · obtain ⟨rfl, rfl⟩ := z
      rw [hi] at hj
      have ea : a = a' := (nI_eq (by omega) (by omega)).mp hj
      rw [← ea] at e'
      have := inj b' b hb' hb (e'.trans eb.symm)
      rw [this, pk_us]
      decide
    · exact mono b' (h5 j a' x b' ha' hb' hx4 hu' hj (by omega) e')
theorem tq_QI_next {f g kd s st q i : Nat} {cd : Nat → Nat} {b10 b12 : Nat → Int32} (h : tq_QI f g kd s st cd q i 4 b10 b12) : tq_QI f g kd s st cd q (i + 1) 0 b10 b12 := by
  obtain ⟨h1, h2, h3, h4, h5⟩ := h
  exact ⟨h1, h2, h3, h4, fun j a x b ha hb hx hu hj hc e => h5 j a x b ha hb hx hu hj (by omega) e⟩
theorem tq_QI_0 {f g kd s st : Nat} {cd : Nat → Nat} {b10 b12 : Nat → Int32} (hst : st < s) (h : ∀ a, a < s → b10 a = 0) : tq_QI f g kd s st cd 1 0 0 (upd b10 st 1) (upd b12 0 (nI st)) := by
  have hcnt : tq_cn (fun d => upd b10 st 1 d ≠ 0) s = tq_cn (fun d => b10 d ≠ 0) s + 1 := by
    refine tq_cn_ins (c := st) (fun z => z (h st hst)) ?_ hst (fun i hi hn => ?_)
    · show upd b10 st 1 st ≠ 0
      rw [pk_us]
      decide
    · show b10 i ≠ 0 ↔ upd b10 st 1 i ≠ 0
      rw [pk_un hn]
  have z0 : tq_cn (fun d => b10 d ≠ 0) s = 0 := tq_cn_0 (fun i hi z => z (h i hi))
  refine ⟨by rw [hcnt, z0], by rw [pk_us]; decide, fun a ha => ?_, fun j hj => ?_, fun j a x b _ _ _ _ _ hc => absurd hc (by omega)⟩
  · by_cases z : a = st
    · rw [z, pk_us]
      exact ⟨Or.inr rfl, fun _ => ⟨tq_rc_refl _ _ _ _, 0, by omega, pk_us⟩⟩
    · rw [pk_un z]
      exact ⟨Or.inl (h a ha), fun y => absurd (h a ha) y⟩
  · have e : j = 0 := by omega
    subst e
    exact ⟨st, hst, pk_us, by rw [pk_us]; decide⟩
theorem tq_QI_end {f g kd s st q : Nat} {cd ln : Nat → Nat} {a2 a3 a6 a7 a8 b10 b12 : Nat → Int32} (hK : tq_KX f g s cd ln a2 a3 a6 a7 a8) (hst : st < s) (h : tq_QI f g kd s st cd q q 0 b10 b12) : ∀ a, a < s → (b10 a = 0 ∨ b10 a = 1) ∧ (b10 a ≠ 0 ↔ tq_RC f g kd (cd st) (cd a)) := by
  obtain ⟨h1, h2, h3, h4, h5⟩ := h
  intro a ha
  refine ⟨(h3 a ha).1, fun z => ((h3 a ha).2 z).1, fun r => ?_⟩
  have x := r (fun c => ∃ b, b < s ∧ cd b = c ∧ b10 b ≠ 0) ⟨st, hst, rfl, h2⟩ (fun u v hu e => by
    obtain ⟨b, hb, rfl, nb⟩ := hu
    obtain ⟨x, hx, hus, rfl⟩ := e
    obtain ⟨b', y1, _, _, y4⟩ := tq_KX_nx hK hb hx
    obtain ⟨_, j, hj, ej⟩ := (h3 b hb).2 nb
    exact ⟨b', y1, y4, h5 j b x b' hb y1 hx hus ej (Or.inl hj) y4⟩)
  obtain ⟨b, hb, eb, nb⟩ := x
  rw [← tq_KX_inj hK hb ha eb]
  exact nb
/-! ===== spread: the walk ===== -/
theorem tq_par : ∀ e, e < 8 → nI e &&& 1 = nI (e % 2) := by decide +kernel
theorem tq_half : ∀ e, e < 8 → nI e >>> ((1 : Int32) &&& 31) = nI (e / 2) := by decide +kernel
theorem tq_s148 {post : Int32 → St2 → Prop} {J42 J59 : Int32 → Int32 → (Nat → Int32) → (Nat → Int32) → (Nat → Int32) → (Nat → Int32) → (Nat → Int32) → (Nat → Int32) → (Nat → Int32) → (Nat → Int32) → (Nat → Int32) → (Nat → Int32) → (Nat → Int32) → (Nat → Int32) → Prop}
    {x1 x4 nn mm cc zz kk : Int32} {a1 a2 a3 a4 a5 a6 a7 a8 a9 a10 a11 a12 : Nat → Int32} {q e b : Nat} (hq : q < 2 ^ 30) (hb : b < 27) (H0 : a10 b ≠ 0 → J59 (nI q) (nI (e + 1)) a1 a2 a3 a4 a5 a6 a7 a8 a9 a10 a11 a12) (H1 : a10 b = 0 → q < 27 ∧ J59 (nI (q + 1)) (nI (e + 1)) a1 a2 a3 a4 a5 a6 a7 a8 a9 (upd a10 b 1) a11 (upd a12 q (nI b))) :
    wX_spread_148 post J42 J59 x1 (nI q) x4 (nI e) (nI b) 1 nn mm cc zz kk a1 a2 a3 a4 a5 a6 a7 a8 a9 a10 a11 a12 := by
  have eb : (nI b).toNatClampNeg = b := nI_clamp (by omega)
  unfold wX_spread_148
  refine br_f (by decide) ⟨pk_in b 256 (by omega), br_c (fun z => ?_) (fun z => ?_)⟩
  · rw [eb] at z
    obtain ⟨hq', H⟩ := H1 z
    exact ⟨pk_in b 256 (by omega), nm_r (by rw [eb]) ⟨pk_in q 256 (by omega), nm_r (by rw [nI_clamp (show q < 2 ^ 31 by omega)]) (nm_r (nI_1 q) (nm_r (nI_1 e) H))⟩⟩
  · rw [eb] at z
    exact nm_r (nI_1 e) (H0 z)
theorem tq_s122 {post : Int32 → St2 → Prop} {J42 J59 : Int32 → Int32 → (Nat → Int32) → (Nat → Int32) → (Nat → Int32) → (Nat → Int32) → (Nat → Int32) → (Nat → Int32) → (Nat → Int32) → (Nat → Int32) → (Nat → Int32) → (Nat → Int32) → (Nat → Int32) → (Nat → Int32) → Prop}
    {x4 x6 nn mm cc zz kk : Int32} {a1 a2 a3 a4 a5 a6 a7 a8 a9 a10 a11 a12 : Nat → Int32} {kd q e b : Nat} (hk : kd < 3) (hx : (e % 2 = 0 ∧ x6 = 1) ∨ (¬ e % 2 = 0 ∧ x6 = 0)) (H0 : ¬ tq_us kd e → J59 (nI q) (nI (e + 1)) a1 a2 a3 a4 a5 a6 a7 a8 a9 a10 a11 a12) (H1 : tq_us kd e → wX_spread_148 post J42 J59 (nI kd) (nI q) x4 (nI e) (nI b) 1 nn mm cc zz kk a1 a2 a3 a4 a5 a6 a7 a8 a9 a10 a11 a12) :
    wX_spread_122 post J42 J59 (nI kd) (nI q) x4 (nI e) x6 (nI b) nn mm cc zz kk a1 a2 a3 a4 a5 a6 a7 a8 a9 a10 a11 a12 := by
  have Z : ¬ tq_us kd e → wX_spread_148 post J42 J59 (nI kd) (nI q) x4 (nI e) (nI b) 0 nn mm cc zz kk a1 a2 a3 a4 a5 a6 a7 a8 a9 a10 a11 a12 := fun hu => br_t rfl (nm_r (nI_1 e) (H0 hu))
  unfold wX_spread_122
  refine pk_eq kd 2 (fun z => H1 (Or.inl z)) (fun z => pk_eq kd 0 (fun z0 => ?_) (fun z0 => ?_))
  · unfold wX_spread_138
    rcases hx with ⟨p, rfl⟩ | ⟨p, rfl⟩
    · exact br_t rfl (H1 (by unfold tq_us; omega))
    · exact br_f (by decide) (Z (by unfold tq_us; omega))
  · unfold wX_spread_138
    rcases hx with ⟨p, rfl⟩ | ⟨p, rfl⟩
    · exact br_f (by decide) (Z (by unfold tq_us; omega))
    · exact br_t rfl (H1 (by unfold tq_us; omega))
theorem tq_s59 {post : Int32 → St2 → Prop} {J42 : Int32 → Int32 → (Nat → Int32) → (Nat → Int32) → (Nat → Int32) → (Nat → Int32) → (Nat → Int32) → (Nat → Int32) → (Nat → Int32) → (Nat → Int32) → (Nat → Int32) → (Nat → Int32) → (Nat → Int32) → (Nat → Int32) → Prop}
    {f g s kd st q i e n : Nat} {cd ln : Nat → Nat} {a1 a2 a3 a4 a5 a6 a7 a8 a9 a10 a11 a12 : Nat → Int32} (hK : tq_KX f g s cd ln a2 a3 a6 a7 a8) (hk : kd < 3) (he : e < 4) (hi : i < q) (h : tq_QI f g kd s st cd q i e a10 a12)
    (H : ∀ q' b10 b12, i < q' → tq_QI f g kd s st cd q' i (e + 1) b10 b12 → wX_spread_59 post J42 (nI kd) (nI i) 3 27 2 (nI s) 1 n (nI q') (nI (e + 1)) a1 a2 a3 a4 a5 a6 a7 a8 a9 b10 a11 b12) :
    wX_spread_59 post J42 (nI kd) (nI i) 3 27 2 (nI s) 1 (n + 1) (nI q) (nI e) a1 a2 a3 a4 a5 a6 a7 a8 a9 a10 a11 a12 := by
  have hs := hK.1.2.1
  have hq : q ≤ s := by rw [h.1]; exact tq_cn_le _ _
  obtain ⟨a, ha, ea, na⟩ := h.2.2.2.1 i hi
  obtain ⟨b, hb, b7, b8, eb⟩ := tq_KX_nx hK ha he
  have inj := fun i j (hi : i < s) (hj : j < s) e => tq_KX_inj hK (i := i) (j := j) hi hj e
  have ei : (nI i).toNatClampNeg = i := nI_clamp (by omega)
  have ex : (4 * (a12 (nI i).toNatClampNeg)) + (nI e >>> ((1 : Int32) &&& 31)) = nI (4 * a + e / 2) := by
    rw [ei, ea, tq_half e (by omega), tq_ix]
  have ec : (nI (4 * a + e / 2)).toNatClampNeg = 4 * a + e / 2 := nI_clamp (by omega)
  have main : ∀ x6 : Int32, ((e % 2 = 0 ∧ x6 = 1) ∨ (¬ e % 2 = 0 ∧ x6 = 0)) → wX_spread_122 post J42 (wX_spread_59 post J42 (nI kd) (nI i) 3 27 2 (nI s) 1 n) (nI kd) (nI q) (nI i) (nI e) x6 (nI b) 3 27 2 (nI s) 1 a1 a2 a3 a4 a5 a6 a7 a8 a9 a10 a11 a12 := by
    intro x6 hx
    refine tq_s122 hk hx (fun hu => H q a10 a12 hi (tq_QI_old inj hs h ha hb ea eb (fun z => absurd z hu))) (fun hu => tq_s148 (by omega) (by omega) (fun z => H q a10 a12 hi (tq_QI_old inj hs h ha hb ea eb (fun _ => z))) (fun z => ?_))
    obtain ⟨y1, y2⟩ := tq_QI_new inj hs h ha hb hi he ea eb hu z
    exact ⟨by omega, H _ _ _ (by omega) y2⟩
  refine pk_le 4 e (fun z => absurd z (by omega)) (fun _ => pk_eq (e % 2) 0 (fun z => ?_) (fun z => ?_) (tq_par e (by omega))) (by decide)
  · unfold wX_spread_82
    refine ⟨pk_in i 256 (by omega), nm_r ex (br_f (by decide) ⟨pk_in (4 * a + e / 2) 1024 (by omega), ?_⟩)⟩
    rw [ec, b7 z]
    exact main 1 (Or.inl ⟨z, rfl⟩)
  · unfold wX_spread_82
    refine ⟨pk_in i 256 (by omega), nm_r ex (br_t rfl ⟨pk_in (4 * a + e / 2) 1024 (by omega), ?_⟩)⟩
    rw [ec, b8 z]
    exact main 0 (Or.inr ⟨z, rfl⟩)
theorem tq_spread {post : Int32 → St2 → Prop} {f g s kd st : Nat} {cd ln : Nat → Nat} {x y : Int32} {a1 a2 a3 a4 a5 a6 a7 a8 a9 a10 a11 a12 : Nat → Int32} (hf : f < 27) (hg : g < 27) (hK : tq_KX f g s cd ln a2 a3 a6 a7 a8) (hk : kd < 3) (hst : st < s)
    (H : ∀ b10 b12, (∀ a, a < s → (b10 a = 0 ∨ b10 a = 1) ∧ (b10 a ≠ 0 ↔ tq_RC f g kd (cd st) (cd a))) → post (nI (tq_cn (tq_RC f g kd (cd st)) 27)) (3, 27, 2, nI s, 1, a1, a2, a3, a4, a5, a6, a7, a8, a9, b10, a11, b12)) (hx : x = nI kd := by rfl) (hy : y = nI st := by rfl) :
    wpX_spread post (3, 27, 2, nI s, 1, a1, a2, a3, a4, a5, a6, a7, a8, a9, a10, a11, a12) x y := by
  subst hx
  subst hy
  have hs := hK.1.2.1
  refine pk_loop (fun n i t => wX_spread_2 post (nI kd) (nI st) 3 27 2 (nI s) 1 n (nI i) a1 a2 a3 a4 a5 a6 a7 a8 a9 t a11 a12) (fun i t => ∀ a, a < i → t a = 0) s 0 a10 (by omega) (fun c hc => absurd hc (by omega)) ?_ ?_
  · intro n t ht
    refine pk_le s s (fun _ => ⟨pk_in st 256 (by omega), nm_r (by rw [nI_clamp (show st < 2 ^ 31 by omega)]) (nm_e ?_)⟩) (fun z => absurd z (by omega))
    refine lp4 (fun n q i t10 t12 => wX_spread_42 post (nI kd) 3 27 2 (nI s) 1 n (nI q) (nI i) a1 a2 a3 a4 a5 a6 a7 a8 a9 t10 a11 t12) (fun q i t10 t12 => i ≤ q ∧ tq_QI f g kd s st cd q i 0 t10 t12) (fun q i t10 t12 => 28 - i) ?_ 1 0 (upd t st 1) (upd a12 0 (nI st)) ⟨by omega, tq_QI_0 hst ht⟩
    rintro n q i t10 t12 ⟨hi, h⟩ hw
    have hq : q ≤ s := by rw [h.1]; exact tq_cn_le _ _
    refine pk_le 256 i (fun z => absurd z (by omega)) (fun _ => pk_le q i (fun z => ?_) (fun z => ⟨5, ?_⟩))
    · have e : i = q := by omega
      subst e
      have y := tq_QI_end hK hst h
      have eq : i = tq_cn (tq_RC f g kd (cd st)) 27 := by
        rw [h.1, ← tq_KX_cn hK (P := tq_RC f g kd (cd st)) (Q := tq_RC f g kd (cd st)) (fun c _ => ⟨fun r => ⟨tq_M_rc hf hg hk (hK.2.1 st hst).2.2.2.1 r, r⟩, fun r => r.2⟩)]
        exact tq_cn_ext (fun a ha => (y a ha).2)
      have HH := H t10 t12 y
      rw [← eq] at HH
      exact HH
    · refine tq_s59 (e := 0) hK hk (by omega) z h (fun q1 c1 d1 z1 h1 => tq_s59 (e := 1) hK hk (by omega) z1 h1 (fun q2 c2 d2 z2 h2 => tq_s59 (e := 2) hK hk (by omega) z2 h2 (fun q3 c3 d3 z3 h3 => tq_s59 (e := 3) hK hk (by omega) z3 h3 (fun q4 c4 d4 z4 h4 => ?_))))
      exact pk_le 4 4 (fun _ => nm_r (nI_1 i) (hw q4 (i + 1) c4 d4 ⟨by omega, tq_QI_next h4⟩ (by omega))) (fun z => absurd z (by omega)) (by decide)
  · intro n i t hi ht hw
    refine pk_le s i (fun z => absurd z (by omega)) (fun _ => ⟨pk_in i 256 (by omega), nm_r (by rw [nI_clamp (show i < 2 ^ 31 by omega)]) (nm_r (nI_1 i) (hw _ (fun c hc => ?_)))⟩)
    by_cases e : c = i
    · rw [e]; exact pk_us
    · rw [pk_un e]; exact ht c (by omega)
end
section
/-! ===== the methods that the law asks, classes apart: each answer in terms of f and g alone ===== -/
theorem tq_SPk {f g s : Nat} {cd ln : Nat → Nat} {a1 a2 a3 a6 a7 a8 : Nat → Int32} (h1 : a1 0 = nI f) (h2 : a1 1 = nI g) (hK : tq_KX f g s cd ln a2 a3 a6 a7 a8) : tq_SP f g 3 27 2 (nI s) 1 a1 a2 a3 a6 a7 a8 :=
  ⟨rfl, rfl, rfl, h1, h2, Or.inr ⟨rfl, s, cd, ln, rfl, hK⟩⟩
theorem tq_has {post : Int32 → St2 → Prop} {f g c : Nat} {nn mm cc zz kk : Int32} {a1 a2 a3 a4 a5 a6 a7 a8 a9 a10 a11 a12 : Nat → Int32} (hf : f < 27) (hg : g < 27) (hc : c < 27) (h : tq_SP f g nn mm cc zz kk a1 a2 a3 a6 a7 a8)
    (H : ∀ r nn mm cc zz kk a1 a2 a3 a4 a5 a6 a7 a8 a9 a10 a11 a12, tq_SP f g nn mm cc zz kk a1 a2 a3 a6 a7 a8 → (tq_M f g c → r = 1) → (¬ tq_M f g c → r = 0) → post r (nn, mm, cc, zz, kk, a1, a2, a3, a4, a5, a6, a7, a8, a9, a10, a11, a12)) : wpX_has post (nn, mm, cc, zz, kk, a1, a2, a3, a4, a5, a6, a7, a8, a9, a10, a11, a12) (nI c) := by
  obtain ⟨rfl, rfl, rfl, h'⟩ := h
  unfold wpX_has
  refine tq_isCode hc (br_f (by decide) (tq_refresh hf hg ⟨rfl, rfl, rfl, h'⟩ (fun s cd ln b2 b3 b4 b5 b6 b7 b8 h1 h2 hK => ⟨pk_in c 256 (by omega), br_c (fun z => ?_) (fun z => ?_)⟩)))
  · rw [nI_clamp (by omega)] at z
    exact H _ _ _ _ _ _ _ _ _ _ _ _ _ _ _ _ _ _ (tq_SPk h1 h2 hK) (fun hM => absurd z (tq_KX_yes hK hM)) (fun _ => rfl)
  · rw [nI_clamp (by omega)] at z
    exact H _ _ _ _ _ _ _ _ _ _ _ _ _ _ _ _ _ _ (tq_SPk h1 h2 hK) (fun _ => rfl) (fun hM => absurd (tq_KX_no hK hc hM) z)
theorem tq_length {post : Int32 → St2 → Prop} {f g c : Nat} {nn mm cc zz kk : Int32} {a1 a2 a3 a4 a5 a6 a7 a8 a9 a10 a11 a12 : Nat → Int32} (hf : f < 27) (hg : g < 27) (hM : tq_M f g c) (h : tq_SP f g nn mm cc zz kk a1 a2 a3 a6 a7 a8)
    (H : ∀ l nn mm cc zz kk a1 a2 a3 a4 a5 a6 a7 a8 a9 a10 a11 a12, tq_SP f g nn mm cc zz kk a1 a2 a3 a6 a7 a8 → (∀ n, tq_LV f g n c ↔ l ≤ n) → post (nI l) (nn, mm, cc, zz, kk, a1, a2, a3, a4, a5, a6, a7, a8, a9, a10, a11, a12)) : wpX_length post (nn, mm, cc, zz, kk, a1, a2, a3, a4, a5, a6, a7, a8, a9, a10, a11, a12) (nI c) := by
  have hc := tq_M_lt hf hg hM
  obtain ⟨rfl, rfl, rfl, h'⟩ := h
  unfold wpX_length
  refine tq_isCode hc (br_f (by decide) (tq_refresh hf hg ⟨rfl, rfl, rfl, h'⟩ (fun s cd ln b2 b3 b4 b5 b6 b7 b8 h1 h2 hK => ?_)))
  obtain ⟨j, hj, e⟩ := tq_KX_ix hK hM
  have hs := hK.1.2.1
  have ec : (nI c).toNatClampNeg = c := nI_clamp (by omega)
  have ej : b2 (nI c).toNatClampNeg = nI j := by
    rw [ec, ← e]
    exact (hK.2.1 j hj).2.2.1
  have el : b6 (b2 (nI c).toNatClampNeg).toNatClampNeg = nI (ln j) := by
    rw [ej, nI_clamp (by omega)]
    exact (hK.2.1 j hj).2.2.2.2.1
  refine ⟨pk_in c 256 (by omega), br_f (by rw [ej]; exact tq_nm1 (by omega)) ⟨pk_in c 256 (by omega), pk_in j 256 (by omega) ej, ?_⟩⟩
  exact ek_v (P := fun r => post r _) el (H (ln j) _ _ _ _ _ _ _ _ _ _ _ _ _ _ _ _ _ (tq_SPk h1 h2 hK) (fun n => by
    have := tq_KX_LV hK n j hj
    rwa [e] at this))
theorem tq_element {post : Int32 → St2 → Prop} {f g c : Nat} {nn mm cc zz kk : Int32} {a1 a2 a3 a4 a5 a6 a7 a8 a9 a10 a11 a12 : Nat → Int32} (hf : f < 27) (hg : g < 27) (hM : tq_M f g c) (h : tq_SP f g nn mm cc zz kk a1 a2 a3 a6 a7 a8)
    (H : ∀ nn mm cc zz kk a1 a2 a3 a4 a5 a6 a7 a8 a9 a10 a11 a12, tq_SP f g nn mm cc zz kk a1 a2 a3 a6 a7 a8 → post (nI c) (nn, mm, cc, zz, kk, a1, a2, a3, a4, a5, a6, a7, a8, a9, a10, a11, a12)) : wpX_element post (nn, mm, cc, zz, kk, a1, a2, a3, a4, a5, a6, a7, a8, a9, a10, a11, a12) (nI (tq_cn (tq_M f g) c)) := by
  have hc := tq_M_lt hf hg hM
  unfold wpX_element
  refine tq_refresh hf hg h (fun s cd ln b2 b3 b4 b5 b6 b7 b8 h1 h2 hK => ?_)
  have hl : ∀ i, tq_cn (tq_M f g) i ≤ i := tq_cn_le _
  refine pk_loop (fun n i t => wX_element_8 post 3 27 2 (nI s) 1 a1 b2 b3 b4 b5 b6 b7 b8 a9 a10 a11 a12 n t (nI i)) (fun i t => t = nI (tq_cn (tq_M f g) c - tq_cn (tq_M f g) i)) c 0 _ (by omega) rfl ?_ ?_
  · intro n t ht
    have e : (nI c).toNatClampNeg = c := nI_clamp (by omega)
    refine pk_le 27 c (fun z => absurd z (by omega)) (fun _ => ⟨pk_in c 256 (by omega), br_f (by rw [e]; exact tq_KX_yes hK hM) (br_t (by rw [ht, Nat.sub_self]; rfl) ?_)⟩)
    exact H _ _ _ _ _ _ _ _ _ _ _ _ _ _ _ _ _ (tq_SPk h1 h2 hK)
  · intro n i t hi ht hw
    have e : (nI i).toNatClampNeg = i := nI_clamp (by omega)
    refine pk_le 27 i (fun z => absurd z (by omega)) (fun _ => ⟨pk_in i 256 (by omega), ?_⟩)
    by_cases hm : tq_M f g i
    · have u := tq_cn_up (P := tq_M f g) (i := i + 1) (j := c) (by omega)
      have lc := hl c
      rw [tq_cn_t hm] at u
      refine br_f (by rw [e]; exact tq_KX_yes hK hm) (br_f (by rw [ht]; exact nI_ne0 (by omega) (by omega)) (nm_r (by rw [ht, sb_m1 (by omega)]) (nm_r (nI_1 i) (hw _ ?_))))
      rw [tq_cn_t hm]
      exact congrArg nI (by omega)
    · refine br_t (by rw [e]; exact tq_KX_no hK (by omega) hm) (nm_r (nI_1 i) (hw _ ?_))
      rw [tq_cn_f hm]
      exact ht
theorem tq_size {post : Int32 → St2 → Prop} {f g : Nat} {nn mm cc zz kk : Int32} {a1 a2 a3 a4 a5 a6 a7 a8 a9 a10 a11 a12 : Nat → Int32} (hf : f < 27) (hg : g < 27) (h : tq_SP f g nn mm cc zz kk a1 a2 a3 a6 a7 a8)
    (H : ∀ nn mm cc zz kk a1 a2 a3 a4 a5 a6 a7 a8 a9 a10 a11 a12, tq_SP f g nn mm cc zz kk a1 a2 a3 a6 a7 a8 → post (nI (tq_cn (tq_M f g) 27)) (nn, mm, cc, zz, kk, a1, a2, a3, a4, a5, a6, a7, a8, a9, a10, a11, a12)) : wpX_size post (nn, mm, cc, zz, kk, a1, a2, a3, a4, a5, a6, a7, a8, a9, a10, a11, a12) := by
  unfold wpX_size
  refine tq_refresh hf hg h (fun s cd ln b2 b3 b4 b5 b6 b7 b8 h1 h2 hK => ?_)
  have e : s = tq_cn (tq_M f g) 27 := by
    rw [← tq_KX_cn hK (P := fun _ => True) (Q := tq_M f g) (fun c _ => ⟨fun z => ⟨z, trivial⟩, fun z => z.1⟩)]
    exact (tq_cn_all (fun _ _ => trivial)).symm
  have HH := fun a4 a5 a9 a10 a11 a12 => H _ _ _ _ _ _ _ _ a4 a5 _ _ _ a9 a10 a11 a12 (tq_SPk h1 h2 hK)
  rw [← e] at HH
  exact HH _ _ _ _ _ _
theorem tq_idem {post : Int32 → St2 → Prop} {f g : Nat} {nn mm cc zz kk : Int32} {a1 a2 a3 a4 a5 a6 a7 a8 a9 a10 a11 a12 : Nat → Int32} (hf : f < 27) (hg : g < 27) (h : tq_SP f g nn mm cc zz kk a1 a2 a3 a6 a7 a8)
    (H : ∀ nn mm cc zz kk a1 a2 a3 a4 a5 a6 a7 a8 a9 a10 a11 a12, tq_SP f g nn mm cc zz kk a1 a2 a3 a6 a7 a8 → post (nI (tq_cn (fun c => tq_M f g c ∧ tq_tm c c = c) 27)) (nn, mm, cc, zz, kk, a1, a2, a3, a4, a5, a6, a7, a8, a9, a10, a11, a12)) : wpX_idempotents post (nn, mm, cc, zz, kk, a1, a2, a3, a4, a5, a6, a7, a8, a9, a10, a11, a12) := by
  unfold wpX_idempotents
  refine tq_refresh hf hg h (fun s cd ln b2 b3 b4 b5 b6 b7 b8 h1 h2 hK => ?_)
  have hs := hK.1.2.1
  refine pk_loop (fun n i t => wX_idempotents_8 post 3 27 2 (nI s) 1 a1 b2 b3 b4 b5 b6 b7 b8 a9 a10 a11 a12 n t (nI i)) (fun i t => t = nI (tq_cn (fun a => tq_tm (cd a) (cd a) = cd a) i)) s 0 0 (by omega) rfl ?_ ?_
  · intro n t ht
    refine pk_le s s (fun _ => ?_) (fun z => absurd z (by omega))
    rw [tq_KX_cn hK (P := fun c => tq_tm c c = c) (Q := fun c => tq_M f g c ∧ tq_tm c c = c) (fun c _ => Iff.rfl)] at ht
    rw [ht]
    exact H _ _ _ _ _ _ _ _ _ _ _ _ _ _ _ _ _ (tq_SPk h1 h2 hK)
  · intro n i t hi ht hw
    have hc := hK.2.1 i hi
    have e : b3 (nI i).toNatClampNeg = nI (cd i) := by
      rw [nI_clamp (by omega)]
      exact hc.2.1
    refine pk_le s i (fun z => absurd z (by omega)) (fun _ => ⟨pk_in i 256 (by omega), pk_in i 256 (by omega), tq_compose hc.1 hc.1 ⟨pk_in i 256 (by omega), ?_⟩ e e⟩)
    refine pk_eq (tq_tm (cd i) (cd i)) (cd i) (fun z => nm_e (nm_r (nI_1 i) (hw _ ?_))) (fun z => nm_e (nm_r (nI_1 i) (hw _ ?_))) rfl e (by have := tq_tm_lt (cd i) hc.1; omega) (by have := hc.1; omega)
    · rw [ht, tq_cn_t (P := fun a => tq_tm (cd a) (cd a) = cd a) z, nI_1]
    · rw [ht, tq_cn_f (P := fun a => tq_tm (cd a) (cd a) = cd a) z]
      exact nI_add _ 0
theorem tq_units {post : Int32 → St2 → Prop} {f g : Nat} {nn mm cc zz kk : Int32} {a1 a2 a3 a4 a5 a6 a7 a8 a9 a10 a11 a12 : Nat → Int32} (hf : f < 27) (hg : g < 27) (h : tq_SP f g nn mm cc zz kk a1 a2 a3 a6 a7 a8)
    (H : ∀ nn mm cc zz kk a1 a2 a3 a4 a5 a6 a7 a8 a9 a10 a11 a12, tq_SP f g nn mm cc zz kk a1 a2 a3 a6 a7 a8 → post (nI (tq_cn (fun c => tq_M f g c ∧ tq_rk c = 3) 27)) (nn, mm, cc, zz, kk, a1, a2, a3, a4, a5, a6, a7, a8, a9, a10, a11, a12)) : wpX_units post (nn, mm, cc, zz, kk, a1, a2, a3, a4, a5, a6, a7, a8, a9, a10, a11, a12) := by
  unfold wpX_units
  refine tq_refresh hf hg h (fun s cd ln b2 b3 b4 b5 b6 b7 b8 h1 h2 hK => ?_)
  have hs := hK.1.2.1
  refine pk_loop (fun n i t => wX_units_8 post 3 27 2 (nI s) 1 a1 b2 b3 b4 b5 b6 b7 b8 a9 a10 a11 a12 n t (nI i)) (fun i t => t = nI (tq_cn (fun a => tq_rk (cd a) = 3) i)) s 0 0 (by omega) rfl ?_ ?_
  · intro n t ht
    refine pk_le s s (fun _ => ?_) (fun z => absurd z (by omega))
    rw [tq_KX_cn hK (P := fun c => tq_rk c = 3) (Q := fun c => tq_M f g c ∧ tq_rk c = 3) (fun c _ => Iff.rfl)] at ht
    rw [ht]
    exact H _ _ _ _ _ _ _ _ _ _ _ _ _ _ _ _ _ (tq_SPk h1 h2 hK)
  · intro n i t hi ht hw
    have hc := hK.2.1 i hi
    have e : b3 (nI i).toNatClampNeg = nI (cd i) := by
      rw [nI_clamp (by omega)]
      exact hc.2.1
    refine pk_le s i (fun z => absurd z (by omega)) (fun _ => ⟨pk_in i 256 (by omega), tq_rankOf hc.1 ?_ e⟩)
    refine pk_eq (tq_rk (cd i)) 3 (fun z => nm_e (nm_r (nI_1 i) (hw _ ?_))) (fun z => nm_e (nm_r (nI_1 i) (hw _ ?_))) rfl rfl (by have := tq_rk_le (cd i); omega) (by omega)
    · rw [ht, tq_cn_t (P := fun a => tq_rk (cd a) = 3) z, nI_1]
    · rw [ht, tq_cn_f (P := fun a => tq_rk (cd a) = 3) z]
      exact nI_add _ 0
theorem tq_commutes {post : Int32 → St2 → Prop} {f g : Nat} {nn mm cc zz kk : Int32} {a1 a2 a3 a4 a5 a6 a7 a8 a9 a10 a11 a12 : Nat → Int32} (hf : f < 27) (hg : g < 27) (h : tq_SP f g nn mm cc zz kk a1 a2 a3 a6 a7 a8)
    (H : ∀ r nn mm cc zz kk a1 a2 a3 a4 a5 a6 a7 a8 a9 a10 a11 a12, tq_SP f g nn mm cc zz kk a1 a2 a3 a6 a7 a8 → (tq_tm f g = tq_tm g f → r = 1) → (¬ tq_tm f g = tq_tm g f → r = 0) → post r (nn, mm, cc, zz, kk, a1, a2, a3, a4, a5, a6, a7, a8, a9, a10, a11, a12)) : wpX_commutes post (nn, mm, cc, zz, kk, a1, a2, a3, a4, a5, a6, a7, a8, a9, a10, a11, a12) := by
  unfold wpX_commutes
  refine tq_refresh hf hg h (fun s cd ln b2 b3 b4 b5 b6 b7 b8 h1 h2 hK => ⟨3, ?_⟩)
  have l1 := tq_tm_lt g hf
  have l2 := tq_tm_lt f hg
  have e0 : a1 (0 : Int32).toNatClampNeg = nI f := h1
  have e1 : a1 (nI 1).toNatClampNeg = nI g := h2
  refine pk_le 2 0 (fun z => absurd z (by omega)) (fun _ => ⟨1, pk_le 0 0 (fun _ => nm_r (nI_1 0) ?_) (fun z => absurd z (by omega))⟩)
  refine pk_le 2 1 (fun z => absurd z (by omega)) (fun _ => ⟨2, pk_le 1 0 (fun z => absurd z (by omega)) (fun _ => ⟨pk_in 1 4 (by omega), pk_in 0 4 (by omega), tq_compose hg hf ⟨pk_in 0 4 (by omega), pk_in 1 4 (by omega), tq_compose hf hg ?_ e0 e1⟩ e1 e0⟩)⟩)
  refine pk_eq (tq_tm g f) (tq_tm f g) (fun z => nm_r (nI_1 0) ?_) (fun z => ?_)
  · refine pk_le 1 1 (fun _ => nm_r (nI_1 1) ?_) (fun z => absurd z (by omega))
    refine pk_le 2 2 (fun _ => ?_) (fun z => absurd z (by omega))
    exact H _ _ _ _ _ _ _ _ _ _ _ _ _ _ _ _ _ _ (tq_SPk h1 h2 hK) (fun _ => rfl) (fun y => absurd z.symm y)
  · exact H _ _ _ _ _ _ _ _ _ _ _ _ _ _ _ _ _ _ (tq_SPk h1 h2 hK) (fun y => absurd y.symm z) (fun _ => rfl)
theorem tq_rank {post : Int32 → Prop} {f g c : Nat} {nn mm cc zz kk : Int32} {a1 a2 a3 a4 a5 a6 a7 a8 a9 a10 a11 a12 : Nat → Int32} (hc : c < 27) (h : tq_SP f g nn mm cc zz kk a1 a2 a3 a6 a7 a8) (H : post (nI (tq_rk c))) : wpX_rank post (nn, mm, cc, zz, kk, a1, a2, a3, a4, a5, a6, a7, a8, a9, a10, a11, a12) (nI c) := by
  obtain ⟨rfl, rfl, rfl, h'⟩ := h
  unfold wpX_rank
  exact tq_isCode hc (br_f (by decide) (tq_rankOf hc H))
theorem tq_product {post : Int32 → Prop} {f g c d : Nat} {nn mm cc zz kk : Int32} {a1 a2 a3 a4 a5 a6 a7 a8 a9 a10 a11 a12 : Nat → Int32} (hc : c < 27) (hd : d < 27) (h : tq_SP f g nn mm cc zz kk a1 a2 a3 a6 a7 a8) (H : post (nI (tq_tm c d))) : wpX_product post (nn, mm, cc, zz, kk, a1, a2, a3, a4, a5, a6, a7, a8, a9, a10, a11, a12) (nI c) (nI d) := by
  obtain ⟨rfl, rfl, rfl, h'⟩ := h
  unfold wpX_product
  exact tq_isCode hc (br_f (by decide) (tq_isCode hd (br_f (by decide) (tq_compose hc hd H))))
theorem tq_ideal {post : Int32 → St2 → Prop} {f g c kd : Nat} {nn mm cc zz kk : Int32} {a1 a2 a3 a4 a5 a6 a7 a8 a9 a10 a11 a12 : Nat → Int32} (hf : f < 27) (hg : g < 27) (hc : c < 27) (hk : kd < 3) (h : tq_SP f g nn mm cc zz kk a1 a2 a3 a6 a7 a8)
    (H : ∀ r nn mm cc zz kk a1 a2 a3 a4 a5 a6 a7 a8 a9 a10 a11 a12, tq_SP f g nn mm cc zz kk a1 a2 a3 a6 a7 a8 → (tq_M f g c → r = nI (tq_cn (tq_RC f g kd c) 27)) → (¬ tq_M f g c → r = -2) → post r (nn, mm, cc, zz, kk, a1, a2, a3, a4, a5, a6, a7, a8, a9, a10, a11, a12)) : wpX_ideal post (nn, mm, cc, zz, kk, a1, a2, a3, a4, a5, a6, a7, a8, a9, a10, a11, a12) (nI kd) (nI c) := by
  obtain ⟨rfl, rfl, rfl, h'⟩ := h
  refine pk_lt kd 0 (fun z => absurd z (by omega)) (fun _ => pk_le kd 2 (fun _ => ?_) (fun z => absurd z (by omega)))
  have e : (nI c).toNatClampNeg = c := nI_clamp (by omega)
  unfold wpX_isElement
  refine tq_isCode hc (br_f (by decide) (tq_refresh hf hg ⟨rfl, rfl, rfl, h'⟩ (fun s cd ln b2 b3 b4 b5 b6 b7 b8 h1 h2 hK => ⟨pk_in c 256 (by omega), br_c (fun z => br_t rfl ?_) (fun z => br_f (by decide) ⟨pk_in c 256 (by omega), ?_⟩)⟩)))
  · rw [e] at z
    exact H _ _ _ _ _ _ _ _ _ _ _ _ _ _ _ _ _ _ (tq_SPk h1 h2 hK) (fun hM => absurd z (tq_KX_yes hK hM)) (fun _ => rfl)
  · rw [e] at z
    obtain ⟨j, hj, ej⟩ := hK.2.2.1 c hc z
    have x := (hK.2.1 j hj)
    rw [ej] at x
    refine tq_spread hf hg hK hk hj (fun b10 b12 _ => ?_) rfl (by rw [e]; exact x.2.2.1)
    exact H _ _ _ _ _ _ _ _ _ _ _ _ _ _ _ _ _ _ (tq_SPk h1 h2 hK) (fun _ => by rw [ej]) (fun hM => absurd x.2.2.2.1 hM)
theorem tq_kernel {post : Int32 → St2 → Prop} {f g : Nat} {nn mm cc zz kk : Int32} {a1 a2 a3 a4 a5 a6 a7 a8 a9 a10 a11 a12 : Nat → Int32} (hf : f < 27) (hg : g < 27) (h : tq_SP f g nn mm cc zz kk a1 a2 a3 a6 a7 a8)
    (H : ∀ nn mm cc zz kk a1 a2 a3 a4 a5 a6 a7 a8 a9 a10 a11 a12, tq_SP f g nn mm cc zz kk a1 a2 a3 a6 a7 a8 → post (nI (tq_cn (fun t => tq_M f g t ∧ ∀ c, tq_M f g c → tq_RC f g 2 c t) 27)) (nn, mm, cc, zz, kk, a1, a2, a3, a4, a5, a6, a7, a8, a9, a10, a11, a12)) : wpX_kernel post (nn, mm, cc, zz, kk, a1, a2, a3, a4, a5, a6, a7, a8, a9, a10, a11, a12) := by
  unfold wpX_kernel
  refine tq_refresh hf hg h (fun s cd ln b2 b3 b4 b5 b6 b7 b8 h1 h2 hK => ?_)
  have hs := hK.1.2.1
  have h0 := hK.1.1
  refine pk_loop (fun n i t => wX_kernel_8 post 3 27 2 (nI s) 1 a1 b2 b3 b4 b5 b6 b7 b8 a9 a10 a11 a12 n t (nI i)) (fun i t => ∃ a, a < s ∧ t = nI a ∧ ∀ j, j < i → tq_rk (cd a) ≤ tq_rk (cd j)) s 1 0 (by omega) ⟨0, h0, rfl, fun j hj => by rw [show j = 0 by omega]; exact Nat.le_refl _⟩ ?_ ?_
  · rintro n t ⟨a, ha, rfl, hm⟩
    refine pk_le s s (fun _ => ?_) (fun z => absurd z (by omega))
    refine tq_spread hf hg hK (kd := 2) (by omega) ha (fun b10 b12 _ => ?_)
    have eq : tq_cn (tq_RC f g 2 (cd a)) 27 = tq_cn (fun t => tq_M f g t ∧ ∀ c, tq_M f g c → tq_RC f g 2 c t) 27 := by
      refine tq_cn_ext (fun t _ => ⟨fun r => ⟨tq_M_rc hf hg (by omega) (hK.2.1 a ha).2.2.2.1 r, fun c hc => ?_⟩, fun r => r.2 _ (hK.2.1 a ha).2.2.2.1⟩)
      refine tq_rc_trans (tq_least hf hg (hK.2.1 a ha).2.2.2.1 hc (fun b hb => ?_)) r
      obtain ⟨j, hj, ej⟩ := tq_KX_ix hK hb
      rw [← ej]
      exact hm j hj
    rw [eq]
    exact H _ _ _ _ _ _ _ _ _ _ _ _ _ _ _ _ _ (tq_SPk h1 h2 hK)
  · rintro n i t hi ⟨a, ha, rfl, hm⟩ hw
    have hc := hK.2.1 i hi
    have hca := hK.2.1 a ha
    have e : b3 (nI i).toNatClampNeg = nI (cd i) := by
      rw [nI_clamp (by omega)]
      exact hc.2.1
    have e' : b3 (nI a).toNatClampNeg = nI (cd a) := by
      rw [nI_clamp (by omega)]
      exact hca.2.1
    refine pk_le s i (fun z => absurd z (by omega)) (fun _ => ⟨pk_in i 256 (by omega), tq_rankOf hc.1 ⟨pk_in a 256 (by omega), tq_rankOf hca.1 ?_ e'⟩ e⟩)
    refine pk_le (tq_rk (cd a)) (tq_rk (cd i)) (fun z => nm_r (nI_1 i) (hw _ ⟨a, ha, rfl, fun j hj => ?_⟩)) (fun z => nm_r (nI_1 i) (hw _ ⟨i, hi, rfl, fun j hj => ?_⟩)) rfl rfl (by have := tq_rk_le (cd a); omega) (by have := tq_rk_le (cd i); omega)
    · by_cases ej : j = i
      · rw [ej]; exact z
      · exact hm j (by omega)
    · by_cases ej : j = i
      · rw [ej]; exact Nat.le_refl _
      · have := hm j (by omega)
        omega
theorem tq_alike3 {post : Int32 → St2 → Prop} {nn mm cc zz kk p1 p2 : Int32} {a1 a2 a3 a4 a5 a6 a7 a8 a9 a10 a11 a12 : Nat → Int32} (H : post (-1) (nn, mm, cc, zz, kk, a1, a2, a3, a4, a5, a6, a7, a8, a9, a10, a11, a12)) : wpX_alike post (nn, mm, cc, zz, kk, a1, a2, a3, a4, a5, a6, a7, a8, a9, a10, a11, a12) 3 p1 p2 :=
  br_f (by decide) (br_f (by decide) H)
end
section
/-! ===== classes ===== -/
def tq_Q (f g kd c d : Nat) : Prop := tq_RC f g kd c d ∧ tq_RC f g kd d c
theorem tq_Q_refl (f g kd c : Nat) : tq_Q f g kd c c := ⟨tq_rc_refl _ _ _ _, tq_rc_refl _ _ _ _⟩
theorem tq_Q_symm {f g kd c d : Nat} (h : tq_Q f g kd c d) : tq_Q f g kd d c := ⟨h.2, h.1⟩
theorem tq_Q_trans {f g kd c d e : Nat} (h : tq_Q f g kd c d) (h2 : tq_Q f g kd d e) : tq_Q f g kd c e := ⟨tq_rc_trans h.1 h2.1, tq_rc_trans h2.2 h.2⟩
def tq_fr (f g kd c : Nat) : Prop := tq_M f g c ∧ ¬ ∃ d, d < c ∧ tq_M f g d ∧ tq_Q f g kd d c
theorem tq_fr_cn {f g s kd : Nat} {cd ln : Nat → Nat} {a2 a3 a6 a7 a8 : Nat → Int32} (hK : tq_KX f g s cd ln a2 a3 a6 a7 a8) : tq_cn (fun a => ¬ ∃ b, b < a ∧ tq_Q f g kd (cd b) (cd a)) s = tq_cn (tq_fr f g kd) 27 := by
  refine tq_cn_bij (ρ := fun a c => tq_Q f g kd (cd a) c) (fun a ha pa => ?_) (fun c hc qc => ?_) (fun a b c ha hb pa pb ra rb => ?_) (fun a c d hc hd qc qd rc rd => ?_)
  · obtain ⟨c, ⟨hM, hq⟩, hl⟩ := pk_least (fun c => tq_M f g c ∧ tq_Q f g kd (cd a) c) ⟨cd a, (hK.2.1 a ha).2.2.2.1, tq_Q_refl _ _ _ _⟩
    obtain ⟨j, hj, ej⟩ := tq_KX_ix hK hM
    refine ⟨c, by rw [← ej]; exact (hK.2.1 j hj).1, ⟨hM, fun z => ?_⟩, hq⟩
    obtain ⟨d, hd, md, qd⟩ := z
    exact hl d hd ⟨md, tq_Q_trans hq (tq_Q_symm qd)⟩
  · obtain ⟨hM, hn⟩ := qc
    obtain ⟨j, hj, ej⟩ := tq_KX_ix hK hM
    obtain ⟨a, ⟨ha, hq⟩, hl⟩ := pk_least (fun a => a < s ∧ tq_Q f g kd (cd a) c) ⟨j, hj, by rw [ej]; exact tq_Q_refl _ _ _ _⟩
    refine ⟨a, ha, fun z => ?_, hq⟩
    obtain ⟨b, hb, qb⟩ := z
    exact hl b hb ⟨by omega, tq_Q_trans qb hq⟩
  · have q := tq_Q_trans ra (tq_Q_symm rb)
    rcases Nat.lt_trichotomy a b with l | l | l
    · exact absurd ⟨a, l, q⟩ pb
    · exact l
    · exact absurd ⟨b, l, tq_Q_symm q⟩ pa
  · have q := tq_Q_trans (tq_Q_symm rc) rd
    rcases Nat.lt_trichotomy c d with l | l | l
    · exact absurd ⟨c, l, qc.1, q⟩ qd.2
    · exact l
    · exact absurd ⟨d, l, qd.1, tq_Q_symm q⟩ qc.2
/-! ===== leadsOn ===== -/
theorem tq_nb0 : vp_nar .boolean 0 = 0 := rfl
theorem tq_nb1 : vp_nar .boolean 1 = 1 := rfl
theorem tq_nbv {x : Int32} (h : x = 0 ∨ x = 1) : vp_nar .boolean x = x := by
  rcases h with rfl | rfl
  · exact tq_nb0
  · exact tq_nb1
theorem tq_nbn {x : Int32} (h : x = 0 ∨ x = 1) : narrow .boolean (.int x) = .int x := by
  rcases h with rfl | rfl
  · rfl
  · rfl
theorem tq_l41 {post : Int32 → St2 → Prop} {f g s kd a e : Nat} {cd ln : Nat → Nat} {x4 : Int32} {a1 a2 a3 a4 a5 a6 a7 a8 a9 a10 a11 a12 : Nat → Int32} (hK : tq_KX f g s cd ln a2 a3 a6 a7 a8) (ha : a < s) (he : e < 8) (hx : (e % 2 = 0 ∧ x4 = 1) ∨ (¬ e % 2 = 0 ∧ x4 = 0)) (hu : tq_us kd e) (hb : ∀ b, b < s → a11 b = 0 ∨ a11 b = 1)
    (H0 : ¬ (e < 4 ∧ tq_us kd e ∧ a11 a = 0 ∧ a10 a ≠ 0) → post 0 (3, 27, 2, nI s, 1, a1, a2, a3, a4, a5, a6, a7, a8, a9, a10, a11, a12))
    (H1 : ∀ b, b < s → cd b = tq_ed f g e (cd a) → e < 4 → tq_us kd e → a11 a = 0 → a10 a ≠ 0 → post (a11 b) (3, 27, 2, nI s, 1, a1, a2, a3, a4, a5, a6, a7, a8, a9, a10, upd a11 a (a11 b), a12)) :
    wX_leadsOn_41 post (nI (4 * a + e / 2)) x4 1 3 27 2 (nI s) 1 a1 a2 a3 a4 a5 a6 a7 a8 a9 a10 a11 a12 := by
  have hs := hK.1.2.1
  have e1 : nI (4 * a + e / 2) / 4 = nI a := by
    have := pk_div (a := 4 * a + e / 2) (d := 4) (by omega) (by omega) (by omega)
    rw [show (4 * a + e / 2) / 4 = a by omega] at this
    exact this
  have e2 : nI (4 * a + e / 2) - nI (4 * a + e / 2) / 4 * 4 = nI (e / 2) := by
    have := pk_rem (a := 4 * a + e / 2) (d := 4) (by omega) (by omega) (by omega)
    rw [show (4 * a + e / 2) % 4 = e / 2 by omega] at this
    exact this
  have ea : (nI a).toNatClampNeg = a := nI_clamp (by omega)
  have ei : (nI (4 * a + e / 2)).toNatClampNeg = 4 * a + e / 2 := nI_clamp (by omega)
  unfold wX_leadsOn_41
  refine ⟨by decide, nm_r e1 (br_f (by decide) ⟨by decide, pk_le 2 (e / 2) (fun z => H0 (fun y => absurd y.1 (by omega))) (fun z => ⟨pk_in a 256 (by omega), br_c (fun y => ⟨pk_in a 256 (by omega), br_c (fun w => ?_) (fun w => ?_)⟩) (fun y => ?_)⟩) rfl e2⟩)⟩
  · rw [ea] at w
    exact H0 (fun t => t.2.2.2 w)
  · rw [ea] at y w
    obtain ⟨b, x1, x2, x3, x4'⟩ := tq_KX_nx hK ha (show e < 4 by omega)
    have eb : (nI b).toNatClampNeg = b := nI_clamp (by omega)
    have HH := H1 b x1 x4' (by omega) hu y w
    have up : upd a11 a (a11 b) a = a11 b := pk_us
    rcases hx with ⟨p, rfl⟩ | ⟨p, rfl⟩
    · refine br_f (by decide) ⟨pk_in (4 * a + e / 2) 1024 (by omega), pk_in b 256 (by omega) (by rw [ei]; exact x2 p), pk_in a 256 (by omega), nm_r (e' := upd a11 a (a11 b)) (by rw [ea, ei, x2 p, eb, tq_nbv (hb b x1)]) ⟨pk_in a 256 (by omega), ?_, ?_⟩⟩
      · rw [ea, up]
        exact tq_nbn (hb b x1)
      · rw [ea, up]
        exact HH
    · refine br_t rfl ⟨pk_in (4 * a + e / 2) 1024 (by omega), pk_in b 256 (by omega) (by rw [ei]; exact x3 p), pk_in a 256 (by omega), nm_r (e' := upd a11 a (a11 b)) (by rw [ea, ei, x3 p, eb, tq_nbv (hb b x1)]) ⟨pk_in a 256 (by omega), ?_, ?_⟩⟩
      · rw [ea, up]
        exact tq_nbn (hb b x1)
      · rw [ea, up]
        exact HH
  · rw [ea] at y
    exact H0 (fun t => y t.2.2.1)
theorem tq_leadsOn {post : Int32 → St2 → Prop} {f g s kd a e : Nat} {cd ln : Nat → Nat} {a1 a2 a3 a4 a5 a6 a7 a8 a9 a10 a11 a12 : Nat → Int32} (hK : tq_KX f g s cd ln a2 a3 a6 a7 a8) (hk : kd < 3) (ha : a < s) (he : e < 8) (hb : ∀ b, b < s → a11 b = 0 ∨ a11 b = 1)
    (H0 : ¬ (e < 4 ∧ tq_us kd e ∧ a11 a = 0 ∧ a10 a ≠ 0) → post 0 (3, 27, 2, nI s, 1, a1, a2, a3, a4, a5, a6, a7, a8, a9, a10, a11, a12))
    (H1 : ∀ b, b < s → cd b = tq_ed f g e (cd a) → e < 4 → tq_us kd e → a11 a = 0 → a10 a ≠ 0 → post (a11 b) (3, 27, 2, nI s, 1, a1, a2, a3, a4, a5, a6, a7, a8, a9, a10, upd a11 a (a11 b), a12)) :
    wpX_leadsOn post (3, 27, 2, nI s, 1, a1, a2, a3, a4, a5, a6, a7, a8, a9, a10, a11, a12) (nI kd) (nI (8 * a + e)) := by
  have hs := hK.1.2.1
  have e1 : nI (8 * a + e) >>> ((1 : Int32) &&& 31) = nI (4 * a + e / 2) := by
    have := pk_shrN (n := 8 * a + e) (by omega) ((1 : Int32) &&& 31) 1 (by decide)
    rw [show (8 * a + e) / 2 ^ 1 = 4 * a + e / 2 by omega] at this
    exact this
  have e2 : nI (8 * a + e) &&& 1 = nI (e % 2) := by
    have := pk_andN (n := 8 * a + e) (by omega) (m := 1) 1 (by decide)
    rw [show (8 * a + e) % 2 ^ 1 = e % 2 by omega] at this
    exact this
  have Y : ∀ x4 : Int32, ((e % 2 = 0 ∧ x4 = 1) ∨ (¬ e % 2 = 0 ∧ x4 = 0)) → tq_us kd e → wX_leadsOn_41 post (nI (4 * a + e / 2)) x4 1 3 27 2 (nI s) 1 a1 a2 a3 a4 a5 a6 a7 a8 a9 a10 a11 a12 := fun x4 hx hu => tq_l41 hK ha he hx hu hb H0 H1
  have N : ∀ x4 : Int32, ¬ tq_us kd e → wX_leadsOn_41 post (nI (4 * a + e / 2)) x4 0 3 27 2 (nI s) 1 a1 a2 a3 a4 a5 a6 a7 a8 a9 a10 a11 a12 := fun x4 hu => ⟨by decide, nm_e (br_t rfl (H0 (fun t => hu t.2.1)))⟩
  have main : ∀ x4 : Int32, ((e % 2 = 0 ∧ x4 = 1) ∨ (¬ e % 2 = 0 ∧ x4 = 0)) → wX_leadsOn_15 post (nI kd) (nI (4 * a + e / 2)) x4 3 27 2 (nI s) 1 a1 a2 a3 a4 a5 a6 a7 a8 a9 a10 a11 a12 := by
    intro x4 hx
    unfold wX_leadsOn_15
    refine pk_eq kd 2 (fun z => Y x4 hx (Or.inl z)) (fun z => pk_eq kd 0 (fun z0 => ?_) (fun z0 => ?_))
    · unfold wX_leadsOn_31
      rcases hx with ⟨p, rfl⟩ | ⟨p, rfl⟩
      · exact br_t rfl (Y 1 (Or.inl ⟨p, rfl⟩) (by unfold tq_us; omega))
      · exact br_f (by decide) (N 0 (by unfold tq_us; omega))
    · unfold wX_leadsOn_31
      rcases hx with ⟨p, rfl⟩ | ⟨p, rfl⟩
      · exact br_f (by decide) (N 1 (by unfold tq_us; omega))
      · exact br_t rfl (Y 0 (Or.inr ⟨p, rfl⟩) (by unfold tq_us; omega))
  exact nm_r e1 (pk_eq (e % 2) 0 (fun z => main 1 (Or.inl ⟨z, rfl⟩)) (fun z => main 0 (Or.inr ⟨z, rfl⟩)) e2)
/-! ===== findPart ===== -/
def tq_FA (f g kd s st : Nat) (cd : Nat → Nat) (b11 : Nat → Int32) : Prop := b11 st ≠ 0 ∧ ∀ a, a < s → (b11 a = 0 ∨ b11 a = 1) ∧ (b11 a ≠ 0 → tq_RC f g kd (cd a) (cd st))
def tq_FC (f g kd s t : Nat) (cd : Nat → Nat) (b10 b11 : Nat → Int32) : Prop := ∀ a e b, a < s → b < s → e < 4 → 8 * a + e < t → tq_us kd e → cd b = tq_ed f g e (cd a) → b10 a ≠ 0 → b11 b ≠ 0 → b11 a ≠ 0
theorem tq_F61 {post : St2 → Prop} {J44 : Int32 → Int32 → Int32 → Int32 → Int32 → Int32 → Int32 → (Nat → Int32) → (Nat → Int32) → (Nat → Int32) → (Nat → Int32) → (Nat → Int32) → (Nat → Int32) → (Nat → Int32) → (Nat → Int32) → (Nat → Int32) → (Nat → Int32) → (Nat → Int32) → (Nat → Int32) → Prop}
    {f g s kd st m : Nat} {cd ln : Nat → Nat} {a1 a2 a3 a4 a5 a6 a7 a8 a9 a10 a11 a12 : Nat → Int32} (hK : tq_KX f g s cd ln a2 a3 a6 a7 a8) (hk : kd < 3) (h : tq_FA f g kd s st cd a11) (hm : m ≤ tq_cn (fun a => a11 a ≠ 0) s)
    (H0 : ∀ b11, tq_FA f g kd s st cd b11 → tq_FC f g kd s (8 * s) cd a10 b11 → J44 0 (nI (m + 1)) 3 27 2 (nI s) 1 a1 a2 a3 a4 a5 a6 a7 a8 a9 a10 b11 a12)
    (H1 : ∀ b11, tq_FA f g kd s st cd b11 → m + 1 ≤ tq_cn (fun a => b11 a ≠ 0) s → J44 1 (nI (m + 1)) 3 27 2 (nI s) 1 a1 a2 a3 a4 a5 a6 a7 a8 a9 a10 b11 a12) :
    ∃ n, wX_findPart_61 post J44 (nI kd) (nI st) (nI m) n 0 0 3 27 2 (nI s) 1 a1 a2 a3 a4 a5 a6 a7 a8 a9 a10 a11 a12 := by
  have hs := hK.1.2.1
  refine lp3 (fun n x3 i b11 => wX_findPart_61 post J44 (nI kd) (nI st) (nI m) n x3 (nI i) 3 27 2 (nI s) 1 a1 a2 a3 a4 a5 a6 a7 a8 a9 a10 b11 a12)
    (fun x3 i b11 => i ≤ 8 * s ∧ tq_FA f g kd s st cd b11 ∧ m ≤ tq_cn (fun a => b11 a ≠ 0) s ∧ ((x3 = 0 ∧ tq_FC f g kd s i cd a10 b11) ∨ (x3 = 1 ∧ m + 1 ≤ tq_cn (fun a => b11 a ≠ 0) s))) (fun x3 i b11 => 8 * s - i) ?_ 0 0 a11 ⟨by omega, h, hm, Or.inl ⟨rfl, fun a e b _ _ _ hz => absurd hz (by omega)⟩⟩
  rintro n x3 i b11 ⟨hi, g1, g2, g3⟩ hw
  by_cases fin : i = 8 * s
  · subst fin
    refine pk_le (8 * s) (8 * s) (fun _ => nm_r (nI_1 m) ?_) (fun z => absurd z (by omega)) (pk_mul 8 s)
    rcases g3 with ⟨rfl, g3⟩ | ⟨rfl, g3⟩
    · exact H0 b11 g1 g3
    · exact H1 b11 g1 g3
  · replace hi : i < 8 * s := by omega
    clear fin
    have ei : i = 8 * (i / 8) + i % 8 := by omega
    have ha : i / 8 < s := by omega
    have he : i % 8 < 8 := by omega
    revert ei ha he
    generalize i / 8 = a
    generalize i % 8 = e
    intro ei ha he
    subst ei
    refine pk_le (8 * s) (8 * a + e) (fun z => absurd z (by omega)) (fun _ => ?_) (pk_mul 8 s)
    refine tq_leadsOn hK hk ha he (fun b hb => (g1.2 b hb).1) (fun z => ?_) (fun b hb eb he4 hu y w => ?_)
    · rcases g3 with ⟨rfl, g3⟩ | ⟨rfl, g3⟩
      · refine br_t rfl (br_t rfl (nm_r (nI_1 _) (hw 0 (8 * a + e + 1) b11 ⟨by omega, g1, g2, Or.inl ⟨rfl, fun a' e' b' ha' hb' he' hlt hu' eb' n10 n11 => ?_⟩⟩ (by omega))))
        by_cases q : a' = a ∧ e' = e
        · obtain ⟨rfl, rfl⟩ := q
          exact fun q0 => z ⟨he', hu', q0, n10⟩
        · exact g3 a' e' b' ha' hb' he' (by omega) hu' eb' n10 n11
      · exact br_f (by decide) (nm_r (nI_1 _) (hw 1 (8 * a + e + 1) b11 ⟨by omega, g1, g2, Or.inr ⟨rfl, g3⟩⟩ (by omega)))
    · rcases (g1.2 b hb).1 with v | v
      · have same : upd b11 a (b11 b) = b11 := by
          funext d
          by_cases q : d = a
          · rw [q, pk_us, v]; exact y.symm
          · rw [pk_un q]
        rw [same, v]
        rcases g3 with ⟨rfl, g3⟩ | ⟨rfl, g3⟩
        · refine br_t rfl (br_t rfl (nm_r (nI_1 _) (hw 0 (8 * a + e + 1) b11 ⟨by omega, g1, g2, Or.inl ⟨rfl, fun a' e' b' ha' hb' he' hlt hu' eb' n10 n11 => ?_⟩⟩ (by omega))))
          by_cases q : a' = a ∧ e' = e
          · obtain ⟨rfl, rfl⟩ := q
            rw [tq_KX_inj hK hb' hb (eb'.trans eb.symm)] at n11
            exact absurd v n11
          · exact g3 a' e' b' ha' hb' he' (by omega) hu' eb' n10 n11
        · exact br_f (by decide) (nm_r (nI_1 _) (hw 1 (8 * a + e + 1) b11 ⟨by omega, g1, g2, Or.inr ⟨rfl, g3⟩⟩ (by omega)))
      · rw [v]
        have cnt : tq_cn (fun d => upd b11 a 1 d ≠ 0) s = tq_cn (fun d => b11 d ≠ 0) s + 1 := by
          refine tq_cn_ins (c := a) (fun q => q y) ?_ ha (fun j hj hn => ?_)
          · show upd b11 a 1 a ≠ 0
            rw [pk_us]
            decide
          · show b11 j ≠ 0 ↔ upd b11 a 1 j ≠ 0
            rw [pk_un hn]
        have rb : tq_RC f g kd (cd b) (cd st) := (g1.2 b hb).2 (by rw [v]; decide)
        have ra : tq_RC f g kd (cd a) (cd st) := tq_rc_trans (tq_rc_step (tq_rc_refl _ _ _ _) ⟨e, he4, hu, eb⟩) rb
        have F : tq_FA f g kd s st cd (upd b11 a 1) := by
          refine ⟨?_, fun d hd => ?_⟩
          · by_cases q : st = a
            · rw [q, pk_us]; decide
            · rw [pk_un q]; exact g1.1
          · by_cases q : d = a
            · rw [q, pk_us]
              exact ⟨Or.inr rfl, fun _ => ra⟩
            · rw [pk_un q]
              exact g1.2 d hd
        have G : m + 1 ≤ tq_cn (fun d => upd b11 a 1 d ≠ 0) s := by
          rw [cnt]
          omega
        have nx := hw 1 (8 * a + e + 1) (upd b11 a 1) ⟨by omega, F, by omega, Or.inr ⟨rfl, G⟩⟩ (by omega)
        rcases g3 with ⟨rfl, g3⟩ | ⟨rfl, g3⟩
        · exact br_t rfl (br_f (by decide) (nm_r (nI_1 _) nx))
        · exact br_f (by decide) (nm_r (nI_1 _) nx)
theorem tq_F112 {post : St2 → Prop} {s st : Nat} {a1 a2 a3 a4 a5 a6 a7 a8 a9 a10 a11 a12 : Nat → Int32} (hs : s ≤ 27)
    (H : ∀ b9, (∀ a, a < s → (a10 a ≠ 0 ∧ a11 a ≠ 0 → b9 a = nI st) ∧ (¬ (a10 a ≠ 0 ∧ a11 a ≠ 0) → b9 a = a9 a)) → post (3, 27, 2, nI s, 1, a1, a2, a3, a4, a5, a6, a7, a8, b9, a10, a11, a12)) : ∃ n, wX_findPart_112 post (nI st) 3 27 2 (nI s) 1 n 0 a1 a2 a3 a4 a5 a6 a7 a8 a9 a10 a11 a12 := by
  refine pk_loop (fun n i t => wX_findPart_112 post (nI st) 3 27 2 (nI s) 1 n (nI i) a1 a2 a3 a4 a5 a6 a7 a8 t a10 a11 a12) (fun i t => (∀ a, a < i → (a10 a ≠ 0 ∧ a11 a ≠ 0 → t a = nI st) ∧ (¬ (a10 a ≠ 0 ∧ a11 a ≠ 0) → t a = a9 a)) ∧ (∀ a, i ≤ a → t a = a9 a)) s 0 a9 (by omega) ⟨fun a ha => absurd ha (by omega), fun _ _ => rfl⟩ ?_ ?_
  · exact fun n t ht => pk_le s s (fun _ => H t ht.1) (fun z => absurd z (by omega))
  · intro n i t hi ht hw
    have ei : (nI i).toNatClampNeg = i := nI_clamp (by omega)
    have keep : ¬ (a10 i ≠ 0 ∧ a11 i ≠ 0) → (∀ a, a < i + 1 → (a10 a ≠ 0 ∧ a11 a ≠ 0 → t a = nI st) ∧ (¬ (a10 a ≠ 0 ∧ a11 a ≠ 0) → t a = a9 a)) ∧ (∀ a, i + 1 ≤ a → t a = a9 a) := fun hn => by
      refine ⟨fun a ha => ?_, fun a ha => ht.2 a (by omega)⟩
      by_cases e : a = i
      · rw [e]
        exact ⟨fun z => absurd z hn, fun _ => ht.2 i (by omega)⟩
      · exact ht.1 a (by omega)
    refine pk_le s i (fun z => absurd z (by omega)) (fun _ => ⟨pk_in i 256 (by omega), br_c (fun z => nm_r (nI_1 i) (hw t (keep ?_))) (fun z => ⟨pk_in i 256 (by omega), br_c (fun y => nm_r (nI_1 i) (hw t (keep ?_))) (fun y => ⟨pk_in i 256 (by omega), nm_r (by rw [ei]) (nm_r (nI_1 i) (hw (upd t i (nI st)) ?_))⟩)⟩)⟩)
    · rw [ei] at z
      exact fun w => w.1 z
    · rw [ei] at y
      exact fun w => w.2 y
    · rw [ei] at y z
      refine ⟨fun a ha => ?_, fun a ha => by rw [pk_un (by omega)]; exact ht.2 a (by omega)⟩
      by_cases e : a = i
      · rw [e, pk_us]
        exact ⟨fun _ => rfl, fun w => absurd ⟨z, y⟩ w⟩
      · rw [pk_un e]
        exact ht.1 a (by omega)
theorem tq_findPart {post : St2 → Prop} {f g s kd st : Nat} {cd ln : Nat → Nat} {a1 a2 a3 a4 a5 a6 a7 a8 a9 a10 a11 a12 : Nat → Int32} (hf : f < 27) (hg : g < 27) (hK : tq_KX f g s cd ln a2 a3 a6 a7 a8) (hk : kd < 3) (hst : st < s)
    (H : ∀ b9 b10 b11 b12, (∀ a, a < s → (tq_Q f g kd (cd st) (cd a) → b9 a = nI st) ∧ (¬ tq_Q f g kd (cd st) (cd a) → b9 a = a9 a)) → post (3, 27, 2, nI s, 1, a1, a2, a3, a4, a5, a6, a7, a8, b9, b10, b11, b12)) :
    wpX_findPart post (3, 27, 2, nI s, 1, a1, a2, a3, a4, a5, a6, a7, a8, a9, a10, a11, a12) (nI kd) (nI st) := by
  have hs := hK.1.2.1
  unfold wpX_findPart
  refine tq_spread hf hg hK hk hst (fun b10 b12 hr => ?_)
  have fin : ∀ b11, tq_FA f g kd s st cd b11 → tq_FC f g kd s (8 * s) cd b10 b11 → ∃ n, wX_findPart_112 post (nI st) 3 27 2 (nI s) 1 n 0 a1 a2 a3 a4 a5 a6 a7 a8 a9 b10 b11 b12 := by
    intro b11 hA hC
    refine tq_F112 hs (fun b9 h9 => H b9 b10 b11 b12 (fun a ha => ?_))
    have eq : (b10 a ≠ 0 ∧ b11 a ≠ 0) ↔ tq_Q f g kd (cd st) (cd a) := by
      constructor
      · exact fun z => ⟨(hr a ha).2.mp z.1, (hA.2 a ha).2 z.2⟩
      · intro z
        have r10 := (hr a ha).2.mpr z.1
        refine ⟨r10, ?_⟩
        have x := z.2 (fun c => ∃ b, b < s ∧ cd b = c ∧ b10 b ≠ 0 ∧ (b11 b ≠ 0 → b11 a ≠ 0)) ⟨a, ha, rfl, r10, id⟩ (fun u v hu e => by
          obtain ⟨b, hb, rfl, nb, ib⟩ := hu
          obtain ⟨x, hx, hus, rfl⟩ := e
          obtain ⟨b', y1, _, _, y4⟩ := tq_KX_nx hK hb hx
          refine ⟨b', y1, y4, (hr b' y1).2.mpr ?_, fun n' => ib (hC b x b' hb y1 hx (by omega) hus y4 nb n')⟩
          rw [y4]
          exact tq_rc_step ((hr b hb).2.mp nb) ⟨x, hx, hus, rfl⟩)
        obtain ⟨b, hb, eb, _, ib⟩ := x
        rw [tq_KX_inj hK hb hst eb] at ib
        exact ib hA.1
    exact ⟨fun z => (h9 a ha).1 (eq.mpr z), fun z => (h9 a ha).2 (fun y => z (eq.mp y))⟩
  refine pk_loop (fun n i t => wX_findPart_9 post (nI kd) (nI st) 3 27 2 (nI s) 1 n (nI i) a1 a2 a3 a4 a5 a6 a7 a8 a9 b10 t b12) (fun i t => ∀ a, a < i → t a = if a = st then 1 else 0) s 0 a11 (by omega) (fun a ha => absurd ha (by omega)) ?_ ?_
  · intro n t ht
    refine pk_le s s (fun _ => ?_) (fun z => absurd z (by omega))
    have FA0 : tq_FA f g kd s st cd t := by
      refine ⟨by rw [ht st hst, if_pos rfl]; decide, fun a ha => ?_⟩
      rw [ht a ha]
      by_cases e : a = st
      · rw [if_pos e, e]
        exact ⟨Or.inr rfl, fun _ => tq_rc_refl _ _ _ _⟩
      · rw [if_neg e]
        exact ⟨Or.inl rfl, fun z => absurd rfl z⟩
    refine lp3 (fun n x3 m b11 => wX_findPart_44 post (nI kd) (nI st) n x3 (nI m) 3 27 2 (nI s) 1 a1 a2 a3 a4 a5 a6 a7 a8 a9 b10 b11 b12) (fun x3 m b11 => m ≤ 28 ∧ tq_FA f g kd s st cd b11 ∧ ((x3 = 1 ∧ m ≤ tq_cn (fun a => b11 a ≠ 0) s) ∨ (x3 = 0 ∧ tq_FC f g kd s (8 * s) cd b10 b11))) (fun x3 m b11 => 29 - m) ?_ 1 0 t ⟨by omega, FA0, Or.inl ⟨rfl, Nat.zero_le _⟩⟩
    rintro n x3 m b11 ⟨hm, hA, h3⟩ hw
    refine pk_le 256 m (fun z => absurd z (by omega)) (fun _ => ?_)
    rcases h3 with ⟨rfl, h3⟩ | ⟨rfl, h3⟩
    · have hl := tq_cn_le (fun a => b11 a ≠ 0) s
      refine br_f (by decide) (tq_F61 hK hk hA h3 (fun c11 hA' hC' => hw 0 (m + 1) c11 ⟨by omega, hA', Or.inr ⟨rfl, hC'⟩⟩ (by omega)) (fun c11 hA' hC' => hw 1 (m + 1) c11 ⟨by omega, hA', Or.inl ⟨rfl, hC'⟩⟩ (by omega)))
    · exact br_t rfl (fin b11 hA h3)
  · intro n i t hi ht hw
    have ei : (nI i).toNatClampNeg = i := nI_clamp (by omega)
    refine pk_le s i (fun z => absurd z (by omega)) (fun _ => pk_eq i st (fun z => ⟨pk_in i 256 (by omega), nm_r (by rw [ei]) (nm_r (nI_1 i) (hw (upd t i 1) (fun a ha => ?_)))⟩) (fun z => ⟨pk_in i 256 (by omega), nm_r (by rw [ei]) (nm_r (nI_1 i) (hw (upd t i 0) (fun a ha => ?_)))⟩))
    · by_cases e : a = i
      · rw [e, pk_us, if_pos z]
      · rw [pk_un e]; exact ht a (by omega)
    · by_cases e : a = i
      · rw [e, pk_us, if_neg z]
      · rw [pk_un e]; exact ht a (by omega)
theorem tq_classes {post : Int32 → St2 → Prop} {f g kd : Nat} {nn mm cc zz kk : Int32} {a1 a2 a3 a4 a5 a6 a7 a8 a9 a10 a11 a12 : Nat → Int32} (hf : f < 27) (hg : g < 27) (hk : kd < 3) (h : tq_SP f g nn mm cc zz kk a1 a2 a3 a6 a7 a8)
    (H : ∀ nn mm cc zz kk a1 a2 a3 a4 a5 a6 a7 a8 a9 a10 a11 a12, tq_SP f g nn mm cc zz kk a1 a2 a3 a6 a7 a8 → post (nI (tq_cn (tq_fr f g kd) 27)) (nn, mm, cc, zz, kk, a1, a2, a3, a4, a5, a6, a7, a8, a9, a10, a11, a12)) : wpX_classes post (nn, mm, cc, zz, kk, a1, a2, a3, a4, a5, a6, a7, a8, a9, a10, a11, a12) (nI kd) := by
  refine pk_lt kd 0 (fun z => absurd z (by omega)) (fun _ => pk_le kd 2 (fun _ => ?_) (fun z => absurd z (by omega)))
  refine tq_refresh hf hg h (fun s cd ln b2 b3 b4 b5 b6 b7 b8 h1 h2 hK => ?_)
  have hs := hK.1.2.1
  refine pk_loop (fun n i t => wX_classes_17 post (nI kd) 3 27 2 (nI s) 1 n (nI i) a1 b2 b3 b4 b5 b6 b7 b8 t a10 a11 a12) (fun i t => ∀ a, a < i → t a = -1) s 0 a9 (by omega) (fun a ha => absurd ha (by omega)) ?_ ?_
  · intro n t ht
    refine pk_le s s (fun _ => ?_) (fun z => absurd z (by omega))
    refine lp6 (fun n x2 i t9 t10 t11 t12 => wX_classes_42 post (nI kd) n x2 (nI i) 3 27 2 (nI s) 1 a1 b2 b3 b4 b5 b6 b7 b8 t9 t10 t11 t12)
      (fun x2 i t9 t10 t11 t12 => i ≤ s ∧ x2 = nI (tq_cn (fun a => ¬ ∃ b, b < a ∧ tq_Q f g kd (cd b) (cd a)) i) ∧ ∀ b, b < s → (t9 b = -1 ↔ ¬ ∃ a, a < i ∧ tq_Q f g kd (cd a) (cd b))) (fun x2 i t9 t10 t11 t12 => s - i) ?_ 0 0 t a10 a11 a12 ⟨by omega, rfl, fun b hb => ⟨fun _ z => by obtain ⟨a, ha, _⟩ := z; omega, fun _ => ht b hb⟩⟩
    rintro n x2 i t9 t10 t11 t12 ⟨hi, rfl, h9⟩ hw
    have ei : (nI i).toNatClampNeg = i := nI_clamp (by omega)
    refine pk_le s i (fun z => ?_) (fun z => ⟨pk_in i 256 (by omega), br_c (fun y => ?_) (fun y => nm_r (nI_1 i) (hw _ (i + 1) t9 t10 t11 t12 ⟨by omega, ?_, fun b hb => ?_⟩ (by omega)))⟩)
    · have e : i = s := by omega
      subst e
      rw [tq_fr_cn hK]
      exact H _ _ _ _ _ _ _ _ _ _ _ _ _ _ _ _ _ (tq_SPk h1 h2 hK)
    · rw [ei] at y
      have hn := (h9 i z).mp y
      refine tq_findPart hf hg hK hk z (fun c9 c10 c11 c12 h9' => nm_r (nI_1 _) (nm_r (nI_1 i) (hw _ (i + 1) c9 c10 c11 c12 ⟨by omega, ?_, fun b hb => ?_⟩ (by omega))))
      · rw [tq_cn_t (P := fun a => ¬ ∃ b, b < a ∧ tq_Q f g kd (cd b) (cd a)) hn]
      · by_cases q : tq_Q f g kd (cd i) (cd b)
        · rw [(h9' b hb).1 q]
          exact ⟨fun w => absurd w (tq_nm1 (by omega)), fun w => absurd ⟨i, by omega, q⟩ w⟩
        · rw [(h9' b hb).2 q, h9 b hb]
          constructor
          · rintro w ⟨a, ha, qa⟩
            by_cases e : a = i
            · rw [e] at qa
              exact q qa
            · exact w ⟨a, by omega, qa⟩
          · rintro w ⟨a, ha, qa⟩
            exact w ⟨a, by omega, qa⟩
    · rw [ei] at y
      have hn : ∃ a, a < i ∧ tq_Q f g kd (cd a) (cd i) := Classical.byContradiction (fun w => y ((h9 i z).mpr w))
      rw [tq_cn_f (P := fun a => ¬ ∃ b, b < a ∧ tq_Q f g kd (cd b) (cd a)) (fun w => w hn)]
    · rw [ei] at y
      have hn : ∃ a, a < i ∧ tq_Q f g kd (cd a) (cd i) := Classical.byContradiction (fun w => y ((h9 i z).mpr w))
      rw [h9 b hb]
      constructor
      · rintro w ⟨a, ha, qa⟩
        by_cases e : a = i
        · rw [e] at qa
          obtain ⟨a', ha', qa'⟩ := hn
          exact w ⟨a', ha', tq_Q_trans qa' qa⟩
        · exact w ⟨a, by omega, qa⟩
      · rintro w ⟨a, ha, qa⟩
        exact w ⟨a, by omega, qa⟩
  · intro n i t hi ht hw
    refine pk_le s i (fun z => absurd z (by omega)) (fun _ => ⟨pk_in i 256 (by omega), nm_r (by rw [nI_clamp (show i < 2 ^ 31 by omega)]) (nm_r (nI_1 i) (hw _ (fun c hc => ?_)))⟩)
    by_cases e : c = i
    · rw [e]; exact pk_us
    · rw [pk_un e]; exact ht c (by omega)
end
section
/-! ===== the law: the rounds ===== -/
section
variable {post : Int32 → St0 → Prop} {mc ms kc ks f g : Nat} {x2 : Int32}
theorem tq_L77 {J55 : Int32 → Int32 → Int32 → Int32 → Int32 → Int32 → Int32 → (Nat → Int32) → (Nat → Int32) → (Nat → Int32) → (Nat → Int32) → (Nat → Int32) → (Nat → Int32) → (Nat → Int32) → (Nat → Int32) → (Nat → Int32) → (Nat → Int32) → (Nat → Int32) → (Nat → Int32) → Prop} {x6 x8 : Int32} {r : Nat} (hf : f < 27) (hg : g < 27) (h6 : ∀ t, tq_bt x6 t = true ↔ tq_LV f g r t) (h8 : ∀ t, tq_bt x8 t = true ↔ tq_LV f g (r + 1) t) (hr : r < 8)
    (HJ : ∀ (nn mm cc zz kk : Int32) (a1 a2 a3 a4 a5 a6 a7 a8 a9 a10 a11 a12 : Nat → Int32), tq_SP f g nn mm cc zz kk a1 a2 a3 a6 a7 a8 → J55 x8 (nI (r + 1)) nn mm cc zz kk a1 a2 a3 a4 a5 a6 a7 a8 a9 a10 a11 a12) : ∀ (n i : Nat) (nn mm cc zz kk : Int32) (a1 a2 a3 a4 a5 a6 a7 a8 a9 a10 a11 a12 : Nat → Int32), i ≤ 27 → 27 - i < n → tq_SP f g nn mm cc zz kk a1 a2 a3 a6 a7 a8 → wL_lawOf_77 post mc ms J55 x2 (nI f) (nI g) x6 (nI r) x8 kc ks n (nI i) nn mm cc zz kk a1 a2 a3 a4 a5 a6 a7 a8 a9 a10 a11 a12 := by
  intro n
  induction n with
  | zero => exact fun i _ _ _ _ _ _ _ _ _ _ _ _ _ _ _ _ _ _ hn => absurd hn (by omega)
  | succ n ih =>
    intro i nn mm cc zz kk a1 a2 a3 a4 a5 a6 a7 a8 a9 a10 a11 a12 hi hn h
    refine pk_le 27 i (fun z => nm_r (nI_1 r) (HJ _ _ _ _ _ _ _ _ _ _ _ _ _ _ _ _ _ h)) (fun z => ek_if (tq_bitN (by omega)) (fun b => ?_) (fun b => ?_))
    · rw [h8, h6] at b
      unfold wL_lawOf_105
      refine br_f (by decide) (tq_length hf hg (tq_LV_M b.1) h (fun l nn mm cc zz kk a1 a2 a3 a4 a5 a6 a7 a8 a9 a10 a11 a12 h' hl => br_t ?_ (nm_r (nI_1 i) (ih (i + 1) _ _ _ _ _ _ _ _ _ _ _ _ _ _ _ _ _ (by omega) (by omega) h'))))
      have l1 := (hl (r + 1)).mp b.1
      have l2 : ¬ l ≤ r := fun q => b.2 ((hl r).mpr q)
      rw [nI_1, show l = r + 1 by omega]
    · unfold wL_lawOf_105
      exact br_t rfl (nm_r (nI_1 i) (ih (i + 1) _ _ _ _ _ _ _ _ _ _ _ _ _ _ _ _ _ (by omega) (by omega) h))
theorem tq_L55 (hf : f < 27) (hg : g < 27) (HC : ∀ (x6 : Int32) (nn mm cc zz kk : Int32) (a1 a2 a3 a4 a5 a6 a7 a8 a9 a10 a11 a12 : Nat → Int32), (∀ t, tq_bt x6 t = true ↔ tq_M f g t) → tq_SP f g nn mm cc zz kk a1 a2 a3 a6 a7 a8 → ∃ n, wL_lawOf_170 post mc ms x2 (nI f) (nI g) x6 1 kc ks n 0 0 0 0 nn mm cc zz kk a1 a2 a3 a4 a5 a6 a7 a8 a9 a10 a11 a12) :
    ∀ (n r : Nat) (x6 : Int32) (nn mm cc zz kk : Int32) (a1 a2 a3 a4 a5 a6 a7 a8 a9 a10 a11 a12 : Nat → Int32), r ≤ 8 → 8 - r < n → (∀ t, tq_bt x6 t = true ↔ tq_LV f g r t) → tq_SP f g nn mm cc zz kk a1 a2 a3 a6 a7 a8 → wL_lawOf_55 post mc ms x2 (nI f) (nI g) kc ks n x6 (nI r) nn mm cc zz kk a1 a2 a3 a4 a5 a6 a7 a8 a9 a10 a11 a12 := by
  intro n
  induction n with
  | zero => exact fun r _ _ _ _ _ _ _ _ _ _ _ _ _ _ _ _ _ _ _ hn => absurd hn (by omega)
  | succ n ih =>
    intro r x6 nn mm cc zz kk a1 a2 a3 a4 a5 a6 a7 a8 a9 a10 a11 a12 hr hn h6 h
    refine pk_le 8 r (fun z => ?_) (fun z => ?_)
    · refine tq_closed (k := 0) hf hg (by omega) (fun t b => tq_M_lt hf hg (tq_LV_M ((h6 t).mp b))) (fun y hy => HC y _ _ _ _ _ _ _ _ _ _ _ _ _ _ _ _ _ (fun t => ?_) h)
      rw [hy t]
      constructor
      · rintro ⟨c, b, q⟩
        exact tq_rc_trans (tq_LV_M ((h6 c).mp b)) q
      · exact fun q => ⟨5, (h6 5).mpr (tq_LV_5 r), q⟩
    · refine tq_wider (k := 0) hf hg (by omega) (fun x8 h8 => ⟨28, ?_⟩)
      have h8' : ∀ t, tq_bt x8 t = true ↔ tq_LV f g (r + 1) t := by
        intro t
        rw [h8 t]
        constructor
        · rintro (b | ⟨c, hc, b, e⟩)
          · exact Or.inl ((h6 t).mp b)
          · exact Or.inr ⟨c, hc, (h6 c).mp b, e⟩
        · rintro (b | ⟨c, hc, b, e⟩)
          · exact Or.inl ((h6 t).mpr b)
          · exact Or.inr ⟨c, hc, (h6 c).mpr b, e⟩
      exact tq_L77 hf hg h6 h8' z (fun nn mm cc zz kk a1 a2 a3 a4 a5 a6 a7 a8 a9 a10 a11 a12 h' => ih (r + 1) x8 _ _ _ _ _ _ _ _ _ _ _ _ _ _ _ _ _ (by omega) (by omega) h8' h') 28 0 _ _ _ _ _ _ _ _ _ _ _ _ _ _ _ _ _ (by omega) (by omega) h
end
/-! ===== the law: the elements, one by one ===== -/
theorem tq_rkl : ∀ c, c < 27 → ((((((1 : Int32) <<< ((nI c / 9) &&& 31)) ||| ((1 : Int32) <<< (((nI c / 3) - (nI c / 3) / 3 * 3) &&& 31))) ||| ((1 : Int32) <<< ((nI c - nI c / 3 * 3) &&& 31))) &&& 1) + ((((((1 : Int32) <<< ((nI c / 9) &&& 31)) ||| ((1 : Int32) <<< (((nI c / 3) - (nI c / 3) / 3 * 3) &&& 31))) ||| ((1 : Int32) <<< ((nI c - nI c / 3 * 3) &&& 31))) >>> ((1 : Int32) &&& 31)) &&& 1)) + ((((((1 : Int32) <<< ((nI c / 9) &&& 31)) ||| ((1 : Int32) <<< (((nI c / 3) - (nI c / 3) / 3 * 3) &&& 31))) ||| ((1 : Int32) <<< ((nI c - nI c / 3 * 3) &&& 31))) >>> ((2 : Int32) &&& 31)) &&& 1) = nI (tq_rk c) := by decide +kernel
section
variable {post : Int32 → St0 → Prop} {mc ms kc ks f g i : Nat} {J : Int32 → Int32 → Int32 → Int32 → Int32 → Int32 → Int32 → Int32 → Int32 → (Nat → Int32) → (Nat → Int32) → (Nat → Int32) → (Nat → Int32) → (Nat → Int32) → (Nat → Int32) → (Nat → Int32) → (Nat → Int32) → (Nat → Int32) → (Nat → Int32) → (Nat → Int32) → (Nat → Int32) → Prop} {x2 x6 x7 x8 x9 x10 : Int32} {nn mm cc zz kk : Int32} {a1 a2 a3 a4 a5 a6 a7 a8 a9 a10 a11 a12 : Nat → Int32}
theorem tq_L373 (hi : i < 27) (h : tq_SP f g nn mm cc zz kk a1 a2 a3 a6 a7 a8) (H : J x7 x8 x9 (nI (i + 1)) nn mm cc zz kk a1 a2 a3 a4 a5 a6 a7 a8 a9 a10 a11 a12) : wL_lawOf_373 post mc ms J x2 (nI f) (nI g) x6 x7 x8 x9 x10 (nI i) kc ks nn mm cc zz kk a1 a2 a3 a4 a5 a6 a7 a8 a9 a10 a11 a12 := by
  unfold wL_lawOf_373
  obtain ⟨j, hj, e⟩ := pk_andE (x2 >>> ((8 : Int32) &&& 31)) (m := 255) 8 (by decide)
  have er : ((x2 >>> ((8 : Int32) &&& 31)) &&& 255) - ((x2 >>> ((8 : Int32) &&& 31)) &&& 255) / 27 * 27 = nI (j % 27) := by
    rw [e]
    exact pk_rem (d := 27) (by omega) (by omega) (by omega)
  exact ⟨by decide, nm_r er (tq_product hi (by omega) h (tq_times hi (by omega) (br_t rfl (nm_r (nI_1 i) H))))⟩
theorem tq_L260o (hi : i < 27) (h : tq_SP f g nn mm cc zz kk a1 a2 a3 a6 a7 a8) (H : J x7 x8 x9 (nI (i + 1)) nn mm cc zz kk a1 a2 a3 a4 a5 a6 a7 a8 a9 a10 a11 a12) : wL_lawOf_260 post mc ms J x2 (nI f) (nI g) x6 x7 x8 x9 x10 (nI i) 0 kc ks nn mm cc zz kk a1 a2 a3 a4 a5 a6 a7 a8 a9 a10 a11 a12 := by
  unfold wL_lawOf_260
  refine ⟨by decide, by decide, by decide, by decide, nm_e (nm_r (tq_rkl i hi) (tq_rank hi h (br_t rfl (br_t rfl ?_))))⟩
  unfold wL_lawOf_359
  exact br_t rfl (tq_L373 hi h H)
theorem tq_L359i {u : Nat} (hi : i < 27) (h : tq_SP f g nn mm cc zz kk a1 a2 a3 a6 a7 a8) (H1 : tq_rk i = 3 → J x7 (nI (u + 1)) x9 (nI (i + 1)) nn mm cc zz kk a1 a2 a3 a4 a5 a6 a7 a8 a9 a10 a11 a12) (H0 : ¬ tq_rk i = 3 → J x7 (nI u) x9 (nI (i + 1)) nn mm cc zz kk a1 a2 a3 a4 a5 a6 a7 a8 a9 a10 a11 a12) : wL_lawOf_359 post mc ms J x2 (nI f) (nI g) x6 x7 (nI u) x9 x10 (nI i) 1 (nI (tq_rk i)) kc ks nn mm cc zz kk a1 a2 a3 a4 a5 a6 a7 a8 a9 a10 a11 a12 := by
  have hr := tq_rk_le i
  unfold wL_lawOf_359
  exact br_f (by decide) (pk_eq (tq_rk i) 3 (fun z => nm_r (nI_1 u) (tq_L373 hi h (H1 z))) (fun z => tq_L373 hi h (H0 z)))
theorem tq_L260i {u : Nat} (hf : f < 27) (hg : g < 27) (h6 : ∀ t, tq_bt x6 t = true ↔ tq_M f g t) (hM : tq_M f g i) (h : tq_SP f g nn mm cc zz kk a1 a2 a3 a6 a7 a8) (H1 : tq_rk i = 3 → J x7 (nI (u + 1)) x9 (nI (i + 1)) nn mm cc zz kk a1 a2 a3 a4 a5 a6 a7 a8 a9 a10 a11 a12) (H0 : ¬ tq_rk i = 3 → J x7 (nI u) x9 (nI (i + 1)) nn mm cc zz kk a1 a2 a3 a4 a5 a6 a7 a8 a9 a10 a11 a12) : wL_lawOf_260 post mc ms J x2 (nI f) (nI g) x6 x7 (nI u) x9 x10 (nI i) 1 kc ks nn mm cc zz kk a1 a2 a3 a4 a5 a6 a7 a8 a9 a10 a11 a12 := by
  have hi := tq_M_lt hf hg hM
  have hr := tq_rk_le i
  have hu := tq_unit hf hg hM
  have L := tq_L359i (post := post) (mc := mc) (ms := ms) (kc := kc) (ks := ks) (J := J) (x2 := x2) (x6 := x6) (x10 := x10) hi h H1 H0
  unfold wL_lawOf_260
  refine ⟨by decide, by decide, by decide, by decide, nm_e (nm_r (tq_rkl i hi) (tq_rank hi h (br_t rfl (br_f (by decide) (pk_eq (tq_rk i) 3 (fun z => ?_) (fun z => ?_))))))⟩
  · unfold wL_lawOf_332
    refine tq_closed1 (k := 0) hf hg (by omega) hi (fun r hq => ?_)
    have e : r = x6 := tq_bext (fun t _ => by
      rw [Bool.eq_iff_iff, hq t, h6 t]
      exact hu.mp z t)
    refine br_t e ?_
    unfold wL_lawOf_354
    exact br_t rfl L
  · unfold wL_lawOf_332
    refine tq_closed1 (k := 0) hf hg (by omega) hi (fun r hq => ?_)
    have e : ¬ r = x6 := fun e => z (hu.mpr (fun t => by rw [← hq t, ← h6 t, e]))
    refine br_f e ?_
    unfold wL_lawOf_354
    exact br_t rfl L
theorem tq_L193o (hf : f < 27) (hg : g < 27) (hi : i < 27) (hM : ¬ tq_M f g i) (h : tq_SP f g nn mm cc zz kk a1 a2 a3 a6 a7 a8) (H : ∀ (nn mm cc zz kk : Int32) (a1 a2 a3 a4 a5 a6 a7 a8 a9 a10 a11 a12 : Nat → Int32), tq_SP f g nn mm cc zz kk a1 a2 a3 a6 a7 a8 → J x7 x8 x9 (nI (i + 1)) nn mm cc zz kk a1 a2 a3 a4 a5 a6 a7 a8 a9 a10 a11 a12) : wL_lawOf_193 post mc ms J x2 (nI f) (nI g) x6 x7 x8 x9 x10 (nI i) 0 kc ks nn mm cc zz kk a1 a2 a3 a4 a5 a6 a7 a8 a9 a10 a11 a12 := by
  unfold wL_lawOf_193
  refine tq_has hf hg hi h (fun r nn mm cc zz kk a1 a2 a3 a4 a5 a6 a7 a8 a9 a10 a11 a12 h' _ hr => br_t rfl ?_)
  unfold wL_lawOf_211
  refine br_t (hr hM) (br_t rfl ?_)
  unfold wL_lawOf_232
  refine br_t rfl ?_
  unfold wL_lawOf_240
  exact br_t rfl (tq_L260o hi h' (H _ _ _ _ _ _ _ _ _ _ _ _ _ _ _ _ _ h'))
theorem tq_L193i {v u : Nat} (hf : f < 27) (hg : g < 27) (h6 : ∀ t, tq_bt x6 t = true ↔ tq_M f g t) (hM : tq_M f g i) (h : tq_SP f g nn mm cc zz kk a1 a2 a3 a6 a7 a8)
    (H : ∀ (v' u' : Nat) (nn mm cc zz kk : Int32) (a1 a2 a3 a4 a5 a6 a7 a8 a9 a10 a11 a12 : Nat → Int32), tq_SP f g nn mm cc zz kk a1 a2 a3 a6 a7 a8 → (tq_tm i i = i → v' = v + 1) → (¬ tq_tm i i = i → v' = v) → (tq_rk i = 3 → u' = u + 1) → (¬ tq_rk i = 3 → u' = u) → J (nI v') (nI u') (nI (tq_cn (tq_M f g) i + 1)) (nI (i + 1)) nn mm cc zz kk a1 a2 a3 a4 a5 a6 a7 a8 a9 a10 a11 a12) :
    wL_lawOf_193 post mc ms J x2 (nI f) (nI g) x6 (nI v) (nI u) (nI (tq_cn (tq_M f g) i)) x10 (nI i) 1 kc ks nn mm cc zz kk a1 a2 a3 a4 a5 a6 a7 a8 a9 a10 a11 a12 := by
  have hi := tq_M_lt hf hg hM
  have ht := tq_tm_lt i hi
  unfold wL_lawOf_193
  refine tq_has hf hg hi h (fun r nn mm cc zz kk a1 a2 a3 a4 a5 a6 a7 a8 a9 a10 a11 a12 h' hr _ => br_f (by decide) ?_)
  unfold wL_lawOf_211
  refine br_t (hr hM) (br_f (by decide) (tq_element hf hg hM h' (fun nn mm cc zz kk a1 a2 a3 a4 a5 a6 a7 a8 a9 a10 a11 a12 h'' => br_t rfl ?_)))
  unfold wL_lawOf_232
  refine br_f (by decide) (nm_r (nI_1 _) ?_)
  unfold wL_lawOf_240
  refine br_f (by decide) (tq_times hi hi (pk_eq (tq_tm i i) i (fun z => nm_r (nI_1 v) ?_) (fun z => ?_)))
  · exact tq_L260i hf hg h6 hM h'' (fun y => H (v + 1) (u + 1) _ _ _ _ _ _ _ _ _ _ _ _ _ _ _ _ _ h'' (fun _ => rfl) (fun w => absurd z w) (fun _ => rfl) (fun w => absurd y w)) (fun y => H (v + 1) u _ _ _ _ _ _ _ _ _ _ _ _ _ _ _ _ _ h'' (fun _ => rfl) (fun w => absurd z w) (fun w => absurd w y) (fun _ => rfl))
  · exact tq_L260i hf hg h6 hM h'' (fun y => H v (u + 1) _ _ _ _ _ _ _ _ _ _ _ _ _ _ _ _ _ h'' (fun w => absurd w z) (fun _ => rfl) (fun _ => rfl) (fun w => absurd y w)) (fun y => H v u _ _ _ _ _ _ _ _ _ _ _ _ _ _ _ _ _ h'' (fun w => absurd w z) (fun _ => rfl) (fun w => absurd w y) (fun _ => rfl))
end
section
variable {post : Int32 → St0 → Prop} {mc ms kc ks f g : Nat} {x2 x6 : Int32}
theorem tq_L170 (hf : f < 27) (hg : g < 27) (h6 : ∀ t, tq_bt x6 t = true ↔ tq_M f g t)
    (HC : ∀ (x10 : Int32) (nn mm cc zz kk : Int32) (a1 a2 a3 a4 a5 a6 a7 a8 a9 a10 a11 a12 : Nat → Int32), tq_SP f g nn mm cc zz kk a1 a2 a3 a6 a7 a8 → (tq_tm f g = tq_tm g f → x10 = 1) → (¬ tq_tm f g = tq_tm g f → x10 = 0) → wL_lawOf_432 post mc ms x2 (nI f) (nI g) x6 (nI (tq_cn (fun c => tq_M f g c ∧ tq_tm c c = c) 27)) (nI (tq_cn (fun c => tq_M f g c ∧ tq_rk c = 3) 27)) (nI (tq_cn (tq_M f g) 27)) x10 kc ks nn mm cc zz kk a1 a2 a3 a4 a5 a6 a7 a8 a9 a10 a11 a12) :
    ∀ (n i : Nat) (nn mm cc zz kk : Int32) (a1 a2 a3 a4 a5 a6 a7 a8 a9 a10 a11 a12 : Nat → Int32), i ≤ 27 → 27 - i < n → tq_SP f g nn mm cc zz kk a1 a2 a3 a6 a7 a8 → wL_lawOf_170 post mc ms x2 (nI f) (nI g) x6 1 kc ks n (nI (tq_cn (fun c => tq_M f g c ∧ tq_tm c c = c) i)) (nI (tq_cn (fun c => tq_M f g c ∧ tq_rk c = 3) i)) (nI (tq_cn (tq_M f g) i)) (nI i) nn mm cc zz kk a1 a2 a3 a4 a5 a6 a7 a8 a9 a10 a11 a12 := by
  have l1 := tq_tm_lt f hg
  have l2 := tq_tm_lt g hf
  intro n
  induction n with
  | zero => exact fun i _ _ _ _ _ _ _ _ _ _ _ _ _ _ _ _ _ _ hn => absurd hn (by omega)
  | succ n ih =>
    intro i nn mm cc zz kk a1 a2 a3 a4 a5 a6 a7 a8 a9 a10 a11 a12 hi hn h
    refine pk_le 27 i (fun z => ?_) (fun z => ek_if (tq_bit (by omega)) (fun b => ?_) (fun b => ?_))
    · have e : i = 27 := by omega
      subst e
      refine tq_times hf hg (tq_times hg hf (pk_eq (tq_tm f g) (tq_tm g f) (fun y => ?_) (fun y => ?_)))
      · exact HC 1 _ _ _ _ _ _ _ _ _ _ _ _ _ _ _ _ _ h (fun _ => rfl) (fun w => absurd y w)
      · exact HC 0 _ _ _ _ _ _ _ _ _ _ _ _ _ _ _ _ _ h (fun w => absurd w y) (fun _ => rfl)
    · rw [h6] at b
      refine tq_L193i hf hg h6 b h (fun v u nn mm cc zz kk a1 a2 a3 a4 a5 a6 a7 a8 a9 a10 a11 a12 h' v1 v0 u1 u0 => ?_)
      have e1 : tq_cn (tq_M f g) (i + 1) = tq_cn (tq_M f g) i + 1 := tq_cn_t b
      have e2 : v = tq_cn (fun c => tq_M f g c ∧ tq_tm c c = c) (i + 1) := by
        by_cases y : tq_tm i i = i
        · rw [v1 y, tq_cn_t (P := fun c => tq_M f g c ∧ tq_tm c c = c) ⟨b, y⟩]
        · rw [v0 y, tq_cn_f (P := fun c => tq_M f g c ∧ tq_tm c c = c) (fun w => y w.2)]
      have e3 : u = tq_cn (fun c => tq_M f g c ∧ tq_rk c = 3) (i + 1) := by
        by_cases y : tq_rk i = 3
        · rw [u1 y, tq_cn_t (P := fun c => tq_M f g c ∧ tq_rk c = 3) ⟨b, y⟩]
        · rw [u0 y, tq_cn_f (P := fun c => tq_M f g c ∧ tq_rk c = 3) (fun w => y w.2)]
      rw [← e1, e2, e3]
      exact ih (i + 1) _ _ _ _ _ _ _ _ _ _ _ _ _ _ _ _ _ (by omega) (by omega) h'
    · rw [h6] at b
      refine tq_L193o hf hg z b h (fun nn mm cc zz kk a1 a2 a3 a4 a5 a6 a7 a8 a9 a10 a11 a12 h' => ?_)
      have x := ih (i + 1) nn mm cc zz kk a1 a2 a3 a4 a5 a6 a7 a8 a9 a10 a11 a12 (by omega) (by omega) h'
      rw [tq_cn_f (P := tq_M f g) b, tq_cn_f (P := fun c => tq_M f g c ∧ tq_tm c c = c) (fun w => b w.1), tq_cn_f (P := fun c => tq_M f g c ∧ tq_rk c = 3) (fun w => b w.1)] at x
      exact x
theorem tq_L432 {x10 : Int32} {nn mm cc zz kk : Int32} {a1 a2 a3 a4 a5 a6 a7 a8 a9 a10 a11 a12 : Nat → Int32} (hf : f < 27) (hg : g < 27) (h : tq_SP f g nn mm cc zz kk a1 a2 a3 a6 a7 a8) (h1 : tq_tm f g = tq_tm g f → x10 = 1) (h0 : ¬ tq_tm f g = tq_tm g f → x10 = 0)
    (HC : ∀ (kd : Nat) (nn mm cc zz kk : Int32) (a1 a2 a3 a4 a5 a6 a7 a8 a9 a10 a11 a12 : Nat → Int32), kd < 3 → tq_SP f g nn mm cc zz kk a1 a2 a3 a6 a7 a8 → ∃ n, wL_lawOf_495 post mc ms (nI f) (nI g) x6 (nI kd) kc ks n 0 x6 0 nn mm cc zz kk a1 a2 a3 a4 a5 a6 a7 a8 a9 a10 a11 a12) :
    wL_lawOf_432 post mc ms x2 (nI f) (nI g) x6 (nI (tq_cn (fun c => tq_M f g c ∧ tq_tm c c = c) 27)) (nI (tq_cn (fun c => tq_M f g c ∧ tq_rk c = 3) 27)) (nI (tq_cn (tq_M f g) 27)) x10 kc ks nn mm cc zz kk a1 a2 a3 a4 a5 a6 a7 a8 a9 a10 a11 a12 := by
  have last : ∀ (z : Int32) (nn mm cc zz kk : Int32) (a1 a2 a3 a4 a5 a6 a7 a8 a9 a10 a11 a12 : Nat → Int32), tq_SP f g nn mm cc zz kk a1 a2 a3 a6 a7 a8 → wL_lawOf_473 post mc ms x2 (nI f) (nI g) x6 z z kc ks nn mm cc zz kk a1 a2 a3 a4 a5 a6 a7 a8 a9 a10 a11 a12 := by
    intro z nn mm cc zz kk a1 a2 a3 a4 a5 a6 a7 a8 a9 a10 a11 a12 h
    obtain ⟨j, hj, e⟩ := pk_andE x2 (m := 3) 2 (by decide)
    have er : (x2 &&& 3) - (x2 &&& 3) / 3 * 3 = nI (j % 3) := by
      rw [e]
      exact pk_rem (d := 3) (by omega) (by omega) (by omega)
    unfold wL_lawOf_473
    exact br_t rfl ⟨by decide, nm_r er (HC (j % 3) _ _ _ _ _ _ _ _ _ _ _ _ _ _ _ _ _ (by omega) h)⟩
  unfold wL_lawOf_432
  refine tq_size hf hg h (fun nn mm cc zz kk a1 a2 a3 a4 a5 a6 a7 a8 a9 a10 a11 a12 h => br_t rfl ?_)
  refine tq_idem hf hg h (fun nn mm cc zz kk a1 a2 a3 a4 a5 a6 a7 a8 a9 a10 a11 a12 h => br_t rfl ?_)
  refine tq_units hf hg h (fun nn mm cc zz kk a1 a2 a3 a4 a5 a6 a7 a8 a9 a10 a11 a12 h => br_t rfl ?_)
  refine tq_commutes hf hg h (fun r nn mm cc zz kk a1 a2 a3 a4 a5 a6 a7 a8 a9 a10 a11 a12 h r1 r0 => ?_)
  by_cases y : tq_tm f g = tq_tm g f
  · rw [h1 y, r1 y]
    exact br_f (by decide) (last 1 _ _ _ _ _ _ _ _ _ _ _ _ _ _ _ _ _ h)
  · rw [h0 y, r0 y]
    exact br_t rfl (last 0 _ _ _ _ _ _ _ _ _ _ _ _ _ _ _ _ _ h)
end
end
section
/-! ===== the law: ideals and classes ===== -/
section
variable {post : Int32 → St0 → Prop} {mc ms kc ks f g c kd : Nat} {J : Int32 → Int32 → Int32 → Int32 → Int32 → Int32 → Int32 → Int32 → (Nat → Int32) → (Nat → Int32) → (Nat → Int32) → (Nat → Int32) → (Nat → Int32) → (Nat → Int32) → (Nat → Int32) → (Nat → Int32) → (Nat → Int32) → (Nat → Int32) → (Nat → Int32) → (Nat → Int32) → Prop} {x6 x12 x13 x15 x16 : Int32} {nn mm cc zz kk : Int32} {a1 a2 a3 a4 a5 a6 a7 a8 a9 a10 a11 a12 : Nat → Int32}
theorem tq_L644o (hf : f < 27) (hg : g < 27) (hk : kd < 3) (hc : c < 27) (hM : ¬ tq_M f g c) (h : tq_SP f g nn mm cc zz kk a1 a2 a3 a6 a7 a8) (H : ∀ (nn mm cc zz kk : Int32) (a1 a2 a3 a4 a5 a6 a7 a8 a9 a10 a11 a12 : Nat → Int32), tq_SP f g nn mm cc zz kk a1 a2 a3 a6 a7 a8 → J x12 x13 (nI (c + 1)) nn mm cc zz kk a1 a2 a3 a4 a5 a6 a7 a8 a9 a10 a11 a12) : wL_lawOf_644 post mc ms J (nI f) (nI g) x6 (nI kd) x12 x13 (nI c) x15 0 kc ks nn mm cc zz kk a1 a2 a3 a4 a5 a6 a7 a8 a9 a10 a11 a12 := by
  unfold wL_lawOf_644
  refine tq_ideal hf hg hc hk h (fun r nn mm cc zz kk a1 a2 a3 a4 a5 a6 a7 a8 a9 a10 a11 a12 h' _ r0 => br_t rfl ?_)
  unfold wL_lawOf_667
  exact br_t (r0 hM) (nm_r (nI_1 c) (H _ _ _ _ _ _ _ _ _ _ _ _ _ _ _ _ _ h'))
theorem tq_L644i (hf : f < 27) (hg : g < 27) (hk : kd < 3) (hM : tq_M f g c) (h15 : ∀ t, tq_bt x15 t = true ↔ tq_RC f g kd c t) (h : tq_SP f g nn mm cc zz kk a1 a2 a3 a6 a7 a8) (H : ∀ (nn mm cc zz kk : Int32) (a1 a2 a3 a4 a5 a6 a7 a8 a9 a10 a11 a12 : Nat → Int32), tq_SP f g nn mm cc zz kk a1 a2 a3 a6 a7 a8 → J x12 x13 (nI (c + 1)) nn mm cc zz kk a1 a2 a3 a4 a5 a6 a7 a8 a9 a10 a11 a12) : wL_lawOf_644 post mc ms J (nI f) (nI g) x6 (nI kd) x12 x13 (nI c) x15 1 kc ks nn mm cc zz kk a1 a2 a3 a4 a5 a6 a7 a8 a9 a10 a11 a12 := by
  have hc := tq_M_lt hf hg hM
  unfold wL_lawOf_644
  refine tq_ideal hf hg hc hk h (fun r nn mm cc zz kk a1 a2 a3 a4 a5 a6 a7 a8 a9 a10 a11 a12 h' r1 _ => br_f (by decide) (tq_ones (P := tq_RC f g kd c) (fun t _ => h15 t) ?_))
  unfold wL_lawOf_667
  exact br_t (r1 hM) (nm_r (nI_1 c) (H _ _ _ _ _ _ _ _ _ _ _ _ _ _ _ _ _ h'))
theorem tq_L556o (hf : f < 27) (hg : g < 27) (hk : kd < 3) (hc : c < 27) (hM : ¬ tq_M f g c) (h : tq_SP f g nn mm cc zz kk a1 a2 a3 a6 a7 a8) (H : ∀ (nn mm cc zz kk : Int32) (a1 a2 a3 a4 a5 a6 a7 a8 a9 a10 a11 a12 : Nat → Int32), tq_SP f g nn mm cc zz kk a1 a2 a3 a6 a7 a8 → J x12 x13 (nI (c + 1)) nn mm cc zz kk a1 a2 a3 a4 a5 a6 a7 a8 a9 a10 a11 a12) : ∃ n, wL_lawOf_556 post mc ms J (nI f) (nI g) x6 (nI kd) x12 x13 (nI c) x15 x16 0 kc ks nn mm cc zz kk a1 a2 a3 a4 a5 a6 a7 a8 a9 a10 a11 a12 n 0 0 := by
  have L : wL_lawOf_624 post mc ms J (nI f) (nI g) x6 (nI kd) x12 x13 (nI c) x15 x16 0 0 kc ks nn mm cc zz kk a1 a2 a3 a4 a5 a6 a7 a8 a9 a10 a11 a12 := by
    unfold wL_lawOf_624
    refine br_t rfl ?_
    unfold wL_lawOf_632
    exact br_t rfl (tq_L644o hf hg hk hc hM h H)
  exact ⟨1, br_c (fun _ => L) (fun _ => br_t rfl L)⟩
theorem tq_L556i {u : Nat} (hf : f < 27) (hg : g < 27) (hk : kd < 3) (hM : tq_M f g c) (h6 : ∀ t, tq_bt x6 t = true ↔ tq_M f g t) (h15 : ∀ t, tq_bt x15 t = true ↔ tq_RC f g kd c t) (h : tq_SP f g nn mm cc zz kk a1 a2 a3 a6 a7 a8)
    (H : ∀ (u' : Nat) (nn mm cc zz kk : Int32) (a1 a2 a3 a4 a5 a6 a7 a8 a9 a10 a11 a12 : Nat → Int32), (tq_fr f g kd c → u' = u + 1) → (¬ tq_fr f g kd c → u' = u) → tq_SP f g nn mm cc zz kk a1 a2 a3 a6 a7 a8 → J (nI u') (x13 &&& x16) (nI (c + 1)) nn mm cc zz kk a1 a2 a3 a4 a5 a6 a7 a8 a9 a10 a11 a12) : ∃ n, wL_lawOf_556 post mc ms J (nI f) (nI g) x6 (nI kd) (nI u) x13 (nI c) x15 x16 1 kc ks nn mm cc zz kk a1 a2 a3 a4 a5 a6 a7 a8 a9 a10 a11 a12 n 1 0 := by
  have hc := tq_M_lt hf hg hM
  have L : ∀ u' x18, (tq_fr f g kd c → u' = u + 1) → (¬ tq_fr f g kd c → u' = u) → ((x18 = 0 ∧ u' = u) ∨ (x18 = 1 ∧ u' = u + 1)) → wL_lawOf_624 post mc ms J (nI f) (nI g) x6 (nI kd) (nI u) x13 (nI c) x15 x16 1 x18 kc ks nn mm cc zz kk a1 a2 a3 a4 a5 a6 a7 a8 a9 a10 a11 a12 := by
    intro u' x18 q1 q0 hx
    have M : wL_lawOf_632 post mc ms J (nI f) (nI g) x6 (nI kd) (nI u') x13 (nI c) x15 x16 1 kc ks nn mm cc zz kk a1 a2 a3 a4 a5 a6 a7 a8 a9 a10 a11 a12 := by
      unfold wL_lawOf_632
      exact br_f (by decide) (nm_e (tq_L644i hf hg hk hM h15 h (fun nn mm cc zz kk a1 a2 a3 a4 a5 a6 a7 a8 a9 a10 a11 a12 h' => H u' _ _ _ _ _ _ _ _ _ _ _ _ _ _ _ _ _ q1 q0 h')))
    unfold wL_lawOf_624
    rcases hx with ⟨rfl, e⟩ | ⟨rfl, e⟩
    · rw [e] at M
      exact br_t rfl M
    · rw [e] at M
      exact br_f (by decide) (nm_r (nI_1 u) M)
  refine pk_loop (fun n d t => wL_lawOf_556 post mc ms J (nI f) (nI g) x6 (nI kd) (nI u) x13 (nI c) x15 x16 1 kc ks nn mm cc zz kk a1 a2 a3 a4 a5 a6 a7 a8 a9 a10 a11 a12 n t (nI d)) (fun d t => (t = 0 ∧ ∃ e, e < d ∧ tq_M f g e ∧ tq_Q f g kd e c) ∨ (t = 1 ∧ ¬ ∃ e, e < d ∧ tq_M f g e ∧ tq_Q f g kd e c)) c 0 1 (by omega) (Or.inr ⟨rfl, fun z => by obtain ⟨e, he, _⟩ := z; omega⟩) ?_ ?_
  · intro n t ht
    refine pk_le c c (fun _ => ?_) (fun z => absurd z (by omega))
    rcases ht with ⟨rfl, ht⟩ | ⟨rfl, ht⟩
    · exact L u 0 (fun q => absurd ht q.2) (fun _ => rfl) (Or.inl ⟨rfl, rfl⟩)
    · exact L (u + 1) 1 (fun _ => rfl) (fun q => absurd ⟨hM, ht⟩ q) (Or.inr ⟨rfl, rfl⟩)
  · intro n d t hd ht hw
    have yes : tq_M f g d → tq_Q f g kd d c → wL_lawOf_556 post mc ms J (nI f) (nI g) x6 (nI kd) (nI u) x13 (nI c) x15 x16 1 kc ks nn mm cc zz kk a1 a2 a3 a4 a5 a6 a7 a8 a9 a10 a11 a12 n 0 (nI (d + 1)) := fun m q => hw 0 (Or.inl ⟨rfl, d, by omega, m, q⟩)
    have no : ¬ (tq_M f g d ∧ tq_Q f g kd d c) → wL_lawOf_556 post mc ms J (nI f) (nI g) x6 (nI kd) (nI u) x13 (nI c) x15 x16 1 kc ks nn mm cc zz kk a1 a2 a3 a4 a5 a6 a7 a8 a9 a10 a11 a12 n t (nI (d + 1)) := fun q => hw t (by
      rcases ht with ⟨e, x, hx, m⟩ | ⟨e, ht⟩
      · exact Or.inl ⟨e, x, by omega, m⟩
      · refine Or.inr ⟨e, fun w => ?_⟩
        obtain ⟨x, hx, m⟩ := w
        by_cases ex : x = d
        · rw [ex] at m
          exact q m
        · exact ht ⟨x, by omega, m⟩)
    refine pk_le c d (fun z => absurd z (by omega)) (fun _ => br_f (by decide) (ek_if (tq_bit2 (by omega)) (fun b => ?_) (fun b => ?_)))
    · rw [h6, h15] at b
      refine tq_closed1 hf hg hk (by omega) (fun r hr => ?_)
      unfold wL_lawOf_602
      refine ek_if (tq_bit (by omega)) (fun y => ?_) (fun y => ?_)
      · rw [hr] at y
        exact nm_r (nI_1 d) (yes b.1 ⟨y, b.2⟩)
      · rw [hr] at y
        exact nm_r (nI_1 d) (no (fun w => y w.2.1))
    · rw [h6, h15] at b
      unfold wL_lawOf_602
      refine ek_if (tq_bit (by omega)) (fun y => ?_) (fun y => ?_)
      · rw [tq_b0] at y
        exact absurd y (by decide)
      · exact nm_r (nI_1 d) (no (fun w => b ⟨w.1, w.2.2⟩))
end
section
variable {post : Int32 → St0 → Prop} {mc ms kc ks f g kd : Nat} {x6 : Int32}
theorem tq_L495 (hf : f < 27) (hg : g < 27) (hk : kd < 3) (h6 : ∀ t, tq_bt x6 t = true ↔ tq_M f g t) (HP : post 1 ()) :
    ∀ (n i : Nat) (x13 : Int32) (nn mm cc zz kk : Int32) (a1 a2 a3 a4 a5 a6 a7 a8 a9 a10 a11 a12 : Nat → Int32), i ≤ 27 → 27 - i < n → (∀ t, tq_bt x13 t = true ↔ (tq_M f g t ∧ ∀ c, c < i → tq_M f g c → tq_RC f g 2 c t)) → tq_SP f g nn mm cc zz kk a1 a2 a3 a6 a7 a8 → wL_lawOf_495 post mc ms (nI f) (nI g) x6 (nI kd) kc ks n (nI (tq_cn (tq_fr f g kd) i)) x13 (nI i) nn mm cc zz kk a1 a2 a3 a4 a5 a6 a7 a8 a9 a10 a11 a12 := by
  intro n
  induction n with
  | zero => exact fun i _ _ _ _ _ _ _ _ _ _ _ _ _ _ _ _ _ _ _ hn => absurd hn (by omega)
  | succ n ih =>
    intro i x13 nn mm cc zz kk a1 a2 a3 a4 a5 a6 a7 a8 a9 a10 a11 a12 hi hn h13 h
    refine pk_le 27 i (fun z => ?_) (fun z => ?_)
    · have e : i = 27 := by omega
      subst e
      refine tq_classes hf hg hk h (fun nn mm cc zz kk a1 a2 a3 a4 a5 a6 a7 a8 a9 a10 a11 a12 h => br_t rfl ?_)
      refine tq_kernel hf hg h (fun nn mm cc zz kk a1 a2 a3 a4 a5 a6 a7 a8 a9 a10 a11 a12 h => ?_)
      refine tq_ones (P := fun t => tq_M f g t ∧ ∀ c, tq_M f g c → tq_RC f g 2 c t) (fun t _ => ?_) (br_t rfl (tq_alike3 (br_t rfl HP)))
      rw [h13 t]
      exact ⟨fun w => ⟨w.1, fun c hc => w.2 c (tq_M_lt hf hg hc) hc⟩, fun w => ⟨w.1, fun c _ hc => w.2 c hc⟩⟩
    · refine tq_closed1 hf hg hk z (fun x15 h15 => tq_closed1 (k := 2) hf hg (by omega) z (fun x16 h16 => ek_if (tq_bit (by omega)) (fun b => ?_) (fun b => ?_)))
      · rw [h6] at b
        refine tq_L556i hf hg hk b h6 h15 h (fun u nn mm cc zz kk a1 a2 a3 a4 a5 a6 a7 a8 a9 a10 a11 a12 u1 u0 h' => ?_)
        have e : u = tq_cn (tq_fr f g kd) (i + 1) := by
          by_cases y : tq_fr f g kd i
          · rw [u1 y, tq_cn_t y]
          · rw [u0 y, tq_cn_f y]
        rw [e]
        refine ih (i + 1) _ _ _ _ _ _ _ _ _ _ _ _ _ _ _ _ _ _ (by omega) (by omega) (fun t => ?_) h'
        rw [tq_andT, h13 t, h16 t]
        constructor
        · rintro ⟨⟨w1, w2⟩, w3⟩
          refine ⟨w1, fun c hc m => ?_⟩
          by_cases ec : c = i
          · rw [ec]; exact w3
          · exact w2 c (by omega) m
        · rintro ⟨w1, w2⟩
          exact ⟨⟨w1, fun c hc m => w2 c (by omega) m⟩, w2 i (by omega) b⟩
      · rw [h6] at b
        refine tq_L556o hf hg hk z b h (fun nn mm cc zz kk a1 a2 a3 a4 a5 a6 a7 a8 a9 a10 a11 a12 h' => ?_)
        have x := ih (i + 1) x13 nn mm cc zz kk a1 a2 a3 a4 a5 a6 a7 a8 a9 a10 a11 a12 (by omega) (by omega) (fun t => by
          rw [h13 t]
          refine ⟨fun w => ⟨w.1, fun c hc m => ?_⟩, fun w => ⟨w.1, fun c hc m => w.2 c (by omega) m⟩⟩
          by_cases ec : c = i
          · rw [ec] at m
            exact absurd m b
          · exact w.2 c (by omega) m) h'
        rw [tq_cn_f (P := tq_fr f g kd) (fun w => b w.1)] at x
        exact x
end
end
section
/-! ===== the law itself ===== -/
theorem tq_cell {post : Int32 → Prop} {L i : Nat} {xs : Nat → Int32} {x : Int32} (hL : L ≤ 3) (hi : i < 3) (H : ∀ r, post r) (hx : x = nI i := by rfl) : wpL_cellAt post L xs () x :=
  pk_le L i (fun _ => H 0) (fun z => ⟨pk_in i L z hx, H _⟩) rfl hx
theorem tq_lawOf {post : Int32 → St0 → Prop} (p0 p1 p2 : Int32) (HP : post 1 ()) : wpL_lawOf post 13 4373 () p0 p1 p2 := by
  obtain ⟨j, hj, e⟩ := pk_andE p0 (m := 2147483647) 31 (by decide)
  obtain ⟨j', hj', e'⟩ := pk_andE p1 (m := 2147483647) 31 (by decide)
  have er : (p0 &&& 2147483647) - (p0 &&& 2147483647) / 27 * 27 = nI (j % 27) := by
    rw [e]
    exact pk_rem (d := 27) (by omega) (by omega) (by omega)
  have er' : (p1 &&& 2147483647) - (p1 &&& 2147483647) / 27 * 27 = nI (j' % 27) := by
    rw [e']
    exact pk_rem (d := 27) (by omega) (by omega) (by omega)
  have hf : j % 27 < 27 := by omega
  have hg : j' % 27 < 27 := by omega
  revert er er' hf hg
  generalize j % 27 = f
  generalize j' % 27 = g
  intro er er' hf hg
  unfold wpL_lawOf
  refine ⟨by decide, by decide, 12, 4356, by decide, by decide, tq_init ⟨by decide, nm_r er ⟨by decide, nm_r er' ?_⟩⟩⟩
  refine tq_generate (j := 0) hf (by omega) (br_t rfl ?_)
  refine tq_generate (j := 1) hg (by omega) (br_t rfl ⟨9, ?_⟩)
  refine tq_L55 hf hg (fun x6 nn mm cc zz kk a1 a2 a3 a4 a5 a6 a7 a8 a9 a10 a11 a12 h6 h => ⟨28, ?_⟩) 9 0 32 _ _ _ _ _ _ _ _ _ _ _ _ _ _ _ _ _ (by omega) (by omega) (fun t => ?_) ⟨rfl, rfl, rfl, ?_, ?_, Or.inl rfl⟩
  · refine tq_L170 hf hg h6 (fun x10 nn mm cc zz kk a1 a2 a3 a4 a5 a6 a7 a8 a9 a10 a11 a12 h h1 h0 => ?_) 28 0 _ _ _ _ _ _ _ _ _ _ _ _ _ _ _ _ _ (by omega) (by omega) h
    refine tq_L432 hf hg h h1 h0 (fun kd nn mm cc zz kk a1 a2 a3 a4 a5 a6 a7 a8 a9 a10 a11 a12 hk h => ⟨28, ?_⟩)
    exact tq_L495 hf hg hk h6 HP 28 0 x6 _ _ _ _ _ _ _ _ _ _ _ _ _ _ _ _ _ (by omega) (by omega) (fun t => by rw [h6 t]; exact ⟨fun w => ⟨w, fun c hc => absurd hc (by omega)⟩, fun w => w.1⟩) h
  · have e5 : (32 : Int32) = (1 : Int32) <<< (nI 5 &&& 31) := by decide
    rw [e5, tq_oneT (by omega)]
    exact Iff.rfl
  · rfl
  · exact pk_us
theorem i_vc (xs : Nat → Int32) (L : Nat) (hL : L ≤ 3) : wpL_law (fun r => r = 1) L xs :=
  tq_cell (i := 0) hL (by omega) (fun r1 => tq_cell (i := 1) hL (by omega) (fun r2 => tq_cell (i := 2) hL (by omega) (fun r3 => ⟨13, 4373, by decide, by decide, tq_lawOf r1 r2 r3 rfl⟩)))
end
