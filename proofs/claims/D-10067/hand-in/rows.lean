section
/-! ===== bits of an Int32 (the family 'bt' of BITS.to-paste, renamed) ===== -/
def cb_t (x : Int32) (i : Nat) : Bool := x.toBitVec.getLsbD i
theorem cb_ext {x y : Int32} (h : ∀ i, i < 32 → cb_t x i = cb_t y i) : x = y := Int32.toBitVec_inj.mp (BitVec.eq_of_getLsbD_eq (fun i hi => h i hi))
theorem cb_or (x y : Int32) (i : Nat) : cb_t (x ||| y) i = (cb_t x i || cb_t y i) := by unfold cb_t; rw [Int32.toBitVec_or, BitVec.getLsbD_or]
theorem cb_and (x y : Int32) (i : Nat) : cb_t (x &&& y) i = (cb_t x i && cb_t y i) := by unfold cb_t; rw [Int32.toBitVec_and, BitVec.getLsbD_and]
theorem cb_xor (x y : Int32) (i : Nat) : cb_t (x ^^^ y) i = (cb_t x i ^^ cb_t y i) := by unfold cb_t; rw [Int32.toBitVec_xor, BitVec.getLsbD_xor]
theorem cb_big {x : Int32} {i : Nat} (h : 32 ≤ i) : cb_t x i = false := BitVec.getLsbD_of_ge _ _ h
theorem cb_255 (i : Nat) : cb_t 255 i = decide (i < 8) := by
  rcases Nat.lt_or_ge i 32 with h | h
  · exact (by decide +kernel : ∀ i, i < 32 → cb_t 255 i = decide (i < 8)) i h
  · rw [cb_big h, decide_eq_false (by omega)]
theorem cb_m1 : ∀ i, i < 32 → cb_t (-1) i = true := by decide +kernel
theorem cb_0 (i : Nat) : cb_t 0 i = false := BitVec.getLsbD_zero
theorem cb_1 (i : Nat) : cb_t 1 i = decide (i = 0) := by
  rcases Nat.lt_or_ge i 32 with h | h
  · exact (by decide +kernel : ∀ i, i < 32 → cb_t 1 i = decide (i = 0)) i h
  · rw [cb_big h, decide_eq_false (by omega)]
theorem cb_sl : ∀ n, n < 32 → ((nI n &&& 31).toBitVec.smod 32).toNat = n := by decide +kernel
theorem cb_su : ∀ n, n < 32 → (((nI n).toUInt32 &&& Int32.toUInt32 31).toBitVec % 32).toNat = n := by decide +kernel
theorem cb_shl (n : Nat) (hn : n < 32) (x : Int32) {i : Nat} (hi : i < 32) : cb_t (x <<< (nI n &&& 31)) i = (decide (n ≤ i) && cb_t x (i - n)) := by
  unfold cb_t
  rw [Int32.toBitVec_shiftLeft]
  show (x.toBitVec <<< ((nI n &&& 31).toBitVec.smod 32).toNat).getLsbD i = _
  rw [cb_sl n hn, BitVec.getLsbD_shiftLeft]
  rcases Nat.lt_or_ge i n with h | h
  · simp [h, Nat.not_le.mpr h]
  · simp [hi, h, Nat.not_lt.mpr h]
theorem cb_ushr (n : Nat) (hn : n < 32) (x : Int32) (i : Nat) : cb_t ((x.toUInt32 >>> ((nI n).toUInt32 &&& Int32.toUInt32 31)).toInt32) i = cb_t x (n + i) := by
  show (x.toUInt32 >>> ((nI n).toUInt32 &&& Int32.toUInt32 31)).toBitVec.getLsbD i = x.toUInt32.toBitVec.getLsbD (n + i)
  rw [UInt32.toBitVec_shiftRight]
  show (x.toUInt32.toBitVec >>> (((nI n).toUInt32 &&& Int32.toUInt32 31).toBitVec % 32).toNat).getLsbD i = _
  rw [cb_su n hn, BitVec.getLsbD_ushiftRight]
/-- one bit taken out: its value -/
theorem cb_v (x : Int32) {l : Nat} (hl : l < 32) : (((x.toUInt32 >>> ((nI l).toUInt32 &&& Int32.toUInt32 31)).toInt32) &&& 1) = if cb_t x l = true then 1 else 0 := by
  apply cb_ext
  intro i hi
  rw [cb_and, cb_ushr l hl, cb_1]
  by_cases e : i = 0
  · subst e
    cases h : cb_t x l
    · rfl
    · rfl
  · rw [decide_eq_false e, Bool.and_false]
    cases h : cb_t x l
    · exact (cb_0 i).symm
    · show false = cb_t 1 i
      rw [cb_1, decide_eq_false e]
theorem cb_z (x : Int32) {l : Nat} (hl : l < 32) : (((x.toUInt32 >>> ((nI l).toUInt32 &&& Int32.toUInt32 31)).toInt32) &&& 1) = 0 ↔ cb_t x l = false := by
  rw [cb_v x hl]
  cases cb_t x l
  · exact ⟨fun _ => rfl, fun _ => rfl⟩
  · exact ⟨fun z => absurd z (by decide), fun z => absurd z (by decide)⟩
/-- the same, over any name of the shift count and of the place -/
theorem cb_zz {A B : Prop} {x s : Int32} (l : Nat) (f : cb_t x l = false → A) (g : cb_t x l = true → B) (hl : l < 32) (hs : s = nI l := by rfl) :
    ((((x.toUInt32 >>> (s.toUInt32 &&& Int32.toUInt32 31)).toInt32) &&& 1) = 0 → A) ∧ (¬ (((x.toUInt32 >>> (s.toUInt32 &&& Int32.toUInt32 31)).toInt32) &&& 1) = 0 → B) := by
  subst hs
  rw [cb_z x hl]
  exact ⟨f, fun z => g (by cases h : cb_t x l; exact absurd h z; rfl)⟩
theorem cb_s1 {w : Nat} (hw : w < 32) (y : Nat) : cb_t ((1 : Int32) <<< (nI w &&& 31)) y = decide (y = w) := by
  rcases Nat.lt_or_ge y 32 with h | h
  · rw [cb_shl w hw 1 h, cb_1]
    by_cases e : y = w
    · subst e
      rw [decide_eq_true (Nat.le_refl y), decide_eq_true (Nat.sub_self y), decide_eq_true rfl]; rfl
    · rw [decide_eq_false e]
      rcases Nat.lt_or_ge y w with z | z
      · rw [decide_eq_false (by omega : ¬ w ≤ y)]; rfl
      · rw [decide_eq_false (by omega : ¬ y - w = 0), Bool.and_false]
  · rw [cb_big h, decide_eq_false (by omega)]
theorem cb_sub {a b : Int32} (h : (b &&& (a ^^^ (-1))) = 0) (y : Nat) (hb : cb_t b y = true) : cb_t a y = true := by
  rcases Nat.lt_or_ge y 32 with z | z
  · have e : cb_t (b &&& (a ^^^ (-1))) y = false := by rw [h]; exact cb_0 y
    rw [cb_and, cb_xor, cb_m1 y z, hb] at e
    cases h2 : cb_t a y
    · rw [h2] at e; exact absurd e (by decide)
    · rfl
  · rw [cb_big z] at hb
    exact absurd hb (by decide)
/-- a truth as an int -/
noncomputable def cc_iv (p : Prop) : Int32 := @ite Int32 p (Classical.propDecidable p) 1 0
theorem cc_iv_t {p : Prop} (h : p) : cc_iv p = 1 := @if_pos p (Classical.propDecidable p) h Int32 1 0
theorem cc_iv_f {p : Prop} (h : ¬ p) : cc_iv p = 0 := @if_neg p (Classical.propDecidable p) h Int32 1 0
theorem cc_iv_or (p : Prop) : (p ∧ cc_iv p = 1) ∨ (¬ p ∧ cc_iv p = 0) := by
  by_cases h : p
  · exact Or.inl ⟨h, cc_iv_t h⟩
  · exact Or.inr ⟨h, cc_iv_f h⟩
theorem cc_iv_e {p q : Prop} (h : p ↔ q) : cc_iv p = cc_iv q := by rw [propext h]
end
section
/-! ===== the pure picture: matrices of truths, folds, what each question means ===== -/
abbrev cc_M : Type := Nat → Nat → Bool
def cc_fo {α : Type} (f : Nat → α → α) : Nat → α → α
  | 0, x => x
  | n + 1, x => f n (cc_fo f n x)
def cc_le (M M' : cc_M) : Prop := ∀ x y, M x y = true → M' x y = true
def cc_mat (E : Nat → Int32) : cc_M := fun x y => cb_t (E x) y
/-- one place of close -/
def cc_cst (W : Nat → Bool) (a b : Nat) (M : cc_M) : cc_M := fun x y => M x y || (decide (x = a) && (W a && (M a b && M b y)))
def cc_cl (n : Nat) (W : Nat → Bool) (M : cc_M) : cc_M := cc_fo (fun a N => cc_fo (fun b P => cc_cst W a b P) n N) n M
/-- w is a write to r's cell -/
def cc_wc (ce wr : Nat → Int32) (r w : Nat) : Bool := !decide (wr w = 0) && decide (ce w = ce r)
def cc_sn (so : Nat → Int32) (r : Nat) : Nat := (so r).toNatClampNeg
/-- one place of pushBefore -/
def cc_pst (ce wr : Nat → Int32) (W : Nat → Bool) (r s w : Nat) (M : cc_M) : cc_M := fun x y => M x y || (decide (x = s) && (decide (y = w) && (!decide (w = s) && (cc_wc ce wr r w && (W w && M r w)))))
def cc_pu (n : Nat) (ce wr : Nat → Int32) (W : Nat → Bool) (r s : Nat) (M : cc_M) : cc_M := cc_fo (fun w N => cc_pst ce wr W r s w N) n M
/-- counts -/
def cc_ct (us wr : Nat → Int32) (W : Nat → Bool) (o r : Nat) : Bool := W r && (decide (wr r = 0) && decide (us r = us o))
def cc_go (us wr so : Nat → Int32) (W : Nat → Bool) (o r : Nat) : Bool := cc_ct us wr W o r && !decide (so r < 0)
def cc_rd1 (n : Nat) (us ce wr so : Nat → Int32) (W : Nat → Bool) (o r : Nat) (M : cc_M) : cc_M := if cc_go us wr so W o r = true then cc_pu n ce wr W r (cc_sn so r) M else M
def cc_rd (n : Nat) (us ce wr so : Nat → Int32) (W : Nat → Bool) (o : Nat) (M : cc_M) : cc_M := cc_cl n W (cc_fo (fun r N => cc_rd1 n us ce wr so W o r N) n M)
def cc_past (E : Nat → Int32) (o : Nat) : Nat → Bool := fun y => cb_t (E o) y || decide (y = o)
def cc_sM (n : Nat) (us ce wr so E : Nat → Int32) (o : Nat) : cc_M := cc_fo (fun _ N => cc_rd n us ce wr so (cc_past E o) o N) 60 (cc_mat E)
def cc_late (n : Nat) (us ce wr so : Nat → Int32) (W : Nat → Bool) (o : Nat) (M : cc_M) : Prop := ∃ r w, r < n ∧ w < n ∧ cc_ct us wr W o r = true ∧ so r < 0 ∧ cc_wc ce wr r w = true ∧ M r w = true
def cc_noring (n : Nat) (M : cc_M) : Prop := ∀ a, a < n → M a a = false
def cc_strong (n : Nat) (us ce wr so E : Nat → Int32) (o : Nat) : Prop := cc_noring n (cc_sM n us ce wr so E o) ∧ ¬ cc_late n us ce wr so (cc_past E o) o (cc_sM n us ce wr so E o)
def cc_weak (n : Nat) (ce wr so E : Nat → Int32) (r : Nat) : Prop := ¬ wr r = 0 ∨ ∀ w, w < n → ¬ (cc_wc ce wr r w = true ∧ cb_t (E r) w = true ∧ (so r < 0 ∨ cb_t (E w) (cc_sn so r) = true))
def cc_seen (ce wr E : Nat → Int32) (r w : Nat) : Bool := decide (wr r = 0) && (cc_wc ce wr r w && cb_t (E r) w)
def cc_bad (n : Nat) (ce wr so E : Nat → Int32) : Prop := ∃ r w, r < n ∧ w < n ∧ cc_seen ce wr E r w = true ∧ so r < 0
def cc_vst (ce wr so E : Nat → Int32) (r w : Nat) (M : cc_M) : cc_M := fun x y => M x y || (decide (x = cc_sn so r) && (decide (y = w) && (cc_seen ce wr E r w && !decide (nI w = so r))))
def cc_v1 (n : Nat) (ce wr so E : Nat → Int32) (r : Nat) (M : cc_M) : cc_M := cc_fo (fun w N => cc_vst ce wr so E r w N) n M
def cc_v0 (n : Nat) (ce wr so E : Nat → Int32) : cc_M := cc_fo (fun r N => cc_v1 n ce wr so E r N) n (cc_mat E)
def cc_vM (n : Nat) (ce wr so E : Nat → Int32) : cc_M := cc_fo (fun _ N => cc_cl n (cb_t 255) N) 60 (cc_v0 n ce wr so E)
def cc_conv (n : Nat) (ce wr so E : Nat → Int32) : Prop := ¬ cc_bad n ce wr so E ∧ cc_noring n (cc_vM n ce wr so E)
/-- what the class keeps: an operation's past lies ahead of it, a read's source is in its past -/
def cc_inv (n : Nat) (wr so E : Nat → Int32) : Prop := ∀ i, i < n → (∀ y, cb_t (E i) y = true → y < i) ∧ (wr i = 0 → so i < 0 ∨ ∃ s, s < i ∧ so i = nI s ∧ cb_t (E i) s = true)
/-- the same below n -/
def cc_K (n : Nat) (us ce wr so E us' ce' wr' so' E' : Nat → Int32) : Prop := ∀ i, i < n → us' i = us i ∧ ce' i = ce i ∧ wr' i = wr i ∧ so' i = so i ∧ E' i = E i
/-! folds -/
theorem cc_fo_inv {α : Type} {f : Nat → α → α} {P : α → Prop} (n : Nat) (x : α) (h : P x) (hs : ∀ i x, i < n → P x → P (f i x)) : P (cc_fo f n x) := by
  induction n with
  | zero => exact h
  | succ n ih => exact hs n _ (by omega) (ih (fun i x hi => hs i x (by omega)))
theorem cc_fo_rel {α β : Type} {f : Nat → α → α} {g : Nat → β → β} {Q : α → β → Prop} (n : Nat) (x : α) (y : β) (h : Q x y) (hs : ∀ i x y, i < n → Q x y → Q (f i x) (g i y)) : Q (cc_fo f n x) (cc_fo g n y) := by
  induction n with
  | zero => exact h
  | succ n ih => exact hs n _ _ (by omega) (ih (fun i x y hi => hs i x y (by omega)))
theorem cc_fo_hit {α : Type} {f : Nat → α → α} {Q P : α → Prop} {n i : Nat} (hi : i < n) (x : α) (h : Q x) (hq : ∀ j x, j < n → Q x → Q (f j x)) (hp : ∀ j x, j < n → P x → P (f j x)) (hh : ∀ x, Q x → P (f i x)) : P (cc_fo f n x) := by
  induction n with
  | zero => omega
  | succ n ih =>
    rcases Nat.lt_or_ge i n with z | z
    · exact hp n _ (by omega) (ih z (fun j x hj => hq j x (by omega)) (fun j x hj => hp j x (by omega)))
    · have e : i = n := by omega
      subst e
      exact hh _ (cc_fo_inv i x h (fun j x hj => hq j x (by omega)))
/-- a fold of one step over and over: once it stands still it stands -/
theorem cc_fo_fix {α : Type} {g : α → α} {k : Nat} (x : α) (h : cc_fo (fun _ y => g y) (k + 1) x = cc_fo (fun _ y => g y) k x) : ∀ m, k ≤ m → cc_fo (fun _ y => g y) m x = cc_fo (fun _ y => g y) k x := by
  intro m
  induction m with
  | zero => intro hm; rw [show k = 0 by omega]
  | succ m ih =>
    intro hm
    rcases Nat.lt_or_ge m k with z | z
    · rw [show k = m + 1 by omega]
    · show g (cc_fo (fun _ y => g y) m x) = _
      rw [ih z]
      exact h
/-! growing -/
theorem cc_le_refl (M : cc_M) : cc_le M M := fun _ _ h => h
theorem cc_le_tr {A B C : cc_M} (h : cc_le A B) (h' : cc_le B C) : cc_le A C := fun x y z => h' x y (h x y z)
theorem cc_le_fo {f : Nat → cc_M → cc_M} (hf : ∀ i M, cc_le M (f i M)) (n : Nat) (M : cc_M) : cc_le M (cc_fo f n M) :=
  cc_fo_inv (P := fun N => cc_le M N) n M (cc_le_refl M) (fun i N _ h => cc_le_tr h (hf i N))
theorem cc_cst_le (W : Nat → Bool) (a b : Nat) (M : cc_M) : cc_le M (cc_cst W a b M) := fun x y h => by unfold cc_cst; rw [h]; rfl
theorem cc_cl1_le (n : Nat) (W : Nat → Bool) (a : Nat) (M : cc_M) : cc_le M (cc_fo (fun b P => cc_cst W a b P) n M) := cc_le_fo (fun b N => cc_cst_le W a b N) n M
theorem cc_cl_le (n : Nat) (W : Nat → Bool) (M : cc_M) : cc_le M (cc_cl n W M) := cc_le_fo (fun a N => cc_cl1_le n W a N) n M
theorem cc_pst_le (ce wr : Nat → Int32) (W : Nat → Bool) (r s w : Nat) (M : cc_M) : cc_le M (cc_pst ce wr W r s w M) := fun x y h => by unfold cc_pst; rw [h]; rfl
theorem cc_pu_le (n : Nat) (ce wr : Nat → Int32) (W : Nat → Bool) (r s : Nat) (M : cc_M) : cc_le M (cc_pu n ce wr W r s M) := cc_le_fo (fun w N => cc_pst_le ce wr W r s w N) n M
theorem cc_rd1_le (n : Nat) (us ce wr so : Nat → Int32) (W : Nat → Bool) (o r : Nat) (M : cc_M) : cc_le M (cc_rd1 n us ce wr so W o r M) := by
  unfold cc_rd1
  split
  · exact cc_pu_le n ce wr W r _ M
  · exact cc_le_refl M
theorem cc_rd_le (n : Nat) (us ce wr so : Nat → Int32) (W : Nat → Bool) (o : Nat) (M : cc_M) : cc_le M (cc_rd n us ce wr so W o M) :=
  cc_le_tr (cc_le_fo (fun r N => cc_rd1_le n us ce wr so W o r N) n M) (cc_cl_le n W _)
theorem cc_vst_le (ce wr so E : Nat → Int32) (r w : Nat) (M : cc_M) : cc_le M (cc_vst ce wr so E r w M) := fun x y h => by unfold cc_vst; rw [h]; rfl
theorem cc_v1_le (n : Nat) (ce wr so E : Nat → Int32) (r : Nat) (M : cc_M) : cc_le M (cc_v1 n ce wr so E r M) := cc_le_fo (fun w N => cc_vst_le ce wr so E r w N) n M
/-! what a step reaches -/
theorem cc_cl_hit {n : Nat} {W : Nat → Bool} {M : cc_M} {a b y : Nat} (ha : a < n) (hb : b < n) (hW : W a = true) (h1 : M a b = true) (h2 : M b y = true) : cc_cl n W M a y = true := by
  unfold cc_cl
  refine cc_fo_hit (i := a) (Q := fun N => N a b = true ∧ N b y = true) (P := fun N => N a y = true) ha M ⟨h1, h2⟩ (fun j N _ h => ⟨cc_cl1_le n W j N _ _ h.1, cc_cl1_le n W j N _ _ h.2⟩) (fun j N _ h => cc_cl1_le n W j N _ _ h) (fun N hN => ?_)
  refine cc_fo_hit (i := b) (Q := fun N => N a b = true ∧ N b y = true) (P := fun N => N a y = true) hb N hN (fun j N _ h => ⟨cc_cst_le W a j N _ _ h.1, cc_cst_le W a j N _ _ h.2⟩) (fun j N _ h => cc_cst_le W a j N _ _ h) (fun N hN => ?_)
  unfold cc_cst
  rw [hW, hN.1, hN.2, decide_eq_true rfl]
  simp
theorem cc_pu_hit {n : Nat} {ce wr : Nat → Int32} {W : Nat → Bool} {r s w : Nat} {M : cc_M} (hw : w < n) (hs : w ≠ s) (hc : cc_wc ce wr r w = true) (hW : W w = true) (h : M r w = true) : cc_pu n ce wr W r s M s w = true := by
  unfold cc_pu
  refine cc_fo_hit (i := w) (Q := fun N => N r w = true) (P := fun N => N s w = true) hw M h (fun j N _ h => cc_pst_le ce wr W r s j N _ _ h) (fun j N _ h => cc_pst_le ce wr W r s j N _ _ h) (fun N hN => ?_)
  unfold cc_pst
  rw [hc, hW, hN, decide_eq_true (rfl : s = s), decide_eq_true (rfl : w = w), decide_eq_false hs]
  simp
theorem cc_v0_hit {n : Nat} {ce wr so E : Nat → Int32} {r w s : Nat} (hr : r < n) (hw : w < n) (hs : so r = nI s) (hsn : cc_sn so r = s) (hws : ¬ nI w = so r) (hc : cc_seen ce wr E r w = true) : cc_v0 n ce wr so E s w = true := by
  unfold cc_v0
  refine cc_fo_hit (i := r) (Q := fun _ => True) (P := fun N => N s w = true) hr _ trivial (fun _ _ _ _ => trivial) (fun j N _ h => cc_v1_le n ce wr so E j N _ _ h) (fun N _ => ?_)
  unfold cc_v1
  refine cc_fo_hit (i := w) (Q := fun _ => True) (P := fun N => N s w = true) hw _ trivial (fun _ _ _ _ => trivial) (fun j N _ h => cc_vst_le ce wr so E r j N _ _ h) (fun N _ => ?_)
  unfold cc_vst
  rw [hc, hsn, decide_eq_true (rfl : s = s), decide_eq_true (rfl : w = w), decide_eq_false hws]
  simp
/-! A: what is strong is weak -/
theorem cc_A {n : Nat} {us ce wr so E : Nat → Int32} (hn : n ≤ 8) (hi : cc_inv n wr so E) {r : Nat} (hr : r < n) (hs : cc_strong n us ce wr so E r) : cc_weak n ce wr so E r := by
  by_cases hw : wr r = 0
  rotate_left
  · exact Or.inl hw
  refine Or.inr (fun w hw' hc => ?_)
  obtain ⟨h1, h2, h3⟩ := hc
  have hle : cc_le (cc_mat E) (cc_sM n us ce wr so E r) := cc_le_fo (fun _ N => cc_rd_le n us ce wr so _ r N) 60 _
  have hP : cc_past E r r = true := by unfold cc_past; rw [decide_eq_true rfl, Bool.or_true]
  have hct : cc_ct us wr (cc_past E r) r r = true := by unfold cc_ct; rw [hP, decide_eq_true hw, decide_eq_true rfl]; rfl
  rcases (hi r hr).2 hw with hneg | ⟨s, hs1, hs2, hs3⟩
  · exact hs.2 ⟨r, w, hr, hw', hct, hneg, h1, hle r w h2⟩
  · have hnn : ¬ so r < 0 := by rw [hs2]; exact nI_pos (by omega)
    have hsn : cc_sn so r = s := by unfold cc_sn; rw [hs2]; exact nI_clamp (by omega)
    have h3' : cb_t (E w) s = true := by
      rcases h3 with z | z
      · exact absurd z hnn
      · rw [hsn] at z; exact z
    have hws : w ≠ s := fun e => by
      have := (hi w hw').1 s h3'
      omega
    have hgo : cc_go us wr so (cc_past E r) r r = true := by unfold cc_go; rw [hct, decide_eq_false hnn]; rfl
    have key : cc_sM n us ce wr so E r s s = true := by
      unfold cc_sM
      refine cc_fo_hit (i := 0) (n := 60) (Q := fun N => cc_le (cc_mat E) N) (P := fun N => N s s = true) (by omega) _ (cc_le_refl _) (fun j N _ h => cc_le_tr h (cc_rd_le n us ce wr so _ r N)) (fun j N _ h => cc_rd_le n us ce wr so _ r N _ _ h) (fun N hN => ?_)
      have hh : cc_fo (fun r' N => cc_rd1 n us ce wr so (cc_past E r) r r' N) n N s w = true := by
        refine cc_fo_hit (i := r) (Q := fun N => cc_le (cc_mat E) N) (P := fun N => N s w = true) hr N hN (fun j N _ h => cc_le_tr h (cc_rd1_le n us ce wr so _ r j N)) (fun j N _ h => cc_rd1_le n us ce wr so _ r j N _ _ h) (fun N hN => ?_)
        unfold cc_rd1
        rw [if_pos hgo, hsn]
        exact cc_pu_hit hw' hws h1 (by unfold cc_past; rw [h2]; rfl) (hN r w h2)
      have hg : cc_le (cc_mat E) (cc_fo (fun r' N => cc_rd1 n us ce wr so (cc_past E r) r r' N) n N) := cc_le_tr hN (cc_le_fo (fun j N => cc_rd1_le n us ce wr so _ r j N) n N)
      exact cc_cl_hit (b := w) (by omega) hw' (by unfold cc_past; rw [hs3]; rfl) hh (hg w s h3')
    have := hs.1 s (by omega)
    rw [key] at this
    exact absurd this (by decide)
/-! B: what converges is weak -/
theorem cc_B {n : Nat} {ce wr so E : Nat → Int32} (hn : n ≤ 8) (hi : cc_inv n wr so E) (hs : cc_conv n ce wr so E) {r : Nat} (hr : r < n) : cc_weak n ce wr so E r := by
  by_cases hw : wr r = 0
  rotate_left
  · exact Or.inl hw
  refine Or.inr (fun w hw' hc => ?_)
  obtain ⟨h1, h2, h3⟩ := hc
  have hseen : cc_seen ce wr E r w = true := by unfold cc_seen; rw [decide_eq_true hw, h1, h2]; rfl
  rcases (hi r hr).2 hw with hneg | ⟨s, hs1, hs2, hs3⟩
  · exact hs.1 ⟨r, w, hr, hw', hseen, hneg⟩
  · have hnn : ¬ so r < 0 := by rw [hs2]; exact nI_pos (by omega)
    have hsn : cc_sn so r = s := by unfold cc_sn; rw [hs2]; exact nI_clamp (by omega)
    have h3' : cb_t (E w) s = true := by
      rcases h3 with z | z
      · exact absurd z hnn
      · rw [hsn] at z; exact z
    have hws : w ≠ s := fun e => by
      have := (hi w hw').1 s h3'
      omega
    have hwn : ¬ nI w = so r := by rw [hs2]; exact fun z => hws ((nI_eq (by omega) (by omega)).mp z)
    have h0 : cc_v0 n ce wr so E s w = true := cc_v0_hit hr hw' hs2 hsn hwn hseen
    have h0' : cc_v0 n ce wr so E w s = true := cc_le_fo (fun j N => cc_v1_le n ce wr so E j N) n (cc_mat E) w s h3'
    have key : cc_vM n ce wr so E s s = true := by
      unfold cc_vM
      refine cc_fo_hit (i := 0) (n := 60) (Q := fun N => N s w = true ∧ N w s = true) (P := fun N => N s s = true) (by omega) _ ⟨h0, h0'⟩ (fun j N _ h => ⟨cc_cl_le n _ N _ _ h.1, cc_cl_le n _ N _ _ h.2⟩) (fun j N _ h => cc_cl_le n _ N _ _ h) (fun N hN => ?_)
      exact cc_cl_hit (by omega) hw' (by rw [cb_255]; exact decide_eq_true (by omega)) hN.1 hN.2
    have := hs.2 s (by omega)
    rw [key] at this
    exact absurd this (by decide)
end
section
/-! ===== C: one operation more: what converges then converged before ===== -/
section
variable {n : Nat} {us ce wr so E us' ce' wr' so' E' : Nat → Int32}
theorem cc_K_wc (k : cc_K n us ce wr so E us' ce' wr' so' E') {r w : Nat} (hr : r < n) (hw : w < n) : cc_wc ce' wr' r w = cc_wc ce wr r w := by
  unfold cc_wc
  rw [(k w hw).2.2.1, (k w hw).2.1, (k r hr).2.1]
theorem cc_K_seen (k : cc_K n us ce wr so E us' ce' wr' so' E') {r w : Nat} (hr : r < n) (hw : w < n) : cc_seen ce' wr' E' r w = cc_seen ce wr E r w := by
  unfold cc_seen
  rw [cc_K_wc k hr hw, (k r hr).2.2.1, (k r hr).2.2.2.2]
theorem cc_K_sn (k : cc_K n us ce wr so E us' ce' wr' so' E') {r : Nat} (hr : r < n) : cc_sn so' r = cc_sn so r := by
  unfold cc_sn
  rw [(k r hr).2.2.2.1]
theorem cc_K_past (k : cc_K n us ce wr so E us' ce' wr' so' E') {o : Nat} (ho : o < n) : cc_past E' o = cc_past E o := by
  unfold cc_past
  rw [(k o ho).2.2.2.2]
theorem cc_K_ct (k : cc_K n us ce wr so E us' ce' wr' so' E') {W : Nat → Bool} {o r : Nat} (ho : o < n) (hr : r < n) : cc_ct us' wr' W o r = cc_ct us wr W o r := by
  unfold cc_ct
  rw [(k r hr).2.2.1, (k r hr).1, (k o ho).1]
theorem cc_K_go (k : cc_K n us ce wr so E us' ce' wr' so' E') {W : Nat → Bool} {o r : Nat} (ho : o < n) (hr : r < n) : cc_go us' wr' so' W o r = cc_go us wr so W o r := by
  unfold cc_go
  rw [cc_K_ct k ho hr, (k r hr).2.2.2.1]
theorem cc_K_refl : cc_K n us ce wr so E us ce wr so E := fun _ _ => ⟨rfl, rfl, rfl, rfl, rfl⟩
/-- less on the rows below n -/
def cc_dom (n : Nat) (M M' : cc_M) : Prop := ∀ x, x < n → ∀ y, M x y = true → M' x y = true
theorem cc_dom_le {M N N' : cc_M} (h : cc_dom n M N) (h' : cc_le N N') : cc_dom n M N' := fun x hx y z => h' x y (h x hx y z)
theorem cc_C_vst (k : cc_K n us ce wr so E us' ce' wr' so' E') {r w : Nat} (hr : r < n) (hw : w < n) {M M' : cc_M} (h : cc_dom n M M') : cc_dom n (cc_vst ce wr so E r w M) (cc_vst ce' wr' so' E' r w M') := by
  intro x hx y z
  unfold cc_vst at z ⊢
  rw [cc_K_seen k hr hw, cc_K_sn k hr, (k r hr).2.2.2.1]
  rcases Bool.or_eq_true_iff.mp z with z | z
  · rw [h x hx y z]; rfl
  · rw [z, Bool.or_true]
theorem cc_C_v1 (k : cc_K n us ce wr so E us' ce' wr' so' E') {r : Nat} (hr : r < n) {M M' : cc_M} (h : cc_dom n M M') : cc_dom n (cc_v1 n ce wr so E r M) (cc_v1 (n + 1) ce' wr' so' E' r M') :=
  cc_dom_le (cc_fo_rel (Q := cc_dom n) n M M' h (fun w _ _ hw hq => cc_C_vst k hr hw hq)) (cc_vst_le ce' wr' so' E' r n _)
theorem cc_C_v0 (k : cc_K n us ce wr so E us' ce' wr' so' E') : cc_dom n (cc_v0 n ce wr so E) (cc_v0 (n + 1) ce' wr' so' E') := by
  have h0 : cc_dom n (cc_mat E) (cc_mat E') := fun x hx y z => by
    unfold cc_mat at z ⊢
    rw [(k x hx).2.2.2.2]
    exact z
  exact cc_dom_le (cc_fo_rel (Q := cc_dom n) n (cc_mat E) (cc_mat E') h0 (fun r _ _ hr hq => cc_C_v1 k hr hq)) (cc_v1_le (n + 1) ce' wr' so' E' n _)
theorem cc_C_cst {W : Nat → Bool} {a b : Nat} (ha : a < n) (hb : b < n) {M M' : cc_M} (h : cc_dom n M M') : cc_dom n (cc_cst W a b M) (cc_cst W a b M') := by
  intro x hx y z
  unfold cc_cst at z ⊢
  rcases Bool.or_eq_true_iff.mp z with z | z
  · rw [h x hx y z]; rfl
  · simp only [Bool.and_eq_true] at z
    rw [z.1, z.2.1, h a ha b z.2.2.1, h b hb y z.2.2.2]
    simp
theorem cc_C_cl {W : Nat → Bool} {M M' : cc_M} (h : cc_dom n M M') : cc_dom n (cc_cl n W M) (cc_cl (n + 1) W M') :=
  cc_dom_le (cc_fo_rel (Q := cc_dom n) (g := fun a N => cc_fo (fun b P => cc_cst W a b P) (n + 1) N) n M M' h (fun a M M' ha hq => cc_dom_le (cc_fo_rel (Q := cc_dom n) n M M' hq (fun b _ _ hb hq => cc_C_cst ha hb hq)) (cc_cst_le W a n _))) (cc_cl1_le (n + 1) W n _)
theorem cc_C (k : cc_K n us ce wr so E us' ce' wr' so' E') (h : cc_conv (n + 1) ce' wr' so' E') : cc_conv n ce wr so E := by
  refine ⟨?_, ?_⟩
  · rintro ⟨r, w, hr, hw, h1, h2⟩
    exact h.1 ⟨r, w, by omega, by omega, by rw [cc_K_seen k hr hw]; exact h1, by rw [(k r hr).2.2.2.1]; exact h2⟩
  · intro a ha
    have hd : cc_dom n (cc_vM n ce wr so E) (cc_vM (n + 1) ce' wr' so' E') := cc_fo_rel (Q := cc_dom n) 60 _ _ (cc_C_v0 k) (fun _ _ _ _ hq => cc_C_cl hq)
    have hf := h.2 a (by omega)
    cases z : cc_vM n ce wr so E a a
    · rfl
    · rw [hd a ha a z] at hf
      exact absurd hf (by decide)
/-! ===== D: one operation more: what is held keeps its answers ===== -/
theorem cc_D1 (k : cc_K n us ce wr so E us' ce' wr' so' E') (hi : cc_inv n wr so E) {o : Nat} (ho : o < n) : cc_weak (n + 1) ce' wr' so' E' o ↔ cc_weak n ce wr so E o := by
  have e : ∀ w, w < n → ((cc_wc ce' wr' o w = true ∧ cb_t (E' o) w = true ∧ (so' o < 0 ∨ cb_t (E' w) (cc_sn so' o) = true)) ↔ (cc_wc ce wr o w = true ∧ cb_t (E o) w = true ∧ (so o < 0 ∨ cb_t (E w) (cc_sn so o) = true))) := by
    intro w hw
    rw [cc_K_wc k ho hw, cc_K_sn k ho, (k o ho).2.2.2.2, (k o ho).2.2.2.1, (k w hw).2.2.2.2]
  unfold cc_weak
  rw [(k o ho).2.2.1]
  constructor
  · rintro (h | h)
    · exact Or.inl h
    · exact Or.inr (fun w hw c => h w (by omega) ((e w hw).mpr c))
  · rintro (h | h)
    · exact Or.inl h
    · refine Or.inr (fun w hw c => ?_)
      rcases Nat.lt_or_ge w n with z | z
      · exact h w z ((e w z).mp c)
      · have hb := c.2.1
        rw [(k o ho).2.2.2.2] at hb
        have := (hi o ho).1 w hb
        omega
/-- the two matrices: the same below n, nothing names n -/
def cc_Q (n : Nat) (M M' : cc_M) : Prop := (∀ x, x < n → ∀ y, M' x y = M x y) ∧ (∀ x, x < n → M x n = false) ∧ M' n n = false
theorem cc_D_pst (k : cc_K n us ce wr so E us' ce' wr' so' E') {W : Nat → Bool} {r s w : Nat} (hr : r < n) (hs : s < n) (hw : w < n) {M M' : cc_M} (h : cc_Q n M M') : cc_Q n (cc_pst ce wr W r s w M) (cc_pst ce' wr' W r s w M') := by
  refine ⟨fun x hx y => ?_, fun x hx => ?_, ?_⟩
  · unfold cc_pst
    rw [cc_K_wc k hr hw, h.1 x hx y, h.1 r hr w]
  · unfold cc_pst
    rw [h.2.1 x hx, decide_eq_false (by omega : ¬ n = w)]
    simp
  · unfold cc_pst
    rw [h.2.2, decide_eq_false (by omega : ¬ n = w)]
    simp
theorem cc_pst_out {ce wr : Nat → Int32} {W : Nat → Bool} {r s w : Nat} (hW : W w = false) (M : cc_M) : cc_pst ce wr W r s w M = M := by
  funext x y
  unfold cc_pst
  rw [hW]
  simp
theorem cc_D_pu (k : cc_K n us ce wr so E us' ce' wr' so' E') {W : Nat → Bool} (hW : W n = false) {r s : Nat} (hr : r < n) (hs : s < n) {M M' : cc_M} (h : cc_Q n M M') : cc_Q n (cc_pu n ce wr W r s M) (cc_pu (n + 1) ce' wr' W r s M') := by
  have e : cc_pu (n + 1) ce' wr' W r s M' = cc_pu n ce' wr' W r s M' := cc_pst_out hW _
  rw [e]
  exact cc_fo_rel (Q := cc_Q n) n M M' h (fun w _ _ hw hq => cc_D_pst k hr hs hw hq)
theorem cc_D_rd1 (k : cc_K n us ce wr so E us' ce' wr' so' E') (hi : cc_inv n wr so E) (hn : n ≤ 8) {W : Nat → Bool} (hW : W n = false) {o r : Nat} (ho : o < n) (hr : r < n) {M M' : cc_M} (h : cc_Q n M M') : cc_Q n (cc_rd1 n us ce wr so W o r M) (cc_rd1 (n + 1) us' ce' wr' so' W o r M') := by
  unfold cc_rd1
  rw [cc_K_go k ho hr, cc_K_sn k hr]
  by_cases g : cc_go us wr so W o r = true
  · rw [if_pos g, if_pos g]
    refine cc_D_pu k hW hr ?_ h
    unfold cc_go cc_ct at g
    simp only [Bool.and_eq_true, decide_eq_true_eq, Bool.not_eq_true', decide_eq_false_iff_not] at g
    rcases (hi r hr).2 g.1.2.1 with z | ⟨s, h1, h2, _⟩
    · exact absurd z g.2
    · unfold cc_sn
      rw [h2, nI_clamp (by omega)]
      omega
  · rw [if_neg g, if_neg g]
    exact h
theorem cc_rd1_out {n : Nat} {us ce wr so : Nat → Int32} {W : Nat → Bool} {o r : Nat} (hW : W r = false) (M : cc_M) : cc_rd1 n us ce wr so W o r M = M := by
  unfold cc_rd1 cc_go cc_ct
  rw [hW]
  simp
theorem cc_D_cst {W : Nat → Bool} {a b : Nat} (ha : a < n) (hb : b < n) {M M' : cc_M} (h : cc_Q n M M') : cc_Q n (cc_cst W a b M) (cc_cst W a b M') := by
  refine ⟨fun x hx y => ?_, fun x hx => ?_, ?_⟩
  · unfold cc_cst
    rw [h.1 x hx y, h.1 a ha b, h.1 b hb y]
  · unfold cc_cst
    rw [h.2.1 x hx, h.2.1 b hb]
    simp
  · unfold cc_cst
    rw [h.2.2, decide_eq_false (by omega : ¬ n = a)]
    simp
theorem cc_cst_out {W : Nat → Bool} {a b : Nat} (M : cc_M) (h : W a = false ∨ M a b = false) : cc_cst W a b M = M := by
  funext x y
  unfold cc_cst
  rcases h with h | h
  · rw [h]; simp
  · rw [h]; simp
theorem cc_D_cl {W : Nat → Bool} (hW : W n = false) {M M' : cc_M} (h : cc_Q n M M') : cc_Q n (cc_cl n W M) (cc_cl (n + 1) W M') := by
  have e0 : ∀ (m : Nat) (N : cc_M), cc_fo (fun b P => cc_cst W n b P) m N = N := by
    intro m
    induction m with
    | zero => intro N; rfl
    | succ m ih =>
      intro N
      show cc_cst W n m (cc_fo (fun b P => cc_cst W n b P) m N) = N
      rw [ih N]
      exact cc_cst_out N (Or.inl hW)
  have e : cc_cl (n + 1) W M' = cc_fo (fun a N => cc_fo (fun b P => cc_cst W a b P) (n + 1) N) n M' := e0 (n + 1) _
  rw [e]
  unfold cc_cl
  refine cc_fo_rel (Q := cc_Q n) n M M' h (fun a M M' ha hq => ?_)
  have q := cc_fo_rel (Q := cc_Q n) n M M' hq (fun b _ _ hb hq => cc_D_cst (W := W) ha hb hq)
  have e2 : cc_fo (fun b P => cc_cst W a b P) (n + 1) M' = cc_fo (fun b P => cc_cst W a b P) n M' := cc_cst_out _ (Or.inr (by rw [q.1 a ha n]; exact q.2.1 a ha))
  rw [e2]
  exact q
theorem cc_D_rd (k : cc_K n us ce wr so E us' ce' wr' so' E') (hi : cc_inv n wr so E) (hn : n ≤ 8) {W : Nat → Bool} (hW : W n = false) {o : Nat} (ho : o < n) {M M' : cc_M} (h : cc_Q n M M') : cc_Q n (cc_rd n us ce wr so W o M) (cc_rd (n + 1) us' ce' wr' so' W o M') := by
  unfold cc_rd
  refine cc_D_cl hW ?_
  have e : cc_fo (fun r N => cc_rd1 (n + 1) us' ce' wr' so' W o r N) (n + 1) M' = cc_fo (fun r N => cc_rd1 (n + 1) us' ce' wr' so' W o r N) n M' := cc_rd1_out hW _
  rw [e]
  exact cc_fo_rel (Q := cc_Q n) n M M' h (fun r _ _ hr hq => cc_D_rd1 k hi hn hW ho hr hq)
theorem cc_D2 (k : cc_K n us ce wr so E us' ce' wr' so' E') (hi : cc_inv n wr so E) (hi' : ∀ y, cb_t (E' n) y = true → y < n) (hn : n ≤ 8) {o : Nat} (ho : o < n) : cc_strong (n + 1) us' ce' wr' so' E' o ↔ cc_strong n us ce wr so E o := by
  have nof : ∀ {b : Bool}, (b = true → False) → b = false := fun {b} h => by
    cases b
    · rfl
    · exact (h rfl).elim
  have hW : cc_past E o n = false := by
    refine nof (fun z => ?_)
    unfold cc_past at z
    rcases Bool.or_eq_true_iff.mp z with z | z
    · have := (hi o ho).1 n z
      omega
    · have := of_decide_eq_true z
      omega
  have q0 : cc_Q n (cc_mat E) (cc_mat E') := by
    refine ⟨fun x hx y => ?_, fun x hx => nof (fun z => ?_), nof (fun z => ?_)⟩
    · unfold cc_mat
      rw [(k x hx).2.2.2.2]
    · have := (hi x hx).1 n z
      omega
    · have := hi' n z
      omega
  have q : cc_Q n (cc_sM n us ce wr so E o) (cc_sM (n + 1) us' ce' wr' so' E' o) := by
    unfold cc_sM
    rw [cc_K_past k ho]
    exact cc_fo_rel (Q := cc_Q n) 60 _ _ q0 (fun _ _ _ _ hq => cc_D_rd k hi hn hW ho hq)
  unfold cc_strong
  rw [cc_K_past k ho]
  refine and_congr ⟨fun h a ha => ?_, fun h a ha => ?_⟩ (not_congr ⟨?_, ?_⟩)
  · rw [← q.1 a ha a]
    exact h a (by omega)
  · rcases Nat.lt_or_ge a n with z | z
    · rw [q.1 a z a]
      exact h a z
    · rw [show a = n by omega]
      exact q.2.2
  · rintro ⟨r, w, hr, hw, h1, h2, h3, h4⟩
    have hrn : r < n := by
      rcases Nat.lt_or_ge r n with z | z
      · exact z
      · rw [show r = n by omega] at h1
        unfold cc_ct at h1
        rw [hW] at h1
        exact absurd h1 (by simp)
    have hwn : w < n := by
      rcases Nat.lt_or_ge w n with z | z
      · exact z
      · rw [show w = n by omega, q.1 r hrn n, q.2.1 r hrn] at h4
        exact absurd h4 (by decide)
    rw [cc_K_ct k ho hrn] at h1
    rw [(k r hrn).2.2.2.1] at h2
    rw [cc_K_wc k hrn hwn] at h3
    rw [q.1 r hrn w] at h4
    exact ⟨r, w, hrn, hwn, h1, h2, h3, h4⟩
  · rintro ⟨r, w, hr, hw, h1, h2, h3, h4⟩
    rw [← cc_K_ct k ho hr] at h1
    rw [← (k r hr).2.2.2.1] at h2
    rw [← cc_K_wc k hr hw] at h3
    rw [← q.1 r hr w] at h4
    exact ⟨r, w, by omega, by omega, h1, h2, h3, h4⟩
end
end
section
/-! ===== walks: hasRing, close, pushBefore, comesTooLate ===== -/
/-- the array holds the matrix, on the rows below n -/
def cc_R (n : Nat) (M : cc_M) (A : Nat → Int32) : Prop := ∀ x, x < n → ∀ y, cb_t (A x) y = M x y
/-- a flag that is 0 only if nothing has changed -/
def cc_F (f : Int32) (M M' : cc_M) : Prop := (f = 0 ∧ M' = M) ∨ f = 1
theorem cc_fill {f s : Nat → Int32} {i k : Nat} {x : Int32} (hk : k = i) (h : ∀ j, j < i → s j = f j) (hx : x = f i) : ∀ j, j < i + 1 → upd s k x j = f j := by
  intro j hj
  rw [hk]
  by_cases e : j = i
  · rw [e, pk_us, hx]
  · rw [pk_un e]
    exact h j (by omega)
theorem cc_bool {f : Int32} {M M' : cc_M} (h : cc_F f M M') : narrow .boolean (.int f) = .int f := by
  rcases h with ⟨h, _⟩ | h
  · rw [h]; rfl
  · rw [h]; rfl
theorem cc_F_or {M0 N N' : cc_M} {x r : Int32} {A B C : Prop} (hF : cc_F x M0 N) (hr : cc_F r N N') (h0 : N' = M0 → A) (h1 : B) (h2 : C) : (r = 0 → ((x = 0 → A) ∧ (¬ x = 0 → B))) ∧ (¬ r = 0 → C) := by
  refine ⟨fun e => ⟨fun e' => h0 ?_, fun _ => h1⟩, fun _ => h2⟩
  rcases hr with ⟨_, q⟩ | q
  · rcases hF with ⟨_, p⟩ | p
    · rw [q, p]
    · rw [e'] at p; exact absurd p (by decide)
  · rw [e] at q; exact absurd q (by decide)
theorem cc_w_ring {post : Int32 → Prop} {n : Nat} {a1 a2 a3 a4 a5 a6 : Nat → Int32} {M : cc_M} (hn : n ≤ 8) (hM : cc_R n M a6) (h1 : ¬ cc_noring n M → post 1) (h0 : cc_noring n M → post 0) : wpX_hasRing post (nI n, a1, a2, a3, a4, a5, a6) := by
  refine pk_loop (σ := Unit) (fun m i _ => wX_hasRing_2 post (nI n) a1 a2 a3 a4 a5 a6 m (nI i)) (fun i _ => ∀ a, a < i → M a a = false) n 0 () (by omega) (fun a ha => absurd ha (by omega)) (fun m _ h => pk_le n n (fun _ => h0 h) (fun z => absurd z (by omega))) (fun m i _ hi h hw => pk_le n i (fun z => absurd z (by omega)) (fun _ => ⟨pk_in i 8 (by omega), ?_⟩))
  rw [nI_clamp (show i < 2 ^ 31 by omega)]
  refine cb_zz i (fun z => nm_r (nI_1 i) (hw () (lt_s h ?_))) (fun z => h1 (fun g => ?_)) (by omega)
  · rw [← hM i hi i]; exact z
  · have g' := g i hi
    rw [← hM i hi i, z] at g'
    exact absurd g' (by decide)
theorem cc_cst_id {W : Nat → Bool} {a b : Nat} {M : cc_M} (h : ∀ y, M b y = true → M a y = true) : cc_cst W a b M = M := by
  funext x y
  unfold cc_cst
  by_cases e : x = a
  · subst e
    cases z : M b y
    · simp
    · rw [h y z]; rfl
  · rw [decide_eq_false e]; simp
theorem cc_R_cst {n a b : Nat} {W : Nat → Bool} {N : cc_M} {A : Nat → Int32} (h : cc_R n N A) (ha : a < n) (hb : b < n) (hW : W a = true) (hN : N a b = true) : cc_R n (cc_cst W a b N) (upd A a (A a ||| A b)) := by
  intro x hx y
  unfold cc_cst
  by_cases e : x = a
  · subst e
    rw [pk_us, cb_or, h x hx, h b hb, hW, hN, decide_eq_true rfl]
    simp
  · rw [pk_un e, h x hx, decide_eq_false e]
    simp
theorem cc_w_cl1 {post : Int32 → St1 → Prop} {J4 : Int32 → Int32 → (Nat → Int32) → (Nat → Int32) → (Nat → Int32) → (Nat → Int32) → (Nat → Int32) → (Nat → Int32) → Prop} {n a : Nat} {x1 x2 : Int32} {W : Nat → Bool} {a1 a2 a3 a4 a5 a6 : Nat → Int32} {M0 M : cc_M} (hn : n ≤ 8) (ha : a < n) (hW : ∀ y, y < 8 → cb_t x1 y = W y) (hM : cc_R n M a6) (hF : cc_F x2 M0 M)
    (hJ : ∀ f A, cc_R n (cc_fo (fun b P => cc_cst W a b P) n M) A → cc_F f M0 (cc_fo (fun b P => cc_cst W a b P) n M) → J4 f (nI (a + 1)) a1 a2 a3 a4 a5 A) :
    ∃ fu, wX_close_15 post J4 x1 (nI a) (nI n) fu x2 0 a1 a2 a3 a4 a5 a6 := by
  refine pk_loop (σ := Int32 × (Nat → Int32)) (fun m i s => wX_close_15 post J4 x1 (nI a) (nI n) m s.1 (nI i) a1 a2 a3 a4 a5 s.2) (fun i s => cc_R n (cc_fo (fun b P => cc_cst W a b P) i M) s.2 ∧ cc_F s.1 M0 (cc_fo (fun b P => cc_cst W a b P) i M)) n 0 (x2, a6) (by omega) ⟨hM, hF⟩ (fun m s h => pk_le n n (fun _ => nm_r (nI_1 a) (hJ s.1 s.2 h.1 h.2)) (fun z => absurd z (by omega))) ?_
  intro m b s hb h hw
  obtain ⟨f, A⟩ := s
  have h1 : cc_R n (cc_fo (fun b P => cc_cst W a b P) b M) A := h.1
  have h2 : cc_F f M0 (cc_fo (fun b P => cc_cst W a b P) b M) := h.2
  have stay : cc_cst W a b (cc_fo (fun b P => cc_cst W a b P) b M) = cc_fo (fun b P => cc_cst W a b P) b M → cc_R n (cc_cst W a b (cc_fo (fun b P => cc_cst W a b P) b M)) A ∧ cc_F f M0 (cc_cst W a b (cc_fo (fun b P => cc_cst W a b P) b M)) := fun e => by rw [e]; exact ⟨h1, h2⟩
  refine pk_le n b (fun z => absurd z (by omega)) (fun _ => ?_)
  refine cb_zz a (fun z => nm_r (nI_1 b) (hw (f, A) (stay (cc_cst_out _ (Or.inl ?_))))) (fun z => ⟨pk_in a 8 (by omega), ?_⟩) (by omega)
  · rw [← hW a (by omega)]; exact z
  · have z' : W a = true := by rw [← hW a (by omega)]; exact z
    dsimp only
    rw [nI_clamp (show a < 2 ^ 31 by omega), nI_clamp (show b < 2 ^ 31 by omega)]
    refine cb_zz b (fun z2 => nm_r (nI_1 b) (hw (f, A) (stay (cc_cst_out _ (Or.inr ?_))))) (fun z2 => ⟨pk_in b 8 (by omega), pk_in a 8 (by omega), ?_⟩) (by omega)
    · rw [← h1 a ha b]; exact z2
    · refine br_c (fun z3 => nm_r (nI_1 b) (hw (f, A) (stay (cc_cst_id (fun y hy => ?_))))) (fun z3 => ⟨pk_in a 8 (by omega), pk_in b 8 (by omega), pk_in a 8 (by omega), nm_e (nm_r (nI_1 b) (hw (1, upd A a (A a ||| A b)) ⟨?_, Or.inr rfl⟩))⟩)
      · rw [← h1 b hb y] at hy
        rw [← h1 a ha y]
        exact cb_sub z3 y hy
      · exact cc_R_cst h1 ha hb z' (by rw [← h1 a ha b]; exact z2)
theorem cc_w_close {post : Int32 → St1 → Prop} {n : Nat} {x1 : Int32} {W : Nat → Bool} {a1 a2 a3 a4 a5 a6 : Nat → Int32} {M : cc_M} (hn : n ≤ 8) (hW : ∀ y, y < 8 → cb_t x1 y = W y) (hM : cc_R n M a6)
    (hp : ∀ f A, cc_R n (cc_cl n W M) A → cc_F f M (cc_cl n W M) → post f (nI n, a1, a2, a3, a4, a5, A)) :
    wpX_close post (nI n, a1, a2, a3, a4, a5, a6) x1 := by
  refine pk_loop (σ := Int32 × (Nat → Int32)) (fun m i s => wX_close_4 post x1 (nI n) m s.1 (nI i) a1 a2 a3 a4 a5 s.2) (fun i s => cc_R n (cc_fo (fun a N => cc_fo (fun b P => cc_cst W a b P) n N) i M) s.2 ∧ cc_F s.1 M (cc_fo (fun a N => cc_fo (fun b P => cc_cst W a b P) n N) i M)) n 0 (0, a6) (by omega) ⟨hM, Or.inl ⟨rfl, rfl⟩⟩ (fun m s h => pk_le n n (fun _ => ⟨cc_bool h.2, hp s.1 s.2 h.1 h.2⟩) (fun z => absurd z (by omega))) ?_
  intro m a s ha h hw
  obtain ⟨f, A⟩ := s
  exact pk_le n a (fun z => absurd z (by omega)) (fun _ => cc_w_cl1 hn ha hW h.1 h.2 (fun f' A' r q => hw (f', A') ⟨r, q⟩))
theorem cc_pst_no {ce wr : Nat → Int32} {W : Nat → Bool} {r s w : Nat} {M : cc_M} (h : w = s ∨ cc_wc ce wr r w = false ∨ W w = false ∨ M r w = false) : cc_pst ce wr W r s w M = M := by
  funext x y
  unfold cc_pst
  rcases h with h | h | h | h
  · rw [decide_eq_true h]; simp
  · rw [h]; simp
  · rw [h]; simp
  · rw [h]; simp
theorem cc_pu_row {n : Nat} {ce wr : Nat → Int32} {W : Nat → Bool} {r s : Nat} {M : cc_M} {x : Nat} (hx : x ≠ s) (y : Nat) : cc_pu n ce wr W r s M x y = M x y :=
  cc_fo_inv (P := fun N => N x y = M x y) n M rfl (fun w N _ h => by
    show cc_pst ce wr W r s w N x y = M x y
    unfold cc_pst
    rw [h, decide_eq_false hx]
    simp)
theorem cc_R_pst {n r s w : Nat} {ce wr : Nat → Int32} {W : Nat → Bool} {N : cc_M} {A : Nat → Int32} (h : cc_R n N A) (hr : r < n) (hs : s < n) (hw : w < 32) (hws : w ≠ s) (hc : cc_wc ce wr r w = true) (hW : W w = true) (hN : N r w = true) : cc_R n (cc_pst ce wr W r s w N) (upd A s (A s ||| ((1 : Int32) <<< (nI w &&& 31)))) := by
  intro x hx y
  unfold cc_pst
  by_cases e : x = s
  · subst e
    rw [pk_us, cb_or, h x hx y, cb_s1 hw, hN, hW, hc, decide_eq_true (rfl : x = x), decide_eq_false hws]
    simp
  · rw [pk_un e, h x hx y, decide_eq_false e]
    simp
theorem cc_w_push {post : Int32 → St1 → Prop} {n r s : Nat} {x2 : Int32} {W : Nat → Bool} {us ce wr so E a1 a2 a3 a4 a5 a6 : Nat → Int32} {M : cc_M} (hn : n ≤ 8) (hW : ∀ y, y < 8 → cb_t x2 y = W y) (hM : cc_R n M a6) (k : cc_K n us ce wr so E a1 a2 a3 a4 a5) (hr : r < n) (hs : s < n) (hso : so r = nI s)
    (hp : ∀ f A, cc_R n (cc_pu n ce wr W r s M) A → cc_F f M (cc_pu n ce wr W r s M) → post f (nI n, a1, a2, a3, a4, a5, A)) :
    wpX_pushBefore post (nI n, a1, a2, a3, a4, a5, a6) (nI r) x2 := by
  have er : (nI r).toNatClampNeg = r := nI_clamp (by omega)
  have es : (nI s).toNatClampNeg = s := nI_clamp (by omega)
  have e4 : a4 (nI r).toNatClampNeg = nI s := by rw [er, (k r hr).2.2.2.1, hso]
  refine ⟨pk_in r 8 (by omega), nm_r e4 ⟨pk_in s 8 (by omega), nm_r (by rw [es]) ?_⟩⟩
  refine pk_loop (σ := Nat → Int32) (fun m i A => wX_pushBefore_18 post (nI r) x2 (nI s) (a6 s) (nI n) m (nI i) a1 a2 a3 a4 a5 A) (fun i A => cc_R n (cc_fo (fun w N => cc_pst ce wr W r s w N) i M) A) n 0 a6 (by omega) hM ?_ ?_
  · intro m A h
    have hA : cc_R n (cc_pu n ce wr W r s M) A := h
    refine pk_le n n (fun _ => ⟨pk_in s 8 (by omega), ?_⟩) (fun z => absurd z (by omega))
    rw [es]
    refine br_c (fun z => hp 0 A hA (Or.inl ⟨rfl, ?_⟩)) (fun z => hp 1 A hA (Or.inr rfl))
    funext x y
    by_cases e : x = s
    · subst e
      rw [← hA x hs y, ← hM x hs y, z]
    · exact cc_pu_row e y
  · intro m w A hw' h hw
    have ew : (nI w).toNatClampNeg = w := nI_clamp (by omega)
    have stay : cc_pst ce wr W r s w (cc_fo (fun w N => cc_pst ce wr W r s w N) w M) = cc_fo (fun w N => cc_pst ce wr W r s w N) w M → cc_R n (cc_pst ce wr W r s w (cc_fo (fun w N => cc_pst ce wr W r s w N) w M)) A := fun e => by rw [e]; exact h
    have h72 : cc_pst ce wr W r s w (cc_fo (fun w N => cc_pst ce wr W r s w N) w M) = cc_fo (fun w N => cc_pst ce wr W r s w N) w M → wX_pushBefore_72 post (wX_pushBefore_18 post (nI r) x2 (nI s) (a6 s) (nI n) m) (nI r) x2 (nI s) (a6 s) (nI w) (nI n) a1 a2 a3 a4 a5 A := fun e => br_t rfl (nm_r (nI_1 w) (hw A (stay e)))
    refine pk_le n w (fun z => absurd z (by omega)) (fun _ => ?_)
    refine pk_eq w s (fun z => h72 (cc_pst_no (Or.inl z))) (fun z => ⟨pk_in w 8 (by omega), ?_⟩)
    rw [ew, (k w hw').2.2.1]
    refine br_c (fun c => h72 (cc_pst_no (Or.inr (Or.inl (by unfold cc_wc; rw [decide_eq_true c]; rfl))))) (fun c => ⟨pk_in w 8 (by omega), pk_in r 8 (by omega), ?_⟩)
    rw [er, (k w hw').2.1, (k r hr).2.1]
    refine br_c (fun c2 => ?_) (fun c2 => h72 (cc_pst_no (Or.inr (Or.inl (by unfold cc_wc; rw [decide_eq_false c2, Bool.and_false])))))
    refine cb_zz w (fun c3 => h72 (cc_pst_no (Or.inr (Or.inr (Or.inl (by rw [← hW w (by omega)]; exact c3)))))) (fun c3 => ?_) (by omega)
    have c3' : W w = true := by rw [← hW w (by omega)]; exact c3
    refine br_f (by decide) ⟨pk_in r 8 (by omega), ?_⟩
    rw [er]
    refine cb_zz w (fun c4 => nm_r (nI_1 w) (hw A (stay (cc_pst_no (Or.inr (Or.inr (Or.inr (by rw [← h r hr w]; exact c4)))))))) (fun c4 => ⟨pk_in s 8 (by omega), pk_in s 8 (by omega), nm_e (nm_r (nI_1 w) (hw _ ?_))⟩) (by omega)
    rw [es]
    exact cc_R_pst h hr hs (by omega) z (by unfold cc_wc; rw [decide_eq_false c, decide_eq_true c2]; rfl) c3' (by rw [← h r hr w]; exact c4)
theorem cc_w_late1 {post : Int32 → Prop} {J2 : Int32 → Prop} {n r : Nat} {x1 x2 x4 : Int32} {ct : Bool} {us ce wr so E a1 a2 a3 a4 a5 a6 : Nat → Int32} {M : cc_M} (hn : n ≤ 8) (hM : cc_R n M a6) (k : cc_K n us ce wr so E a1 a2 a3 a4 a5) (hr : r < n) (hx : (x4 = 0 ∧ ct = false) ∨ (x4 = 1 ∧ ct = true))
    (h1 : ∀ w, w < n → ct = true → cc_wc ce wr r w = true → M r w = true → post 1) (hJ : (∀ w, w < n → ¬ (ct = true ∧ cc_wc ce wr r w = true ∧ M r w = true)) → J2 (nI (r + 1))) :
    ∃ fu, wX_comesTooLate_61 post J2 x1 x2 (nI r) x4 (nI n) a1 a2 a3 a4 a5 a6 fu 0 := by
  have er : (nI r).toNatClampNeg = r := nI_clamp (by omega)
  refine pk_loop (σ := Unit) (fun m i _ => wX_comesTooLate_61 post J2 x1 x2 (nI r) x4 (nI n) a1 a2 a3 a4 a5 a6 m (nI i)) (fun i _ => ∀ w, w < i → ¬ (ct = true ∧ cc_wc ce wr r w = true ∧ M r w = true)) n 0 () (by omega) (fun a ha => absurd ha (by omega)) (fun m _ h => pk_le n n (fun _ => nm_r (nI_1 r) (hJ h)) (fun z => absurd z (by omega))) (fun m w _ hw' h hw => pk_le n w (fun z => absurd z (by omega)) (fun _ => ⟨pk_in w 8 (by omega), ?_⟩))
  have ew : (nI w).toNatClampNeg = w := nI_clamp (by omega)
  have go : ¬ (ct = true ∧ cc_wc ce wr r w = true ∧ M r w = true) → wX_comesTooLate_61 post J2 x1 x2 (nI r) x4 (nI n) a1 a2 a3 a4 a5 a6 m (nI (w + 1)) := fun g => hw () (lt_s h g)
  have h114 : ¬ (ct = true ∧ cc_wc ce wr r w = true ∧ M r w = true) → wX_comesTooLate_114 post J2 (wX_comesTooLate_61 post J2 x1 x2 (nI r) x4 (nI n) a1 a2 a3 a4 a5 a6 m) x1 x2 (nI r) x4 (nI w) (nI n) a1 a2 a3 a4 a5 a6 := fun g => br_c (fun _ => nm_r (nI_1 w) (go g)) (fun _ => br_t rfl (nm_r (nI_1 w) (go g)))
  rw [ew, (k w hw').2.2.1]
  refine br_c (fun c => h114 (fun g => ?_)) (fun c => ⟨pk_in w 8 (by omega), pk_in r 8 (by omega), ?_⟩)
  · have g' := g.2.1
    unfold cc_wc at g'
    rw [decide_eq_true c] at g'
    exact absurd g' (by simp)
  rw [er, (k w hw').2.1, (k r hr).2.1]
  refine br_c (fun c2 => ⟨pk_in r 8 (by omega), ?_⟩) (fun c2 => h114 (fun g => ?_))
  rotate_left
  · have g' := g.2.1
    unfold cc_wc at g'
    rw [decide_eq_false c2] at g'
    exact absurd g' (by simp)
  refine cb_zz w (fun c3 => h114 (fun g => ?_)) (fun c3 => ?_) (by omega)
  · have g' := g.2.2
    rw [← hM r hr w, c3] at g'
    exact absurd g' (by decide)
  have c12 : cc_wc ce wr r w = true := by unfold cc_wc; rw [decide_eq_false c, decide_eq_true c2]; rfl
  rcases hx with ⟨hx, hc⟩ | ⟨hx, hc⟩
  · exact br_t hx (nm_r (nI_1 w) (go (fun g => absurd (hc.symm.trans g.1) (by decide))))
  · exact br_f (by rw [hx]; decide) (br_f (by decide) (h1 w hw' hc c12 (by rw [← hM r hr w]; exact c3)))
theorem cc_w_late {post : Int32 → Prop} {n o : Nat} {x2 : Int32} {W : Nat → Bool} {us ce wr so E a1 a2 a3 a4 a5 a6 : Nat → Int32} {M : cc_M} (hn : n ≤ 8) (ho : o < n) (hW : ∀ y, y < 8 → cb_t x2 y = W y) (hM : cc_R n M a6) (k : cc_K n us ce wr so E a1 a2 a3 a4 a5)
    (h1 : cc_late n us ce wr so W o M → post 1) (h0 : ¬ cc_late n us ce wr so W o M → post 0) : wpX_comesTooLate post (nI n, a1, a2, a3, a4, a5, a6) (nI o) x2 := by
  have eo : (nI o).toNatClampNeg = o := nI_clamp (by omega)
  refine pk_loop (σ := Unit) (fun m i _ => wX_comesTooLate_2 post (nI o) x2 (nI n) a1 a2 a3 a4 a5 a6 m (nI i)) (fun i _ => ∀ r, r < i → ∀ w, w < n → ¬ ((cc_ct us wr W o r && decide (so r < 0)) = true ∧ cc_wc ce wr r w = true ∧ M r w = true)) n 0 () (by omega) (fun a ha => absurd ha (by omega)) (fun m _ h => pk_le n n (fun _ => h0 ?_) (fun z => absurd z (by omega))) (fun m r _ hr h hw => pk_le n r (fun z => absurd z (by omega)) (fun _ => ?_))
  · rintro ⟨r, w, hr, hw, c1, c2, c3, c4⟩
    exact h r hr w hw ⟨by rw [c1, decide_eq_true c2]; rfl, c3, c4⟩
  have er : (nI r).toNatClampNeg = r := nI_clamp (by omega)
  have in1 : ∀ x4 : Int32, ((x4 = 0 ∧ (cc_ct us wr W o r && decide (so r < 0)) = false) ∨ (x4 = 1 ∧ (cc_ct us wr W o r && decide (so r < 0)) = true)) → ∃ fu, wX_comesTooLate_61 post (wX_comesTooLate_2 post (nI o) x2 (nI n) a1 a2 a3 a4 a5 a6 m) (nI o) x2 (nI r) x4 (nI n) a1 a2 a3 a4 a5 a6 fu 0 := by
    intro x4 hx
    refine cc_w_late1 hn hM k hr hx (fun w hw' c1 c2 c3 => h1 ?_) (fun g => hw () (lt_s h g))
    rw [Bool.and_eq_true] at c1
    exact ⟨r, w, hr, hw', c1.1, of_decide_eq_true c1.2, c2, c3⟩
  have no : (cc_ct us wr W o r = false ∨ ¬ so r < 0) → ∃ fu, wX_comesTooLate_61 post (wX_comesTooLate_2 post (nI o) x2 (nI n) a1 a2 a3 a4 a5 a6 m) (nI o) x2 (nI r) 0 (nI n) a1 a2 a3 a4 a5 a6 fu 0 := by
    intro g
    refine in1 0 (Or.inl ⟨rfl, ?_⟩)
    rcases g with g | g
    · rw [g]; rfl
    · rw [decide_eq_false g, Bool.and_false]
  refine cb_zz r (fun c => no (Or.inl ?_)) (fun c => ⟨pk_in r 8 (by omega), ?_⟩) (by omega)
  · unfold cc_ct
    rw [← hW r (by omega), c]
    rfl
  rw [er, (k r hr).2.2.1]
  refine br_c (fun c2 => ⟨pk_in r 8 (by omega), pk_in o 8 (by omega), ?_⟩) (fun c2 => no (Or.inl ?_))
  rotate_left
  · unfold cc_ct
    rw [decide_eq_false c2]
    simp
  rw [eo, (k r hr).1, (k o ho).1]
  refine br_c (fun c3 => ⟨pk_in r 8 (by omega), ?_⟩) (fun c3 => no (Or.inl ?_))
  rotate_left
  · unfold cc_ct
    rw [decide_eq_false c3]
    simp
  rw [(k r hr).2.2.2.1]
  refine br_c (fun c4 => no (Or.inr ?_)) (fun c4 => in1 1 (Or.inr ⟨rfl, ?_⟩))
  · exact Int32.not_lt.mpr c4
  · unfold cc_ct
    rw [← hW r (by omega), c, decide_eq_true c2, decide_eq_true c3, decide_eq_true (Int32.not_le.mp c4)]
    rfl
end
section
/-! ===== walks: converges, isWeak, isStrong, sound ===== -/
theorem cc_10 : ¬ (1 : Int32) = 0 := by decide
theorem cc_rd1_pos {n : Nat} {us ce wr so : Nat → Int32} {W : Nat → Bool} {o r : Nat} (M : cc_M) (h : cc_go us wr so W o r = true) : cc_rd1 n us ce wr so W o r M = cc_pu n ce wr W r (cc_sn so r) M := by
  unfold cc_rd1
  rw [if_pos h]
theorem cc_rd1_neg {n : Nat} {us ce wr so : Nat → Int32} {W : Nat → Bool} {o r : Nat} (M : cc_M) (h : cc_go us wr so W o r = false) : cc_rd1 n us ce wr so W o r M = M := by
  unfold cc_rd1
  rw [h]
  rfl
theorem cc_vst_no {ce wr so E : Nat → Int32} {r w : Nat} {M : cc_M} (h : cc_seen ce wr E r w = false ∨ nI w = so r) : cc_vst ce wr so E r w M = M := by
  funext x y
  unfold cc_vst
  rcases h with h | h
  · rw [h]; simp
  · rw [decide_eq_true h]; simp
theorem cc_R_vst {n r s w : Nat} {ce wr so E : Nat → Int32} {N : cc_M} {A : Nat → Int32} (h : cc_R n N A) (hw : w < 32) (hsn : cc_sn so r = s) (hc : cc_seen ce wr E r w = true) (hN : ¬ nI w = so r) : cc_R n (cc_vst ce wr so E r w N) (upd A s (A s ||| ((1 : Int32) <<< (nI w &&& 31)))) := by
  intro x hx y
  unfold cc_vst
  rw [hc, hsn, decide_eq_false hN]
  by_cases e : x = s
  · subst e
    rw [pk_us, cb_or, h x hx y, cb_s1 hw, decide_eq_true (rfl : x = x)]
    simp
  · rw [pk_un e, h x hx y, decide_eq_false e]
    simp
theorem cc_w_v1 {post : Int32 → St1 → Prop} {J30 : Int32 → (Nat → Int32) → (Nat → Int32) → (Nat → Int32) → (Nat → Int32) → (Nat → Int32) → (Nat → Int32) → Prop} {n r : Nat} {us ce wr so E a1 a2 a3 a4 a5 a6 : Nat → Int32} {M : cc_M} (hn : n ≤ 8) (hr : r < n) (hi : cc_inv n wr so E) (hM : cc_R n M a6) (k : cc_K n us ce wr so E a1 a2 a3 a4 a5)
    (hb : cc_bad n ce wr so E → ∀ A, post 0 (nI n, a1, a2, a3, a4, a5, A))
    (hJ : ∀ A, cc_R n (cc_v1 n ce wr so E r M) A → (∀ w, w < n → ¬ (cc_seen ce wr E r w = true ∧ so r < 0)) → J30 (nI (r + 1)) a1 a2 a3 a4 a5 A) :
    ∃ fu, wX_converges_40 post J30 (nI r) (nI n) fu 0 a1 a2 a3 a4 a5 a6 := by
  have er : (nI r).toNatClampNeg = r := nI_clamp (by omega)
  have e4 : a4 (nI r).toNatClampNeg = so r := by rw [er]; exact (k r hr).2.2.2.1
  refine pk_loop (σ := Nat → Int32) (fun m i A => wX_converges_40 post J30 (nI r) (nI n) m (nI i) a1 a2 a3 a4 a5 A) (fun i A => cc_R n (cc_fo (fun w N => cc_vst ce wr so E r w N) i M) A ∧ ∀ w, w < i → ¬ (cc_seen ce wr E r w = true ∧ so r < 0)) n 0 a6 (by omega) ⟨hM, fun a ha => absurd ha (by omega)⟩ (fun m A h => pk_le n n (fun _ => nm_r (nI_1 r) (hJ A h.1 h.2)) (fun z => absurd z (by omega))) ?_
  intro m w A hw' h hw
  have ew : (nI w).toNatClampNeg = w := nI_clamp (by omega)
  have stay : (cc_seen ce wr E r w = false ∨ nI w = so r) → ¬ (cc_seen ce wr E r w = true ∧ so r < 0) → wX_converges_40 post J30 (nI r) (nI n) m (nI (w + 1)) a1 a2 a3 a4 a5 A := by
    intro e g
    refine hw A ⟨?_, lt_s h.2 g⟩
    show cc_R n (cc_vst ce wr so E r w (cc_fo (fun w N => cc_vst ce wr so E r w N) w M)) A
    rw [cc_vst_no e]
    exact h.1
  have h98 : cc_seen ce wr E r w = false → wX_converges_98 post J30 (wX_converges_40 post J30 (nI r) (nI n) m) (nI r) (nI w) (nI n) a1 a2 a3 a4 a5 A := fun e => br_t rfl (br_t rfl (nm_r (nI_1 w) (stay (Or.inl e) (fun g => absurd (e.symm.trans g.1) (by decide)))))
  refine pk_le n w (fun z => absurd z (by omega)) (fun _ => ⟨pk_in r 8 (by omega), ?_⟩)
  rw [er, (k r hr).2.2.1]
  refine br_c (fun c1 => ⟨pk_in w 8 (by omega), ?_⟩) (fun c1 => h98 (by unfold cc_seen; rw [decide_eq_false c1]; rfl))
  rw [ew, (k w hw').2.2.1]
  refine br_c (fun c2 => h98 (by unfold cc_seen cc_wc; rw [decide_eq_true c2]; simp)) (fun c2 => ⟨pk_in w 8 (by omega), pk_in r 8 (by omega), ?_⟩)
  rw [(k w hw').2.1, (k r hr).2.1]
  refine br_c (fun c3 => ⟨pk_in r 8 (by omega), ?_⟩) (fun c3 => h98 (by unfold cc_seen cc_wc; rw [decide_eq_false c3]; simp))
  rw [(k r hr).2.2.2.2]
  refine cb_zz w (fun c4 => h98 (by unfold cc_seen; rw [c4]; simp)) (fun c4 => ?_) (by omega)
  have hseen : cc_seen ce wr E r w = true := by unfold cc_seen cc_wc; rw [c4, decide_eq_true c1, decide_eq_false c2, decide_eq_true c3]; rfl
  refine br_f (by decide) ⟨pk_in r 8 (by omega), ?_⟩
  rw [e4]
  rcases (hi r hr).2 c1 with hneg | ⟨s, hs1, hs2, hs3⟩
  · exact br_f (Int32.not_le.mpr hneg) (hb ⟨r, w, hr, hw', hseen, hneg⟩ A)
  · have es : (nI s).toNatClampNeg = s := nI_clamp (by omega)
    have hnn : ¬ so r < 0 := by rw [hs2]; exact nI_pos (by omega)
    refine br_t (Int32.not_lt.mp hnn) (br_f (by decide) ⟨pk_in r 8 (by omega), ?_⟩)
    rw [e4]
    refine br_c (fun c5 => nm_r (nI_1 w) (stay (Or.inr c5) (fun g => hnn g.2))) (fun c5 => ⟨pk_in r 8 (by omega), ?_⟩)
    rw [hs2]
    refine ⟨pk_in s 8 (by omega), pk_in s 8 (by omega), nm_e (nm_r (nI_1 w) (hw _ ⟨?_, lt_s h.2 (fun g => hnn g.2)⟩))⟩
    rw [es]
    exact cc_R_vst h.1 (by omega) (by unfold cc_sn; rw [hs2, es]) hseen c5
theorem cc_w_v162 {post : Int32 → St1 → Prop} {n : Nat} {us ce wr so E a1 a2 a3 a4 a5 a6 : Nat → Int32} (hn : n ≤ 8) (hM : cc_R n (cc_v0 n ce wr so E) a6)
    (h1 : cc_noring n (cc_vM n ce wr so E) → ∀ A, post 1 (nI n, a1, a2, a3, a4, a5, A)) (h0 : ¬ cc_noring n (cc_vM n ce wr so E) → ∀ A, post 0 (nI n, a1, a2, a3, a4, a5, A)) :
    ∃ fu, wX_converges_162 post fu 1 0 (nI n) a1 a2 a3 a4 a5 a6 := by
  have fin : ∀ A, cc_R n (cc_vM n ce wr so E) A → wX_converges_186 post (nI n) a1 a2 a3 a4 a5 A := fun A hA =>
    cc_w_ring hn hA (fun g => br_f (by decide) (h0 g A)) (fun g => br_t rfl (h1 g A))
  refine pk_loop (σ := Int32 × (Nat → Int32)) (fun m i s => wX_converges_162 post m s.1 (nI i) (nI n) a1 a2 a3 a4 a5 s.2) (fun i s => cc_R n (cc_fo (fun _ N => cc_cl n (cb_t 255) N) i (cc_v0 n ce wr so E)) s.2 ∧ (s.1 = 0 → cc_vM n ce wr so E = cc_fo (fun _ N => cc_cl n (cb_t 255) N) i (cc_v0 n ce wr so E))) 60 0 (1, a6) (by omega) ⟨hM, fun z => absurd z cc_10⟩ (fun m s h => pk_le 60 60 (fun _ => fin s.2 h.1) (fun z => absurd z (by omega))) ?_
  intro m i s hi h hw
  obtain ⟨f, A⟩ := s
  have hA : cc_R n (cc_fo (fun _ N => cc_cl n (cb_t 255) N) i (cc_v0 n ce wr so E)) A := h.1
  refine pk_le 60 i (fun z => absurd z (by omega)) (fun _ => br_c (fun z => fin A ?_) (fun _ => ?_))
  · rw [h.2 z]
    exact hA
  · refine cc_w_close (W := cb_t 255) hn (fun _ _ => rfl) hA (fun f' A' r q => nm_r (nI_1 i) (hw (f', A') ⟨r, fun z => ?_⟩))
    rcases q with ⟨_, q⟩ | q
    · exact (cc_fo_fix (g := cc_cl n (cb_t 255)) (k := i) (cc_v0 n ce wr so E) q 60 (by omega)).trans q.symm
    · rw [q] at z
      exact absurd z cc_10
theorem cc_w_conv {post : Int32 → St1 → Prop} {n : Nat} {us ce wr so E a1 a2 a3 a4 a5 a6 : Nat → Int32} (hn : n ≤ 8) (hi : cc_inv n wr so E) (k : cc_K n us ce wr so E a1 a2 a3 a4 a5)
    (hp : ∀ A, post (cc_iv (cc_conv n ce wr so E)) (nI n, a1, a2, a3, a4, a5, A)) : wpX_converges post (nI n, a1, a2, a3, a4, a5, a6) := by
  have p1 : cc_conv n ce wr so E → ∀ A, post 1 (nI n, a1, a2, a3, a4, a5, A) := fun g A => by
    have := hp A
    rw [cc_iv_t g] at this
    exact this
  have p0 : ¬ cc_conv n ce wr so E → ∀ A, post 0 (nI n, a1, a2, a3, a4, a5, A) := fun g A => by
    have := hp A
    rw [cc_iv_f g] at this
    exact this
  refine pk_loop (σ := Nat → Int32) (fun m i A => wX_converges_2 post (nI n) m (nI i) a1 a2 a3 a4 a5 A) (fun i A => ∀ x, x < i → A x = a5 x) n 0 a6 (by omega) (fun a ha => absurd ha (by omega)) (fun m A h => pk_le n n (fun _ => ?_) (fun z => absurd z (by omega))) (fun m i A hi' h hw => pk_le n i (fun z => absurd z (by omega)) (fun _ => ⟨pk_in i 8 (by omega), pk_in i 8 (by omega), nm_e (nm_r (nI_1 i) (hw _ (cc_fill (nI_clamp (by omega)) h (by rw [nI_clamp (by omega)]))))⟩))
  have hA : cc_R n (cc_mat E) A := fun x hx y => by
    unfold cc_mat
    rw [h x hx, (k x hx).2.2.2.2]
  refine pk_loop (σ := Nat → Int32) (fun m i A => wX_converges_30 post (nI n) m (nI i) a1 a2 a3 a4 a5 A) (fun i A => cc_R n (cc_fo (fun r N => cc_v1 n ce wr so E r N) i (cc_mat E)) A ∧ ∀ r, r < i → ∀ w, w < n → ¬ (cc_seen ce wr E r w = true ∧ so r < 0)) n 0 A (by omega) ⟨hA, fun a ha => absurd ha (by omega)⟩ (fun m A h => pk_le n n (fun _ => ?_) (fun z => absurd z (by omega))) (fun m r A hr h hw => pk_le n r (fun z => absurd z (by omega)) (fun _ => cc_w_v1 hn hr hi h.1 k (fun g A => p0 (fun q => q.1 g) A) (fun A' r1 r2 => hw A' ⟨r1, lt_s h.2 r2⟩)))
  have nb : ¬ cc_bad n ce wr so E := fun ⟨r, w, hr, hw, c1, c2⟩ => h.2 r hr w hw ⟨c1, c2⟩
  exact cc_w_v162 (us := us) hn h.1 (fun g A => p1 ⟨nb, g⟩ A) (fun g A => p0 (fun q => g q.2) A)
theorem cc_w_isWeak {post : Int32 → Prop} {n r : Nat} {us ce wr so E a1 a2 a3 a4 a5 a6 : Nat → Int32} (hn : n ≤ 8) (hr : r < n) (hi : cc_inv n wr so E) (k : cc_K n us ce wr so E a1 a2 a3 a4 a5)
    (hp : post (cc_iv (cc_weak n ce wr so E r))) : wpX_isWeak post (nI n, a1, a2, a3, a4, a5, a6) (nI r) := by
  have p1 : cc_weak n ce wr so E r → post 1 := fun g => by
    rw [cc_iv_t g] at hp
    exact hp
  have p0 : ¬ cc_weak n ce wr so E r → post 0 := fun g => by
    rw [cc_iv_f g] at hp
    exact hp
  have er : (nI r).toNatClampNeg = r := nI_clamp (by omega)
  refine ⟨pk_in r 8 (by omega), ?_⟩
  rw [er, (k r hr).2.2.1]
  refine br_c (fun c0 => ?_) (fun c0 => p1 (Or.inl c0))
  refine pk_loop (σ := Unit) (fun m i _ => wX_isWeak_13 post (nI r) (nI n) a1 a2 a3 a4 a5 a6 m (nI i)) (fun i _ => ∀ w, w < i → ¬ (cc_wc ce wr r w = true ∧ cb_t (E r) w = true ∧ (so r < 0 ∨ cb_t (E w) (cc_sn so r) = true))) n 0 () (by omega) (fun a ha => absurd ha (by omega)) (fun m _ h => pk_le n n (fun _ => p1 (Or.inr h)) (fun z => absurd z (by omega))) (fun m w _ hw' h hw => pk_le n w (fun z => absurd z (by omega)) (fun _ => ⟨pk_in w 8 (by omega), ?_⟩))
  have ew : (nI w).toNatClampNeg = w := nI_clamp (by omega)
  have h62 : ¬ (cc_wc ce wr r w = true ∧ cb_t (E r) w = true ∧ (so r < 0 ∨ cb_t (E w) (cc_sn so r) = true)) → wX_isWeak_62 post (wX_isWeak_13 post (nI r) (nI n) a1 a2 a3 a4 a5 a6 m) (nI r) (nI w) (nI n) a1 a2 a3 a4 a5 a6 := fun g => br_t rfl (nm_r (nI_1 w) (hw () (lt_s h g)))
  rw [ew, (k w hw').2.2.1]
  refine br_c (fun c => h62 (fun g => ?_)) (fun c => ⟨pk_in w 8 (by omega), pk_in r 8 (by omega), ?_⟩)
  · have g' := g.1
    unfold cc_wc at g'
    rw [decide_eq_true c] at g'
    exact absurd g' (by simp)
  rw [er, (k w hw').2.1, (k r hr).2.1]
  refine br_c (fun c2 => ⟨pk_in r 8 (by omega), ?_⟩) (fun c2 => h62 (fun g => ?_))
  rotate_left
  · have g' := g.1
    unfold cc_wc at g'
    rw [decide_eq_false c2] at g'
    exact absurd g' (by simp)
  rw [(k r hr).2.2.2.2]
  refine cb_zz w (fun c3 => h62 (fun g => absurd (c3.symm.trans g.2.1) (by decide))) (fun c3 => ?_) (by omega)
  have c12 : cc_wc ce wr r w = true := by unfold cc_wc; rw [decide_eq_false c, decide_eq_true c2]; rfl
  have no : (so r < 0 ∨ cb_t (E w) (cc_sn so r) = true) → ¬ cc_weak n ce wr so E r := by
    intro q g
    rcases g with g | g
    · exact g c0
    · exact g w hw' ⟨c12, c3, q⟩
  refine br_f (by decide) ⟨pk_in r 8 (by omega), ?_⟩
  rw [er, (k r hr).2.2.2.1]
  refine br_c (fun c4 => p0 (no (Or.inl c4))) (fun c4 => ⟨pk_in w 8 (by omega), pk_in r 8 (by omega), ?_⟩)
  rcases (hi r hr).2 c0 with hneg | ⟨s, hs1, hs2, hs3⟩
  · exact absurd hneg c4
  · have hsn : cc_sn so r = s := by unfold cc_sn; rw [hs2]; exact nI_clamp (by omega)
    rw [ew, (k w hw').2.2.2.2]
    refine cb_zz s (fun c5 => nm_r (nI_1 w) (hw () (lt_s h (fun g => ?_)))) (fun c5 => p0 (no (Or.inr (by rw [hsn]; exact c5)))) (by omega) hs2
    rcases g.2.2 with g' | g'
    · exact c4 g'
    · rw [hsn, c5] at g'
      exact absurd g' (by decide)
/-- one round of isStrong -/
theorem cc_w_round {post : Int32 → St1 → Prop} {J44 : Int32 → Int32 → Int32 → (Nat → Int32) → (Nat → Int32) → (Nat → Int32) → (Nat → Int32) → (Nat → Int32) → (Nat → Int32) → Prop} {n o i : Nat} {x2 : Int32} {W : Nat → Bool} {us ce wr so E a1 a2 a3 a4 a5 a6 : Nat → Int32} {M : cc_M} (hn : n ≤ 8) (ho : o < n) (hi : cc_inv n wr so E) (k : cc_K n us ce wr so E a1 a2 a3 a4 a5) (hW : ∀ y, y < 8 → cb_t x2 y = W y) (hM : cc_R n M a6)
    (hJ : ∀ f A, cc_R n (cc_rd n us ce wr so W o M) A → cc_F f M (cc_rd n us ce wr so W o M) → J44 f (nI (i + 1)) (nI n) a1 a2 a3 a4 a5 A) :
    ∃ fu, wX_isStrong_60 post J44 (nI o) x2 (nI i) fu 0 0 (nI n) a1 a2 a3 a4 a5 a6 := by
  have eo : (nI o).toNatClampNeg = o := nI_clamp (by omega)
  refine pk_loop (σ := Int32 × (Nat → Int32)) (fun m j s => wX_isStrong_60 post J44 (nI o) x2 (nI i) m s.1 (nI j) (nI n) a1 a2 a3 a4 a5 s.2) (fun j s => cc_R n (cc_fo (fun r N => cc_rd1 n us ce wr so W o r N) j M) s.2 ∧ cc_F s.1 M (cc_fo (fun r N => cc_rd1 n us ce wr so W o r N) j M)) n 0 (0, a6) (by omega) ⟨hM, Or.inl ⟨rfl, rfl⟩⟩ ?_ ?_
  · intro m s h
    obtain ⟨f, A⟩ := s
    refine pk_le n n (fun _ => ?_) (fun z => absurd z (by omega))
    exact cc_w_close hn hW h.1 (fun f' A' r q => cc_F_or h.2 q (fun e => nm_r (nI_1 i) (hJ 0 A' r (Or.inl ⟨rfl, e⟩))) (nm_r (nI_1 i) (hJ 1 A' r (Or.inr rfl))) (nm_r (nI_1 i) (hJ 1 A' r (Or.inr rfl))))
  · intro m r s hr h hw
    obtain ⟨f, A⟩ := s
    have er : (nI r).toNatClampNeg = r := nI_clamp (by omega)
    have h1 : cc_R n (cc_fo (fun r N => cc_rd1 n us ce wr so W o r N) r M) A := h.1
    have h2 : cc_F f M (cc_fo (fun r N => cc_rd1 n us ce wr so W o r N) r M) := h.2
    have stay : cc_go us wr so W o r = false → wX_isStrong_60 post J44 (nI o) x2 (nI i) m f (nI (r + 1)) (nI n) a1 a2 a3 a4 a5 A := by
      intro e
      have e' : cc_rd1 n us ce wr so W o r (cc_fo (fun r N => cc_rd1 n us ce wr so W o r N) r M) = cc_fo (fun r N => cc_rd1 n us ce wr so W o r N) r M := cc_rd1_neg _ e
      refine hw (f, A) ⟨?_, ?_⟩
      · show cc_R n (cc_rd1 n us ce wr so W o r (cc_fo (fun r N => cc_rd1 n us ce wr so W o r N) r M)) A
        rw [e']
        exact h1
      · show cc_F f M (cc_rd1 n us ce wr so W o r (cc_fo (fun r N => cc_rd1 n us ce wr so W o r N) r M))
        rw [e']
        exact h2
    have h108 : cc_ct us wr W o r = false → wX_isStrong_108 post J44 (wX_isStrong_60 post J44 (nI o) x2 (nI i) m) (nI o) x2 f (nI i) (nI r) (nI n) a1 a2 a3 a4 a5 A := fun e => br_t rfl (nm_r (nI_1 r) (stay (by unfold cc_go; rw [e]; rfl)))
    refine pk_le n r (fun z => absurd z (by omega)) (fun _ => ?_)
    refine cb_zz r (fun c => h108 ?_) (fun c => ⟨pk_in r 8 (by omega), ?_⟩) (by omega)
    · unfold cc_ct
      rw [← hW r (by omega), c]
      rfl
    rw [er, (k r hr).2.2.1]
    refine br_c (fun c2 => ⟨pk_in r 8 (by omega), pk_in o 8 (by omega), ?_⟩) (fun c2 => h108 ?_)
    rotate_left
    · unfold cc_ct
      rw [decide_eq_false c2]
      simp
    rw [eo, (k r hr).1, (k o ho).1]
    refine br_c (fun c3 => ?_) (fun c3 => h108 ?_)
    rotate_left
    · unfold cc_ct
      rw [decide_eq_false c3]
      simp
    have hct : cc_ct us wr W o r = true := by
      unfold cc_ct
      rw [← hW r (by omega), c, decide_eq_true c2, decide_eq_true c3]
      rfl
    refine br_f (by decide) ⟨pk_in r 8 (by omega), ?_⟩
    rw [er, (k r hr).2.2.2.1]
    refine br_c (fun c4 => nm_r (nI_1 r) (stay (by unfold cc_go; rw [decide_eq_true c4, Bool.not_true, Bool.and_false]))) (fun c4 => ?_)
    have hgo : cc_go us wr so W o r = true := by
      unfold cc_go
      rw [hct, decide_eq_false c4]
      rfl
    rcases (hi r hr).2 c2 with hneg | ⟨s, hs1, hs2, hs3⟩
    · exact absurd hneg c4
    · have hsn : cc_sn so r = s := by unfold cc_sn; rw [hs2]; exact nI_clamp (by omega)
      have e' : cc_fo (fun r N => cc_rd1 n us ce wr so W o r N) (r + 1) M = cc_pu n ce wr W r s (cc_fo (fun r N => cc_rd1 n us ce wr so W o r N) r M) := by
        show cc_rd1 n us ce wr so W o r (cc_fo (fun r N => cc_rd1 n us ce wr so W o r N) r M) = _
        rw [cc_rd1_pos _ hgo, hsn]
      have go : ∀ f' A', cc_R n (cc_pu n ce wr W r s (cc_fo (fun r N => cc_rd1 n us ce wr so W o r N) r M)) A' → cc_F f' M (cc_pu n ce wr W r s (cc_fo (fun r N => cc_rd1 n us ce wr so W o r N) r M)) → wX_isStrong_60 post J44 (nI o) x2 (nI i) m f' (nI (r + 1)) (nI n) a1 a2 a3 a4 a5 A' := by
        intro f' A' q1 q2
        rw [← e'] at q1 q2
        exact hw (f', A') ⟨q1, q2⟩
      exact cc_w_push hn hW h1 k hr (by omega) hs2 (fun f' A' q1 q2 => cc_F_or h2 q2 (fun e => nm_r (nI_1 r) (go 0 A' q1 (Or.inl ⟨rfl, e⟩))) (nm_r (nI_1 r) (go 1 A' q1 (Or.inr rfl))) (nm_r (nI_1 r) (go 1 A' q1 (Or.inr rfl))))
theorem cc_w_strong {post : Int32 → St1 → Prop} {n o : Nat} {us ce wr so E a1 a2 a3 a4 a5 a6 : Nat → Int32} (hn : n ≤ 8) (ho : o < n) (hi : cc_inv n wr so E) (k : cc_K n us ce wr so E a1 a2 a3 a4 a5)
    (hp : ∀ A, post (cc_iv (cc_strong n us ce wr so E o)) (nI n, a1, a2, a3, a4, a5, A)) : wpX_isStrong post (nI n, a1, a2, a3, a4, a5, a6) (nI o) := by
  have p1 : cc_strong n us ce wr so E o → ∀ A, post 1 (nI n, a1, a2, a3, a4, a5, A) := fun g A => by
    have := hp A
    rw [cc_iv_t g] at this
    exact this
  have p0 : ¬ cc_strong n us ce wr so E o → ∀ A, post 0 (nI n, a1, a2, a3, a4, a5, A) := fun g A => by
    have := hp A
    rw [cc_iv_f g] at this
    exact this
  have eo : (nI o).toNatClampNeg = o := nI_clamp (by omega)
  refine ⟨pk_in o 8 (by omega), nm_r (by rw [eo, (k o ho).2.2.2.2]) ?_⟩
  have hW : ∀ y, y < 8 → cb_t (E o ||| ((1 : Int32) <<< (nI o &&& 31))) y = cc_past E o y := fun y _ => by
    unfold cc_past
    rw [cb_or, cb_s1 (by omega)]
  refine pk_loop (σ := Nat → Int32) (fun m i A => wX_isStrong_13 post (nI o) (E o ||| ((1 : Int32) <<< (nI o &&& 31))) (nI n) m (nI i) a1 a2 a3 a4 a5 A) (fun i A => ∀ x, x < i → A x = a5 x) n 0 a6 (by omega) (fun a ha => absurd ha (by omega)) (fun m A h => pk_le n n (fun _ => ?_) (fun z => absurd z (by omega))) (fun m i A hi' h hw => pk_le n i (fun z => absurd z (by omega)) (fun _ => ⟨pk_in i 8 (by omega), pk_in i 8 (by omega), nm_e (nm_r (nI_1 i) (hw _ (cc_fill (nI_clamp (by omega)) h (by rw [nI_clamp (by omega)]))))⟩))
  have hA : cc_R n (cc_mat E) A := fun x hx y => by
    unfold cc_mat
    rw [h x hx, (k x hx).2.2.2.2]
  have fin : ∀ A, cc_R n (cc_sM n us ce wr so E o) A → wX_isStrong_176 post (nI o) (E o ||| ((1 : Int32) <<< (nI o &&& 31))) (nI n) a1 a2 a3 a4 a5 A := fun A hA =>
    cc_w_ring hn hA (fun g => br_f (by decide) (p0 (fun q => g q.1) A)) (fun g => br_t rfl (cc_w_late hn ho hW hA k (fun q => br_f (by decide) (p0 (fun t => t.2 q) A)) (fun q => br_t rfl (p1 ⟨g, q⟩ A))))
  refine pk_loop (σ := Int32 × (Nat → Int32)) (fun m i s => wX_isStrong_44 post (nI o) (E o ||| ((1 : Int32) <<< (nI o &&& 31))) m s.1 (nI i) (nI n) a1 a2 a3 a4 a5 s.2) (fun i s => cc_R n (cc_fo (fun _ N => cc_rd n us ce wr so (cc_past E o) o N) i (cc_mat E)) s.2 ∧ (s.1 = 0 → cc_sM n us ce wr so E o = cc_fo (fun _ N => cc_rd n us ce wr so (cc_past E o) o N) i (cc_mat E))) 60 0 (1, A) (by omega) ⟨hA, fun z => absurd z cc_10⟩ (fun m s h => pk_le 60 60 (fun _ => fin s.2 h.1) (fun z => absurd z (by omega))) ?_
  intro m i s hi' h hw
  obtain ⟨f, A⟩ := s
  have hA : cc_R n (cc_fo (fun _ N => cc_rd n us ce wr so (cc_past E o) o N) i (cc_mat E)) A := h.1
  refine pk_le 60 i (fun z => absurd z (by omega)) (fun _ => br_c (fun z => fin A ?_) (fun _ => ?_))
  · rw [h.2 z]
    exact hA
  · refine cc_w_round hn ho hi k hW hA (fun f' A' r q => hw (f', A') ⟨r, fun z => ?_⟩)
    rcases q with ⟨_, q⟩ | q
    · exact (cc_fo_fix (g := cc_rd n us ce wr so (cc_past E o) o) (k := i) (cc_mat E) q 60 (by omega)).trans q.symm
    · rw [q] at z
      exact absurd z cc_10
/-- what sound() answers -/
noncomputable def cc_sd (n : Nat) (us ce wr so E : Nat → Int32) : Int32 := cc_iv (∀ o, o < n → cc_weak n ce wr so E o) + 2 * cc_iv (∀ o, o < n → cc_strong n us ce wr so E o) + 4 * cc_iv (cc_conv n ce wr so E)
theorem cc_iv_all {P : Nat → Prop} {i : Nat} (h : P i) : cc_iv (∀ o, o < i → P o) = cc_iv (∀ o, o < i + 1 → P o) :=
  cc_iv_e ⟨fun g => lt_s g h, fun g o ho => g o (by omega)⟩
theorem cc_iv_no {P : Nat → Prop} {i : Nat} (h : ¬ P i) : cc_iv (∀ o, o < i + 1 → P o) = 0 :=
  cc_iv_f (fun g => h (g i (by omega)))
theorem cc_w_sound {post : Int32 → St1 → Prop} {n : Nat} {us ce wr so E a1 a2 a3 a4 a5 a6 : Nat → Int32} (hn : n ≤ 8) (hi : cc_inv n wr so E) (k : cc_K n us ce wr so E a1 a2 a3 a4 a5)
    (hp : ∀ A, post (cc_sd n us ce wr so E) (nI n, a1, a2, a3, a4, a5, A)) : wpX_sound post (nI n, a1, a2, a3, a4, a5, a6) := by
  refine pk_loop (σ := Int32 × Int32 × (Nat → Int32)) (fun m i s => wX_sound_6 post m s.1 s.2.1 (nI i) (nI n) a1 a2 a3 a4 a5 s.2.2) (fun i s => s.1 = cc_iv (∀ o, o < i → cc_weak n ce wr so E o) ∧ s.2.1 = 2 * cc_iv (∀ o, o < i → cc_strong n us ce wr so E o)) n 0 (1, 2, a6) (by omega) ⟨?_, ?_⟩ ?_ ?_
  · exact (cc_iv_t (fun o ho => absurd ho (by omega))).symm
  · show (2 : Int32) = _
    rw [cc_iv_t (fun o ho => absurd ho (by omega))]
    rfl
  · intro m s h
    obtain ⟨x, y, A⟩ := s
    have e1 : x = cc_iv (∀ o, o < n → cc_weak n ce wr so E o) := h.1
    have e2 : y = 2 * cc_iv (∀ o, o < n → cc_strong n us ce wr so E o) := h.2
    refine pk_le n n (fun _ => ?_) (fun z => absurd z (by omega))
    refine cc_w_conv hn hi k (fun A' => ?_)
    have q := hp A'
    unfold cc_sd at q
    rw [← e1, ← e2] at q
    rcases cc_iv_or (cc_conv n ce wr so E) with ⟨_, c⟩ | ⟨_, c⟩
    · rw [c] at q ⊢
      exact br_f (by decide) q
    · rw [c] at q ⊢
      exact br_t rfl q
  · intro m i s hi' h hw
    obtain ⟨x, y, A⟩ := s
    have e1 : x = cc_iv (∀ o, o < i → cc_weak n ce wr so E o) := h.1
    have e2 : y = 2 * cc_iv (∀ o, o < i → cc_strong n us ce wr so E o) := h.2
    have h27 : ∀ x', x' = cc_iv (∀ o, o < i + 1 → cc_weak n ce wr so E o) → wX_sound_27 post (wX_sound_6 post m) y (nI i) x' (nI n) a1 a2 a3 a4 a5 A := by
      intro x' ex
      refine cc_w_strong hn hi' hi k (fun A' => ?_)
      rcases cc_iv_or (cc_strong n us ce wr so E i) with ⟨g, c⟩ | ⟨g, c⟩
      · rw [c]
        exact br_f (by decide) (nm_r (nI_1 i) (hw (x', y, A') ⟨ex, e2.trans (by rw [cc_iv_all (P := fun o => cc_strong n us ce wr so E o) g])⟩))
      · rw [c]
        exact br_t rfl (nm_r (nI_1 i) (hw (x', 0, A') ⟨ex, by rw [cc_iv_no (P := fun o => cc_strong n us ce wr so E o) g]; rfl⟩))
    refine pk_le n i (fun z => absurd z (by omega)) (fun _ => ?_)
    refine cc_w_isWeak hn hi' hi k ?_
    rcases cc_iv_or (cc_weak n ce wr so E i) with ⟨g, c⟩ | ⟨g, c⟩
    · rw [c]
      exact br_f (by decide) (h27 x (e1.trans (cc_iv_all (P := fun o => cc_weak n ce wr so E o) g)))
    · rw [c]
      exact br_t rfl (h27 0 (cc_iv_no (P := fun o => cc_weak n ce wr so E o) g).symm)
end
section
/-! ===== walks: isSource, enter, choices, the asking methods, write, read ===== -/
theorem cc_K_tr {n : Nat} {u1 u2 u3 u4 u5 v1 v2 v3 v4 v5 w1 w2 w3 w4 w5 : Nat → Int32} (h : cc_K n u1 u2 u3 u4 u5 v1 v2 v3 v4 v5) (h' : cc_K n v1 v2 v3 v4 v5 w1 w2 w3 w4 w5) : cc_K n u1 u2 u3 u4 u5 w1 w2 w3 w4 w5 := fun i hi =>
  ⟨(h' i hi).1.trans (h i hi).1, (h' i hi).2.1.trans (h i hi).2.1, (h' i hi).2.2.1.trans (h i hi).2.2.1, (h' i hi).2.2.2.1.trans (h i hi).2.2.2.1, (h' i hi).2.2.2.2.trans (h i hi).2.2.2.2⟩
theorem cc_K_inv {n : Nat} {u1 u2 u3 u4 u5 v1 v2 v3 v4 v5 : Nat → Int32} (h : cc_K n u1 u2 u3 u4 u5 v1 v2 v3 v4 v5) (hi : cc_inv n u3 u4 u5) : cc_inv n v3 v4 v5 := by
  intro i hin
  rw [(h i hin).2.2.1, (h i hin).2.2.2.1, (h i hin).2.2.2.2]
  exact hi i hin
theorem cc_inv_le {n m : Nat} {v3 v4 v5 : Nat → Int32} (hm : m ≤ n) (h : cc_inv n v3 v4 v5) : cc_inv m v3 v4 v5 := fun i hi => h i (by omega)
theorem cc_w_source {post : Int32 → Prop} {n : Nat} {src cell : Int32} {a1 a2 a3 a4 a5 a6 : Nat → Int32} (hn : n ≤ 8) (h1 : (src < 0 ∨ ∃ s, s < n ∧ src = nI s) → post 1) (h0 : post 0) : wpX_isSource post (nI n, a1, a2, a3, a4, a5, a6) src cell := by
  refine br_c (fun z => h1 (Or.inl (by rw [z]; decide))) (fun _ => br_c (fun _ => h0) (fun z => br_c (fun _ => h0) (fun z2 => ?_)))
  obtain ⟨s, hs, e⟩ := nI_of z
  rw [e] at z2 h1 ⊢
  have hsn : s < n := by
    rcases Nat.lt_or_ge s n with q | q
    · exact q
    · exact absurd (nI_le q hs) z2
  exact ⟨pk_in s 8 (by omega), br_c (fun _ => h0) (fun _ => ⟨pk_in s 8 (by omega), br_c (fun _ => h1 (Or.inr ⟨s, hsn, rfl⟩)) (fun _ => h0)⟩)⟩
theorem cc_nar1 : vp_nar .boolean 1 = 1 := rfl
theorem cc_nar0 : vp_nar .boolean 0 = 0 := rfl
theorem cc_w_enter {post : St1 → Prop} {n : Nat} {p0 p1 p2 p3 : Int32} {a1 a2 a3 a4 a5 a6 : Nat → Int32} (hn : n ≤ 7) (hi : cc_inv n a3 a4 a5) (hp2 : p2 = 1 ∨ (p2 = 0 ∧ (p3 < 0 ∨ ∃ s, s < n ∧ p3 = nI s)))
    (hp : ∀ b1 b2 b3 b4 b5, cc_K n a1 a2 a3 a4 a5 b1 b2 b3 b4 b5 → cc_inv (n + 1) b3 b4 b5 → post (nI (n + 1), b1, b2, b3, b4, b5, a6)) : wpX_enter post (nI n, a1, a2, a3, a4, a5, a6) p0 p1 p2 p3 := by
  have en : (nI n).toNatClampNeg = n := nI_clamp (by omega)
  refine ⟨pk_in n 8 (by omega), nm_e ⟨pk_in n 8 (by omega), nm_e ⟨pk_in n 8 (by omega), nm_e ⟨pk_in n 8 (by omega), nm_e ⟨pk_in n 8 (by omega), nm_e ?_⟩⟩⟩⟩⟩
  rw [en]
  refine pk_loop (σ := Nat → Int32) (fun m i A => wX_enter_54 post p0 p3 (nI n) m (nI i) (upd a1 n p0) (upd a2 n p1) (upd a3 n (vp_nar .boolean p2)) (upd a4 n p3) A a6) (fun i A => (∀ x, x < n → A x = a5 x) ∧ (∀ y, cb_t (A n) y = true → y < n) ∧ (∀ s, s < i → p3 = nI s → cb_t (A n) s = true)) n 0 (upd a5 n 0) (by omega) ⟨fun x hx => pk_un (by omega), fun y hy => by rw [pk_us, cb_0] at hy; exact absurd hy (by decide), fun s hs => absurd hs (by omega)⟩ ?_ ?_
  · intro m A h
    refine pk_le n n (fun _ => nm_r (nI_1 n) (hp _ _ _ _ _ (fun i hin => ⟨pk_un (by omega), pk_un (by omega), pk_un (by omega), pk_un (by omega), h.1 i hin⟩) ?_)) (fun z => absurd z (by omega))
    intro i hin
    rcases Nat.lt_or_ge i n with z | z
    · rw [pk_un (by omega), pk_un (by omega), h.1 i z]
      exact hi i z
    · have e : i = n := by omega
      subst e
      rw [pk_us, pk_us]
      refine ⟨h.2.1, fun hz => ?_⟩
      rcases hp2 with e | ⟨e, q⟩
      · rw [e, cc_nar1] at hz
        exact absurd hz (by decide)
      · rcases q with q | ⟨s, hs, q⟩
        · exact Or.inl q
        · exact Or.inr ⟨s, hs, q, h.2.2 s hs q⟩
  · intro m o A ho h hw
    have eo : (nI o).toNatClampNeg = o := nI_clamp (by omega)
    have h81 : wX_enter_81 post (wX_enter_54 post p0 p3 (nI n) m) p0 p3 (nI o) (nI n) (upd a1 n p0) (upd a2 n p1) (upd a3 n (vp_nar .boolean p2)) (upd a4 n p3) A a6 := by
      refine ⟨pk_in n 8 (by omega), pk_in o 8 (by omega), pk_in n 8 (by omega), nm_e (nm_r (nI_1 o) (hw _ ?_))⟩
      rw [en, eo]
      refine ⟨fun x hx => ?_, fun y hy => ?_, fun s hs e => ?_⟩
      · rw [pk_un (by omega)]
        exact h.1 x hx
      · rw [pk_us, cb_or, cb_or, cb_s1 (by omega), h.1 o ho] at hy
        simp only [Bool.or_eq_true, decide_eq_true_eq] at hy
        rcases hy with q | q | q
        · exact h.2.1 y q
        · omega
        · have := (hi o ho).1 y q
          omega
      · rw [pk_us, cb_or, cb_or, cb_s1 (by omega)]
        rcases Nat.lt_or_ge s o with q | q
        · rw [h.2.2 s q e]; rfl
        · rw [decide_eq_true (by omega : s = o)]; simp
    refine pk_le n o (fun z => absurd z (by omega)) (fun _ => ⟨pk_in o 8 (by omega), ?_⟩)
    refine br_c (fun _ => h81) (fun _ => br_c (fun _ => h81) (fun z => nm_r (nI_1 o) (hw A ⟨h.1, h.2.1, fun s hs e => ?_⟩)))
    rcases Nat.lt_or_ge s o with q | q
    · exact h.2.2 s q e
    · rw [show s = o by omega] at e
      exact absurd e.symm z
def cc_cs : Nat → Int32
  | 0 => -1
  | j + 1 => nI j
theorem cc_cs_s (j : Nat) : cc_cs j + 1 = nI j := by
  cases j with
  | zero => rfl
  | succ j => exact nI_1 j
theorem cc_small {x : Int32} (h : ∀ y, 8 ≤ y → cb_t x y = false) : ∃ t, t < 256 ∧ x = nI t := by
  have e : x = x &&& 255 := by
    apply cb_ext
    intro i _
    rw [cb_and, cb_255]
    rcases Nat.lt_or_ge i 8 with z | z
    · rw [decide_eq_true z, Bool.and_true]
    · rw [h i z]; rfl
  obtain ⟨t, ht, e'⟩ := pk_andE x (m := 255) 8 (by rfl)
  exact ⟨t, ht, e.trans e'⟩
theorem cc_w_choices {post : Int32 → St1 → Prop} {n u c : Nat} {a1 a2 a3 a4 a5 a6 : Nat → Int32} (hn : n ≤ 7) (hu : u < 3) (hc : c < 2) (hi : cc_inv n a3 a4 a5)
    (hp : ∀ v b1 b2 b3 b4 b5 b6, cc_K n a1 a2 a3 a4 a5 b1 b2 b3 b4 b5 → (∃ t, t < 256 ∧ v = nI t) → (¬ cc_conv n a2 a3 a4 a5 → v = 0) → post v (nI n, b1, b2, b3, b4, b5, b6)) : wpX_choices post (nI n, a1, a2, a3, a4, a5, a6) (nI u) (nI c) := by
  refine br_f (nI_pos (by omega)) (br_f (nI_nlt (a := 2) (by omega) (by omega)) (br_f (nI_pos (by omega)) (br_t (nI_le (b := 1) (by omega) (by omega)) ?_)))
  refine pk_loop (σ := Int32 × (Nat → Int32) × (Nat → Int32) × (Nat → Int32) × (Nat → Int32) × (Nat → Int32) × (Nat → Int32)) (fun m j s => wX_choices_25 post (nI u) (nI c) m s.1 (cc_cs j) (nI n) s.2.1 s.2.2.1 s.2.2.2.1 s.2.2.2.2.1 s.2.2.2.2.2.1 s.2.2.2.2.2.2)
    (fun j s => cc_K n a1 a2 a3 a4 a5 s.2.1 s.2.2.1 s.2.2.2.1 s.2.2.2.2.1 s.2.2.2.2.2.1 ∧ (∀ y, 8 ≤ y → cb_t s.1 y = false) ∧ (¬ cc_conv n a2 a3 a4 a5 → s.1 = 0)) (n + 1) 0 (0, a1, a2, a3, a4, a5, a6) (by omega) ⟨cc_K_refl, fun y _ => cb_0 y, fun _ => rfl⟩ ?_ ?_
  · intro m s h
    exact pk_le n n (fun _ => hp _ _ _ _ _ _ _ h.1 (cc_small h.2.1) h.2.2) (fun z => absurd z (by omega))
  · intro m j s hj h hw
    obtain ⟨x, b1, b2, b3, b4, b5, b6⟩ := s
    have k : cc_K n a1 a2 a3 a4 a5 b1 b2 b3 b4 b5 := h.1
    have hx : ∀ y, 8 ≤ y → cb_t x y = false := h.2.1
    have hz : ¬ cc_conv n a2 a3 a4 a5 → x = 0 := h.2.2
    have hlt : ¬ nI n ≤ cc_cs j := by
      cases j with
      | zero => exact fun z => absurd (Int32.le_trans (nI_pos' (by omega)) z) (by decide)
      | succ j => exact nI_ge (by omega) (by omega)
    refine br_f hlt (cc_w_source (by omega) (fun g => br_f (by decide) (cc_w_enter hn (cc_K_inv k hi) (Or.inr ⟨rfl, g⟩) (fun d1 d2 d3 d4 d5 k' i' => cc_w_conv (n := n + 1) (us := d1) (ce := d2) (wr := d3) (so := d4) (E := d5) (by omega) i' cc_K_refl (fun A => nm_r (nI_pred n) ?_)))) (br_t rfl (nm_r (cc_cs_s j) (hw (x, b1, b2, b3, b4, b5, b6) ⟨k, hx, hz⟩))))
    have kk : cc_K n a1 a2 a3 a4 a5 d1 d2 d3 d4 d5 := cc_K_tr k k'
    rcases cc_iv_or (cc_conv (n + 1) d2 d3 d4 d5) with ⟨g1, e⟩ | ⟨g1, e⟩
    · rw [e]
      have cv : cc_conv n a2 a3 a4 a5 := cc_C kk g1
      refine br_f (by decide) ?_
      cases j with
      | zero =>
        refine br_f (by decide) (nm_e (nm_r (cc_cs_s 0) (hw (_, d1, d2, d3, d4, d5, A) ⟨kk, fun y hy => ?_, fun q => absurd cv q⟩)))
        show cb_t (x ||| ((1 : Int32) <<< (nI 7 &&& 31))) y = false
        rw [cb_or, hx y hy, cb_s1 (by omega), decide_eq_false (by omega)]
        rfl
      | succ j =>
        refine br_t (nI_pos' (by omega)) (nm_e (nm_r (cc_cs_s (j + 1)) (hw (_, d1, d2, d3, d4, d5, A) ⟨kk, fun y hy => ?_, fun q => absurd cv q⟩)))
        show cb_t (x ||| ((1 : Int32) <<< (nI j &&& 31))) y = false
        rw [cb_or, hx y hy, cb_s1 (by omega), decide_eq_false (by omega)]
        rfl
    · rw [e]
      refine br_t rfl (nm_e (nm_r (cc_cs_s j) (hw (_, d1, d2, d3, d4, d5, A) ⟨kk, fun y hy => ?_, fun q => ?_⟩)))
      · show cb_t (x ||| 0) y = false
        rw [cb_or, hx y hy, cb_0]
        rfl
      · show x ||| 0 = 0
        rw [hz q]
        rfl
theorem cc_w_held {post : Int32 → Prop} {n o : Nat} {a1 a2 a3 a4 a5 a6 : Nat → Int32} (hn : n ≤ 8) (ho : o < n) (hp : post 1) : wpX_isHeld post (nI n, a1, a2, a3, a4, a5, a6) (nI o) :=
  br_f (nI_pos (by omega)) (br_f (nI_ge ho (by omega)) hp)
theorem cc_w_weak {post : Int32 → Prop} {n r : Nat} {us ce wr so E a1 a2 a3 a4 a5 a6 : Nat → Int32} (hn : n ≤ 8) (hr : r < n) (hi : cc_inv n wr so E) (k : cc_K n us ce wr so E a1 a2 a3 a4 a5)
    (hp : post (cc_iv (cc_weak n ce wr so E r))) : wpX_weak post (nI n, a1, a2, a3, a4, a5, a6) (nI r) := by
  unfold wpX_weak
  refine cc_w_held hn hr (br_f (by decide) (cc_w_isWeak hn hr hi k ?_))
  rcases cc_iv_or (cc_weak n ce wr so E r) with ⟨_, e⟩ | ⟨_, e⟩
  · rw [e] at hp ⊢
    exact br_f (by decide) hp
  · rw [e] at hp ⊢
    exact br_t rfl hp
theorem cc_w_strongP {post : Int32 → St1 → Prop} {n o : Nat} {us ce wr so E a1 a2 a3 a4 a5 a6 : Nat → Int32} (hn : n ≤ 8) (ho : o < n) (hi : cc_inv n wr so E) (k : cc_K n us ce wr so E a1 a2 a3 a4 a5)
    (hp : ∀ A, post (cc_iv (cc_strong n us ce wr so E o)) (nI n, a1, a2, a3, a4, a5, A)) : wpX_strong post (nI n, a1, a2, a3, a4, a5, a6) (nI o) := by
  unfold wpX_strong
  refine cc_w_held hn ho (br_f (by decide) (cc_w_strong hn ho hi k (fun A => ?_)))
  have q := hp A
  rcases cc_iv_or (cc_strong n us ce wr so E o) with ⟨_, e⟩ | ⟨_, e⟩
  · rw [e] at q ⊢
    exact br_f (by decide) q
  · rw [e] at q ⊢
    exact br_t rfl q
theorem cc_w_before {post : Int32 → Prop} {n p o : Nat} {a1 a2 a3 a4 a5 a6 : Nat → Int32} (hn : n ≤ 8) (hq : p < n) (ho : o < n) (hp : post (if cb_t (a5 o) p = true then 1 else 0)) : wpX_before post (nI n, a1, a2, a3, a4, a5, a6) (nI p) (nI o) := by
  unfold wpX_before
  refine cc_w_held hn hq (br_f (by decide) (cc_w_held hn ho (br_f (by decide) ⟨pk_in o 8 (by omega), ?_⟩)))
  rw [nI_clamp (show o < 2 ^ 31 by omega), cb_v _ (by omega)]
  exact hp
theorem cc_w_write {post : Int32 → St1 → Prop} {n u c : Nat} {a1 a2 a3 a4 a5 a6 : Nat → Int32} (hn : n ≤ 7) (hu : u < 3) (hc : c < 2) (hi : cc_inv n a3 a4 a5)
    (h7 : n = 7 → post (-1) (nI n, a1, a2, a3, a4, a5, a6))
    (hp : n < 7 → ∀ b1 b2 b3 b4 b5, cc_K n a1 a2 a3 a4 a5 b1 b2 b3 b4 b5 → cc_inv (n + 1) b3 b4 b5 → post (nI n) (nI (n + 1), b1, b2, b3, b4, b5, a6)) : wpX_write post (nI n, a1, a2, a3, a4, a5, a6) (nI u) (nI c) := by
  refine br_f (nI_pos (by omega)) (br_f (nI_nlt (a := 2) (by omega) (by omega)) (br_f (nI_pos (by omega)) (br_f (nI_nlt (a := 1) (by omega) (by omega)) (pk_lt n 7 (fun z => cc_w_enter hn hi (Or.inl rfl) (fun b1 b2 b3 b4 b5 k i => ?_)) (fun z => h7 (by omega))))))
  show post (nI (n + 1) - 1) (nI (n + 1), b1, b2, b3, b4, b5, a6)
  rw [nI_pred]
  exact hp z b1 b2 b3 b4 b5 k i
theorem cc_w_read {post : Int32 → St1 → Prop} {n u c : Nat} {src : Int32} {a1 a2 a3 a4 a5 a6 : Nat → Int32} (hn : n ≤ 7) (hu : u < 3) (hc : c < 2) (hi : cc_inv n a3 a4 a5)
    (h7 : post (-1) (nI n, a1, a2, a3, a4, a5, a6))
    (hp : n < 7 → ∀ b1 b2 b3 b4 b5, cc_K n a1 a2 a3 a4 a5 b1 b2 b3 b4 b5 → cc_inv (n + 1) b3 b4 b5 → post (nI n) (nI (n + 1), b1, b2, b3, b4, b5, a6)) : wpX_read post (nI n, a1, a2, a3, a4, a5, a6) (nI u) (nI c) src := by
  refine br_f (nI_pos (by omega)) (br_f (nI_nlt (a := 2) (by omega) (by omega)) (br_f (nI_pos (by omega)) (br_f (nI_nlt (a := 1) (by omega) (by omega)) (pk_le 7 n (fun _ => h7) (fun z => cc_w_source (by omega) (fun g => br_f (by decide) (cc_w_enter hn hi (Or.inr ⟨rfl, g⟩) (fun b1 b2 b3 b4 b5 k i => ?_))) (br_t rfl h7))))))
  show post (nI (n + 1) - 1) (nI (n + 1), b1, b2, b3, b4, b5, a6)
  rw [nI_pred]
  exact hp z b1 b2 b3 b4 b5 k i
end
section
/-! ===== walks: the law's state, holds, back ===== -/
theorem cc_iv_0 {p : Prop} : cc_iv p = 0 ↔ ¬ p := by
  rcases cc_iv_or p with ⟨h, e⟩ | ⟨h, e⟩
  · rw [e]; exact ⟨fun z => absurd z (by decide), fun z => absurd h z⟩
  · exact ⟨fun _ => h, fun _ => e⟩
theorem cc_iv_1 {p : Prop} : cc_iv p = 1 ↔ p := by
  rcases cc_iv_or p with ⟨h, e⟩ | ⟨h, e⟩
  · exact ⟨fun _ => h, fun _ => e⟩
  · rw [e]; exact ⟨fun z => absurd z (by decide), fun z => absurd z h⟩
theorem cc_iv_n {p : Prop} (h : ¬ cc_iv p = 0) : p := by
  rcases cc_iv_or p with ⟨q, _⟩ | ⟨_, e⟩
  · exact q
  · exact absurd e h
/-- what state(c, h) makes out of v -/
noncomputable def cc_sv (n : Nat) (us ce wr so E : Nat → Int32) (h : Nat) (v : Int32) : Int32 := cc_fo (fun o x => x * 4 + cc_iv (cc_weak n ce wr so E o) + 2 * cc_iv (cc_strong n us ce wr so E o)) h v
theorem cc_w_state {post : Int32 → St1 → Prop} {n h : Nat} {us ce wr so E a1 a2 a3 a4 a5 a6 : Nat → Int32} (hn : n ≤ 8) (hh : h ≤ n) (hi : cc_inv n wr so E) (k : cc_K n us ce wr so E a1 a2 a3 a4 a5)
    (hp : ∀ A, post (cc_sv n us ce wr so E h (cc_sd n us ce wr so E)) (nI n, a1, a2, a3, a4, a5, A)) : wpL_state post (nI n, a1, a2, a3, a4, a5, a6) (nI h) := by
  unfold wpL_state
  refine cc_w_sound hn hi k (fun A => ?_)
  refine pk_loop (σ := Int32 × (Nat → Int32)) (fun m i s => wL_state_7 post (nI h) m s.1 (nI i) (nI n) a1 a2 a3 a4 a5 s.2) (fun i s => s.1 = cc_sv n us ce wr so E i (cc_sd n us ce wr so E)) h 0 (cc_sd n us ce wr so E, A) (by omega) rfl ?_ ?_
  · intro m s q
    obtain ⟨x, B⟩ := s
    have e : x = cc_sv n us ce wr so E h (cc_sd n us ce wr so E) := q
    refine pk_le h h (fun _ => ?_) (fun z => absurd z (by omega))
    dsimp only
    rw [e]
    exact hp B
  · intro m i s hi' q hw
    obtain ⟨x, B⟩ := s
    have e : x = cc_sv n us ce wr so E i (cc_sd n us ce wr so E) := q
    refine pk_le h i (fun z => absurd z (by omega)) (fun _ => cc_w_weak hn (by omega) hi k (cc_w_strongP hn (by omega) hi k (fun B' => nm_e (nm_r (nI_1 i) (hw (_, B') ?_)))))
    dsimp only
    rw [e]
    rfl
theorem cc_w_h90 {post : Int32 → St1 → Prop} {J9 : Int32 → Int32 → Int32 → Int32 → (Nat → Int32) → (Nat → Int32) → (Nat → Int32) → (Nat → Int32) → (Nat → Int32) → (Nat → Int32) → Prop} {n o : Nat} {x2 x3 x4 x5 : Int32} {a1 a2 a3 a4 a5 a6 : Nat → Int32} (hn : n ≤ 8) (ho : o < n) (hi : cc_inv n a3 a4 a5) (hJ : J9 x4 x5 (nI (o + 1)) (nI n) a1 a2 a3 a4 a5 a6) :
    ∃ fu, wL_holds_90 post J9 (nI n) x2 x3 x4 x5 (nI o) (nI n) a1 a2 a3 a4 a5 a6 fu 0 := by
  refine pk_loop (σ := Unit) (fun m i _ => wL_holds_90 post J9 (nI n) x2 x3 x4 x5 (nI o) (nI n) a1 a2 a3 a4 a5 a6 m (nI i)) (fun _ _ => True) n 0 () (by omega) trivial (fun m _ h => pk_le n n (fun _ => nm_r (nI_1 o) hJ) (fun z => absurd z (by omega))) (fun m p _ hp h hw => pk_le n p (fun z => absurd z (by omega)) (fun _ => cc_w_before hn hp ho ?_))
  by_cases e : cb_t (a5 o) p = true
  · rw [if_pos e]
    have := (hi o ho).1 p e
    exact br_f (by decide) (br_t rfl (br_t (nI_lt this (by omega)) (nm_r (nI_1 p) (hw () trivial))))
  · rw [if_neg e]
    exact br_f (by decide) (br_f (by decide) (nm_r (nI_1 p) (hw () trivial)))
/-- the tail of holds -/
theorem cc_w_h158 {post : Int32 → St1 → Prop} {n u c : Nat} {x5 x6 z0 : Int32} {a1 a2 a3 a4 a5 a6 : Nat → Int32} (hn : n ≤ 7) (hu : u < 3) (hc : c < 2) (hi : cc_inv n a3 a4 a5)
    (h1 : x6 &&& 1 = z0) (h2 : (x5 = 0 ∧ (x6 >>> ((1 : Int32) &&& 31)) &&& 1 = 0) ∨ (x5 = 1 ∧ (x6 >>> ((1 : Int32) &&& 31)) &&& 1 = 1)) (h3 : x6 < 2 ∨ ¬ x6 &&& 1 = 0) (h4 : x6 ≤ 7) (h5 : x6 &&& 4 = 0 → ¬ cc_conv n a2 a3 a4 a5)
    (hp : ∀ b1 b2 b3 b4 b5 b6, cc_K n a1 a2 a3 a4 a5 b1 b2 b3 b4 b5 → post 1 (nI n, b1, b2, b3, b4, b5, b6)) : wL_holds_158 post (nI u) (nI c) x5 x6 z0 (x6 &&& 1) (nI n) a1 a2 a3 a4 a5 a6 := by
  have h193 : wL_holds_193 post (nI u) (nI c) x6 (nI n) a1 a2 a3 a4 a5 a6 := by
    refine br_t h4 (cc_w_choices hn hu hc hi (fun v b1 b2 b3 b4 b5 b6 k hv hz => ?_))
    obtain ⟨t, ht, e⟩ := hv
    have hv0 : ¬ v < 0 := by rw [e]; exact nI_pos (by omega)
    have hv1 : ¬ 256 ≤ v := by rw [e]; exact nI_ge (b := 256) ht (by omega)
    exact br_f hv0 (br_f hv1 (br_c (fun z => br_t (hz (h5 z)) (hp b1 b2 b3 b4 b5 b6 k)) (fun _ => hp b1 b2 b3 b4 b5 b6 k)))
  have h177 : ∀ z1, z1 = ((x6 >>> ((1 : Int32) &&& 31)) &&& 1) → wL_holds_177 post (nI u) (nI c) x6 z1 ((x6 >>> ((1 : Int32) &&& 31)) &&& 1) (nI n) a1 a2 a3 a4 a5 a6 := fun z1 e =>
    br_t e.symm (br_c (fun _ => h193) (fun q => br_f (h3.resolve_left q) h193))
  refine br_t h1 ?_
  rcases h2 with ⟨e, q⟩ | ⟨e, q⟩
  · exact br_t e (h177 0 q.symm)
  · exact br_f (by rw [e]; decide) (h177 1 q.symm)
theorem cc_w_holds {post : Int32 → St1 → Prop} {n u c : Nat} {a1 a2 a3 a4 a5 a6 : Nat → Int32} (hn : n ≤ 7) (hu : u < 3) (hc : c < 2) (hi : cc_inv n a3 a4 a5)
    (hp : ∀ b1 b2 b3 b4 b5 b6, cc_K n a1 a2 a3 a4 a5 b1 b2 b3 b4 b5 → post 1 (nI n, b1, b2, b3, b4, b5, b6)) : wpL_holds post (nI n, a1, a2, a3, a4, a5, a6) (nI n) (nI u) (nI c) := by
  have k : cc_K n a1 a2 a3 a4 a5 a1 a2 a3 a4 a5 := cc_K_refl
  refine pk_loop (σ := Int32 × Int32 × (Nat → Int32)) (fun m i s => wL_holds_9 post (nI n) (nI u) (nI c) m s.1 s.2.1 (nI i) (nI n) a1 a2 a3 a4 a5 s.2.2) (fun i s => s.1 = cc_iv (∀ o, o < i → cc_weak n a2 a3 a4 a5 o) ∧ s.2.1 = cc_iv (∀ o, o < i → cc_strong n a1 a2 a3 a4 a5 o)) n 0 (1, 1, a6) (by omega) ⟨(cc_iv_t (fun o ho => absurd ho (by omega))).symm, (cc_iv_t (fun o ho => absurd ho (by omega))).symm⟩ ?_ ?_
  · intro m s h
    obtain ⟨x, y, A⟩ := s
    have e1 : x = cc_iv (∀ o, o < n → cc_weak n a2 a3 a4 a5 o) := h.1
    have e2 : y = cc_iv (∀ o, o < n → cc_strong n a1 a2 a3 a4 a5 o) := h.2
    refine pk_le n n (fun _ => cc_w_sound (by omega) hi k (fun A' => ?_)) (fun z => absurd z (by omega))
    have hsw : (∀ o, o < n → cc_strong n a1 a2 a3 a4 a5 o) → ∀ o, o < n → cc_weak n a2 a3 a4 a5 o := fun g o ho => cc_A (by omega) hi ho (g o ho)
    have hcw : cc_conv n a2 a3 a4 a5 → ∀ o, o < n → cc_weak n a2 a3 a4 a5 o := fun g o ho => cc_B (by omega) hi g ho
    unfold cc_sd
    rcases cc_iv_or (∀ o, o < n → cc_weak n a2 a3 a4 a5 o) with ⟨g1, q1⟩ | ⟨g1, q1⟩
    · rw [q1] at e1 ⊢
      rcases cc_iv_or (∀ o, o < n → cc_strong n a1 a2 a3 a4 a5 o) with ⟨g2, q2⟩ | ⟨g2, q2⟩
      · rw [q2] at e2 ⊢
        rcases cc_iv_or (cc_conv n a2 a3 a4 a5) with ⟨g3, q3⟩ | ⟨g3, q3⟩
        · rw [q3]
          exact br_f (by rw [e1]; exact cc_10) (cc_w_h158 hn hu hc hi (by decide) (Or.inr ⟨e2, by decide⟩) (Or.inr (by decide)) (by decide) (fun z => absurd z (by decide)) hp)
        · rw [q3]
          exact br_f (by rw [e1]; exact cc_10) (cc_w_h158 hn hu hc hi (by decide) (Or.inr ⟨e2, by decide⟩) (Or.inr (by decide)) (by decide) (fun _ => g3) hp)
      · rw [q2] at e2 ⊢
        rcases cc_iv_or (cc_conv n a2 a3 a4 a5) with ⟨g3, q3⟩ | ⟨g3, q3⟩
        · rw [q3]
          exact br_f (by rw [e1]; exact cc_10) (cc_w_h158 hn hu hc hi (by decide) (Or.inl ⟨e2, by decide⟩) (Or.inr (by decide)) (by decide) (fun z => absurd z (by decide)) hp)
        · rw [q3]
          exact br_f (by rw [e1]; exact cc_10) (cc_w_h158 hn hu hc hi (by decide) (Or.inl ⟨e2, by decide⟩) (Or.inr (by decide)) (by decide) (fun _ => g3) hp)
    · have q2 := cc_iv_f (fun g => g1 (hsw g))
      have g3 : ¬ cc_conv n a2 a3 a4 a5 := fun g => g1 (hcw g)
      rw [q1] at e1 ⊢
      rw [q2] at e2 ⊢
      rw [cc_iv_f g3]
      exact br_t e1 (cc_w_h158 hn hu hc hi (by decide) (Or.inl ⟨e2, by decide⟩) (Or.inl (by decide)) (by decide) (fun _ => g3) hp)
  · intro m i s hi' h hw
    obtain ⟨x, y, A⟩ := s
    have e1 : x = cc_iv (∀ o, o < i → cc_weak n a2 a3 a4 a5 o) := h.1
    have e2 : y = cc_iv (∀ o, o < i → cc_strong n a1 a2 a3 a4 a5 o) := h.2
    refine pk_le n i (fun z => absurd z (by omega)) (fun _ => cc_w_weak (by omega) hi' hi k (cc_w_strongP (by omega) hi' hi k (fun A' => ?_)))
    have h67 : ∀ z0, z0 = cc_iv (∀ o, o < i + 1 → cc_weak n a2 a3 a4 a5 o) → wL_holds_67 post (wL_holds_9 post (nI n) (nI u) (nI c) m) (nI n) (nI u) (nI c) y (nI i) (cc_iv (cc_strong n a1 a2 a3 a4 a5 i)) z0 (nI n) a1 a2 a3 a4 a5 A' := by
      intro z0 ez
      have go : ∀ y', y' = cc_iv (∀ o, o < i + 1 → cc_strong n a1 a2 a3 a4 a5 o) → ∃ fu, wL_holds_90 post (wL_holds_9 post (nI n) (nI u) (nI c) m) (nI n) (nI u) (nI c) z0 y' (nI i) (nI n) a1 a2 a3 a4 a5 A' fu 0 := fun y' ey => cc_w_h90 (by omega) hi' hi (hw (z0, y', A') ⟨ez, ey⟩)
      refine br_c (fun q => go 0 ?_) (fun q => br_c (fun q2 => go 1 ?_) (fun q2 => go 0 ?_))
      · rw [e2] at q
        exact (cc_iv_f (fun g => cc_iv_0.mp q (fun o ho => g o (by omega)))).symm
      · rw [e2] at q
        exact (cc_iv_t (lt_s (cc_iv_n q) (cc_iv_1.mp q2))).symm
      · exact (cc_iv_f (fun g => q2 (cc_iv_t (g i (by omega))))).symm
    have hs0 : ¬ cc_iv (cc_strong n a1 a2 a3 a4 a5 i) < 0 := by
      rcases cc_iv_or (cc_strong n a1 a2 a3 a4 a5 i) with ⟨_, q⟩ | ⟨_, q⟩
      · rw [q]; decide
      · rw [q]; decide
    rcases cc_iv_or (cc_weak n a2 a3 a4 a5 i) with ⟨g, q⟩ | ⟨g, q⟩
    · rw [q]
      have hs1 : ¬ (1 : Int32) < cc_iv (cc_strong n a1 a2 a3 a4 a5 i) := by
        rcases cc_iv_or (cc_strong n a1 a2 a3 a4 a5 i) with ⟨_, q⟩ | ⟨_, q⟩
        · rw [q]; decide
        · rw [q]; decide
      refine br_f hs1 (br_f hs0 (br_t (by decide) (br_c (fun z => h67 0 ?_) (fun z => br_t rfl (h67 1 ?_)))))
      · rw [e1] at z
        exact (cc_iv_f (fun g => cc_iv_0.mp z (fun o ho => g o (by omega)))).symm
      · rw [e1] at z
        exact (cc_iv_t (lt_s (cc_iv_n z) g)).symm
    · rw [q]
      have hs1 : ¬ (0 : Int32) < cc_iv (cc_strong n a1 a2 a3 a4 a5 i) := by
        rw [cc_iv_f (fun t => g (cc_A (by omega) hi hi' t))]
        decide
      have ez : (0 : Int32) = cc_iv (∀ o, o < i + 1 → cc_weak n a2 a3 a4 a5 o) := (cc_iv_f (fun t => g (t i (by omega)))).symm
      exact br_f hs1 (br_f hs0 (br_t (by decide) (br_c (fun _ => h67 0 ez) (fun _ => br_f (by decide) (h67 0 ez)))))
theorem cc_w_b88 {post : Int32 → St1 → Prop} {n : Nat} {a1 a2 a3 a4 a5 b1 b2 b3 b4 b5 b6 : Nat → Int32} (hn : n ≤ 7) (hi : cc_inv n a3 a4 a5) (k : cc_K n a1 a2 a3 a4 a5 b1 b2 b3 b4 b5)
    (hp : ∀ b1 b2 b3 b4 b5 b6, cc_K n a1 a2 a3 a4 a5 b1 b2 b3 b4 b5 → post 1 (nI n, b1, b2, b3, b4, b5, b6)) : wL_back_88 post (nI n) (cc_sv n a1 a2 a3 a4 a5 n (cc_sd n a1 a2 a3 a4 a5)) (nI n) b1 b2 b3 b4 b5 b6 :=
  cc_w_state (by omega) (Nat.le_refl n) hi k (fun A => br_t rfl (hp b1 b2 b3 b4 b5 A k))
theorem cc_w_bk {post : Int32 → St1 → Prop} {n : Nat} {b1 b2 b3 b4 b5 b6 : Nat → Int32} (hn : n ≤ 7) (hp : post (nI n) (nI n, b1, b2, b3, b4, b5, b6)) : wpX_back post (nI (n + 1), b1, b2, b3, b4, b5, b6) :=
  br_f (nI_ne0 (by omega) (by omega)) (nm_r (nI_pred n) hp)
theorem cc_w_b57 {post : Int32 → St1 → Prop} {n u c : Nat} {src : Int32} {a1 a2 a3 a4 a5 b1 b2 b3 b4 b5 b6 : Nat → Int32} (hn : n ≤ 7) (hu : u < 3) (hc : c < 2) (hi : cc_inv n a3 a4 a5) (k : cc_K n a1 a2 a3 a4 a5 b1 b2 b3 b4 b5)
    (hp : ∀ b1 b2 b3 b4 b5 b6, cc_K n a1 a2 a3 a4 a5 b1 b2 b3 b4 b5 → post 1 (nI n, b1, b2, b3, b4, b5, b6)) : wL_back_57 post (nI n) (nI u) (nI c) src (cc_sv n a1 a2 a3 a4 a5 n (cc_sd n a1 a2 a3 a4 a5)) (nI n) b1 b2 b3 b4 b5 b6 := by
  unfold wL_back_57
  exact cc_w_read hn hu hc (cc_K_inv k hi) (br_t (by decide) (cc_w_b88 hn hi k hp)) (fun _ d1 d2 d3 d4 d5 k' _ => br_f (nI_pos (by omega)) (br_t rfl (cc_w_bk hn (br_t rfl (cc_w_b88 hn hi (cc_K_tr k k') hp)))))
theorem cc_w_lback {post : Int32 → St1 → Prop} {n u c : Nat} {src : Int32} {a1 a2 a3 a4 a5 a6 : Nat → Int32} (hn : n ≤ 7) (hu : u < 3) (hc : c < 2) (hi : cc_inv n a3 a4 a5)
    (hp : ∀ b1 b2 b3 b4 b5 b6, cc_K n a1 a2 a3 a4 a5 b1 b2 b3 b4 b5 → post 1 (nI n, b1, b2, b3, b4, b5, b6)) : wpL_back post (nI n, a1, a2, a3, a4, a5, a6) (nI n) (nI u) (nI c) src := by
  unfold wpL_back
  refine cc_w_state (us := a1) (by omega) (Nat.le_refl n) hi cc_K_refl (fun A => ?_)
  refine cc_w_write hn hu hc hi (fun z => ?_) (fun z b1 b2 b3 b4 b5 k _ => ?_)
  · subst z
    exact br_t (by decide) (br_f (by decide) (br_t (by decide) (cc_w_b57 hn hu hc hi cc_K_refl hp)))
  · exact br_f (nI_pos (by omega)) (br_t rfl (cc_w_bk hn (br_t rfl (cc_w_state (by omega) (Nat.le_refl n) hi k (fun B => br_t rfl (br_t (nI_pos' (by omega)) (cc_w_b57 hn hu hc hi k hp)))))))
end
section
/-! ===== the law ===== -/
theorem cc_p4 : ∀ h, h < 7 → (1 : Int32) <<< ((2 * nI (h + 1)) &&& 31) = ((1 : Int32) <<< ((2 * nI h) &&& 31)) * 4 := by decide +kernel
theorem cc_sv_lin (n : Nat) (us ce wr so E : Nat → Int32) (v : Int32) : ∀ h, h ≤ 7 → cc_sv n us ce wr so E h v = v * ((1 : Int32) <<< ((2 * nI h) &&& 31)) + cc_sv n us ce wr so E h 0 := by
  intro h
  induction h with
  | zero =>
    intro _
    show v = v * ((1 : Int32) <<< ((2 * nI 0) &&& 31)) + 0
    rw [show (1 : Int32) <<< ((2 * nI 0) &&& 31) = 1 by decide]
    grind
  | succ h ih =>
    intro hh
    show cc_sv n us ce wr so E h v * 4 + cc_iv (cc_weak n ce wr so E h) + 2 * cc_iv (cc_strong n us ce wr so E h) = v * ((1 : Int32) <<< ((2 * nI (h + 1)) &&& 31)) + (cc_sv n us ce wr so E h 0 * 4 + cc_iv (cc_weak n ce wr so E h) + 2 * cc_iv (cc_strong n us ce wr so E h))
    rw [ih (by omega), cc_p4 h (by omega)]
    grind
theorem cc_sv_sub (n : Nat) (us ce wr so E : Nat → Int32) (v : Int32) {h : Nat} (hh : h ≤ 7) : cc_sv n us ce wr so E h v - v * ((1 : Int32) <<< ((2 * nI h) &&& 31)) = cc_sv n us ce wr so E h 0 := by
  rw [cc_sv_lin n us ce wr so E v h hh]
  grind
theorem cc_sv_D {n : Nat} {us ce wr so E us' ce' wr' so' E' : Nat → Int32} (k : cc_K n us ce wr so E us' ce' wr' so' E') (hi : cc_inv n wr so E) (hi' : cc_inv (n + 1) wr' so' E') (hn : n ≤ 8) : cc_sv (n + 1) us' ce' wr' so' E' n 0 = cc_sv n us ce wr so E n 0 := by
  unfold cc_sv
  refine cc_fo_rel (Q := fun x y => x = y) n _ _ rfl (fun o x y ho e => ?_)
  rw [e, cc_iv_e (cc_D1 k hi ho), cc_iv_e (cc_D2 k hi (hi' n (by omega)).1 hn ho)]
theorem cc_w_210 {post : Int32 → Prop} {L : Nat} {xs : Nat → Int32} {J12 : Int32 → Int32 → Int32 → (Nat → Int32) → (Nat → Int32) → (Nat → Int32) → (Nat → Int32) → (Nat → Int32) → (Nat → Int32) → Prop} {n i u c kc ks : Nat} {src : Int32} {a1 a2 a3 a4 a5 a6 : Nat → Int32} (hn : n ≤ 7) (hu : u < 3) (hc : c < 2) (hi : cc_inv n a3 a4 a5)
    (hJ : ∀ b1 b2 b3 b4 b5 b6, cc_inv n b3 b4 b5 → J12 (nI n) (nI (i + 2)) (nI n) b1 b2 b3 b4 b5 b6) : wL_law_210 post L xs J12 (nI n) (nI i) (nI u) (nI c) src kc ks (nI n) a1 a2 a3 a4 a5 a6 := by
  unfold wL_law_210
  refine cc_w_holds hn hu hc hi (fun b1 b2 b3 b4 b5 b6 k => br_f (by decide) ⟨by decide, ?_⟩)
  have e1 : (nI u + 1) - (nI u + 1) / 3 * 3 = nI ((u + 1) % 3) := by
    rw [nI_1]
    exact pk_rem (d := 3) (by omega) (by omega) (by omega)
  have e2 : 1 - nI c = nI (1 - c) := pk_sub (a := 1) (by omega)
  rw [e1, e2]
  have hi2 := cc_K_inv k hi
  exact cc_w_lback hn (by omega) (by omega) hi2 (fun d1 d2 d3 d4 d5 d6 k' => br_f (by decide) (nm_r (nI_add i 2) (hJ d1 d2 d3 d4 d5 d6 (cc_K_inv k' hi2))))
theorem cc_w_law {post : Int32 → Prop} {L : Nat} {xs : Nat → Int32} {kc ks : Nat} (hL : L ≤ 260) (h1 : post 1) (a1 a2 a3 a4 a5 a6 : Nat → Int32) : ∃ fu, wL_law_12 post L xs kc ks fu 0 0 0 a1 a2 a3 a4 a5 a6 := by
  refine loop_m (σ := Nat × Nat × (Nat → Int32) × (Nat → Int32) × (Nat → Int32) × (Nat → Int32) × (Nat → Int32) × (Nat → Int32)) (fun m s => wL_law_12 post L xs kc ks m (nI s.1) (nI s.2.1) (nI s.1) s.2.2.1 s.2.2.2.1 s.2.2.2.2.1 s.2.2.2.2.2.1 s.2.2.2.2.2.2.1 s.2.2.2.2.2.2.2)
    (fun s => s.1 ≤ 7 ∧ s.2.1 ≤ 61 ∧ cc_inv s.1 s.2.2.2.2.1 s.2.2.2.2.2.1 s.2.2.2.2.2.2.1) (fun s => 62 - s.2.1) ?_ (0, 0, a1, a2, a3, a4, a5, a6) ⟨Nat.zero_le 7, Nat.zero_le 61, fun i hi => absurd hi (Nat.not_lt_zero i)⟩
  intro m s h hw
  obtain ⟨n, i, b1, b2, b3, b4, b5, b6⟩ := s
  have hn : n ≤ 7 := h.1
  have hi1 : i ≤ 61 := h.2.1
  have hi : cc_inv n b3 b4 b5 := h.2.2
  refine pk_lt L (i + 2) (fun _ => h1) (fun zL => ?_) rfl (nI_add i 2)
  refine pk_le 60 i (fun _ => h1) (fun z60 => ?_)
  obtain ⟨kk, hk, ek⟩ := pk_andE (xs (nI i).toNatClampNeg) (m := 15) 4 (by rfl)
  obtain ⟨t, ht, et⟩ := pk_andE (xs (nI i + 1).toNatClampNeg) (m := 255) 8 (by rfl)
  obtain ⟨c, hc, ec⟩ := pk_andE ((xs (nI i + 1).toNatClampNeg) >>> ((8 : Int32) &&& 31)) (m := 1) 1 (by rfl)
  have e5 : ((xs (nI i + 1).toNatClampNeg) &&& 255) - ((xs (nI i + 1).toNatClampNeg) &&& 255) / 3 * 3 = nI (t % 3) := by
    rw [et]
    exact pk_rem (d := 3) (by omega) (by omega) (by omega)
  have hin : vp_in (nI i + 1) L := pk_in (i + 1) L (by omega) (nI_1 i) (by omega)
  refine ⟨pk_in i L (by omega) rfl (by omega), nm_r ek ⟨hin, by decide, nm_r e5 ⟨hin, nm_r ec ⟨hin, nm_e ?_⟩⟩⟩⟩
  have hu : t % 3 < 3 := Nat.mod_lt t (by omega)
  have hc' : c < 2 := hc
  have next : ∀ n' src, n' ≤ 7 → ∀ d1 d2 d3 d4 d5 d6, cc_inv n' d3 d4 d5 → wL_law_210 post L xs (wL_law_12 post L xs kc ks m) (nI n') (nI i) (nI (t % 3)) (nI c) src kc ks (nI n') d1 d2 d3 d4 d5 d6 := fun n' src hn' d1 d2 d3 d4 d5 d6 hd =>
    cc_w_210 hn' hu hc' hd (fun f1 f2 f3 f4 f5 f6 hf => hw (n', i + 2, f1, f2, f3, f4, f5, f6) ⟨hn', by show i + 2 ≤ 61; omega, hf⟩ (by show 62 - (i + 2) < 62 - i; omega))
  refine pk_lt 5 kk (fun _ => pk_lt 12 kk (fun _ => ?_) (fun _ => ?_)) (fun _ => ?_)
  · cases n with
    | zero => exact br_t rfl (br_t rfl (br_t rfl (br_t rfl (next 0 _ (by omega) _ _ _ _ _ _ hi))))
    | succ n =>
      have nz : ¬ nI (n + 1) = 0 := nI_ne0 (by omega) (by omega)
      refine cc_w_bk (by omega) (br_f nz (br_t (nI_pred n).symm (br_f nz ?_)))
      rw [nI_pred]
      exact next n _ (by omega) _ _ _ _ _ _ (cc_inv_le (by omega) hi)
  · refine cc_w_read hn hu hc' hi (br_t (by decide) (next n _ hn _ _ _ _ _ _ hi)) (fun z d1 d2 d3 d4 d5 k' hd => br_f (nI_pos (by omega)) ?_)
    rw [nI_1 n]
    exact next (n + 1) _ (by omega) _ _ _ _ _ _ hd
  · refine cc_w_state (us := b1) (by omega) (Nat.le_refl n) hi cc_K_refl (fun A1 => cc_w_sound (us := b1) (by omega) hi cc_K_refl (fun A2 => nm_r (cc_sv_sub n b1 b2 b3 b4 b5 _ hn) ?_))
    refine cc_w_write hn hu hc' hi (fun _ => br_t (by decide) (next n _ hn _ _ _ _ _ _ hi)) (fun z d1 d2 d3 d4 d5 k' hd => br_f (nI_pos (by omega)) ?_)
    refine cc_w_state (us := d1) (n := n + 1) (by omega) (by omega) hd cc_K_refl (fun A3 => cc_w_sound (us := d1) (n := n + 1) (by omega) hd cc_K_refl (fun A4 => br_t ?_ (nm_r (nI_1 n) (next (n + 1) _ (by omega) _ _ _ _ _ _ hd))))
    rw [cc_sv_sub (n + 1) d1 d2 d3 d4 d5 _ hn]
    exact cc_sv_D k' hi hd (by omega)
theorem i_vc (xs : Nat → Int32) (L : Nat) (hL : L ≤ 260) : wpL_law (fun r => r = 1) L xs :=
  ⟨6, 48, by omega, by omega, by decide, by decide, by decide, by decide, by decide, by decide, by decide, by decide, by decide, by decide, by decide, by decide, cc_w_law (post := fun r => r = 1) hL rfl _ _ _ _ _ _⟩
end
