section
/-! ===== bits of an Int32 (the family 'Int32 by its bits' of the kit's BITS.to-paste, names changed) ===== -/
def ds_bt (x : Int32) (i : Nat) : Bool := x.toBitVec.getLsbD i
theorem ds_ext {x y : Int32} (h : ∀ i, i < 32 → ds_bt x i = ds_bt y i) : x = y := Int32.toBitVec_inj.mp (BitVec.eq_of_getLsbD_eq (fun i hi => h i hi))
theorem ds_bor (x y : Int32) (i : Nat) : ds_bt (x ||| y) i = (ds_bt x i || ds_bt y i) := by unfold ds_bt; rw [Int32.toBitVec_or, BitVec.getLsbD_or]
theorem ds_band (x y : Int32) (i : Nat) : ds_bt (x &&& y) i = (ds_bt x i && ds_bt y i) := by unfold ds_bt; rw [Int32.toBitVec_and, BitVec.getLsbD_and]
theorem ds_bxor (x y : Int32) (i : Nat) : ds_bt (x ^^^ y) i = (ds_bt x i ^^ ds_bt y i) := by unfold ds_bt; rw [Int32.toBitVec_xor, BitVec.getLsbD_xor]
theorem ds_big {x : Int32} {i : Nat} (h : 32 ≤ i) : ds_bt x i = false := BitVec.getLsbD_of_ge _ _ h
theorem ds_bm1 : ∀ i, i < 32 → ds_bt (-1) i = true := by decide +kernel
theorem ds_b0 (i : Nat) : ds_bt 0 i = false := BitVec.getLsbD_zero
theorem ds_b1 : ∀ i, i < 32 → ds_bt 1 i = decide (i = 0) := by decide +kernel
theorem ds_b127 : ∀ i, i < 32 → ds_bt 127 i = decide (i < 7) := by decide +kernel
theorem ds_sl : ∀ n, n < 32 → ((nI n &&& 31).toBitVec.smod 32).toNat = n := by decide +kernel
theorem ds_bshr (n : Nat) (hn : n < 32) (x : Int32) {i : Nat} (hi : i < 32) : ds_bt (x >>> (nI n &&& 31)) i = if n + i < 32 then ds_bt x (n + i) else ds_bt x 31 := by
  unfold ds_bt
  rw [Int32.toBitVec_shiftRight]
  show (x.toBitVec.sshiftRight ((nI n &&& 31).toBitVec.smod 32).toNat).getLsbD i = _
  rw [ds_sl n hn, BitVec.getLsbD_sshiftRight, BitVec.msb_eq_getLsbD_last]
  simp [hi]
theorem ds_bit (x : Int32) {i : Nat} (hi : i < 7) : ((x >>> (nI i &&& 31)) &&& 1) = if ds_bt x i = true then 1 else 0 := by
  apply ds_ext
  intro j hj
  rw [ds_band, ds_bshr i (by omega) x hj, ds_b1 j hj]
  by_cases h : ds_bt x i = true
  · rw [if_pos h, ds_b1 j hj]
    by_cases e : j = 0
    · subst e
      rw [if_pos (by omega)]
      simp [h]
    · simp [e]
  · rw [if_neg h, ds_b0]
    by_cases e : j = 0
    · subst e
      rw [if_pos (by omega)]
      simp at h
      simp [h]
    · simp [e]
/-! ===== masks of seven bits: ds_R x f, x is the mask of f ===== -/
def ds_R (x : Int32) (f : Nat → Prop) : Prop := (∀ i, i < 7 → (ds_bt x i = true ↔ f i)) ∧ ∀ i, 7 ≤ i → ds_bt x i = false
theorem ds_Rx {x y : Int32} {f g : Nat → Prop} (hx : ds_R x f) (hy : ds_R y g) (h : ∀ i, i < 7 → (f i ↔ g i)) : x = y :=
  ds_ext (fun i _ => by
    rcases Nat.lt_or_ge i 7 with hi | hi
    · have e : ds_bt x i = true ↔ ds_bt y i = true := (hx.1 i hi).trans ((h i hi).trans (hy.1 i hi).symm)
      exact Bool.eq_iff_iff.mpr e
    · rw [hx.2 i hi, hy.2 i hi])
theorem ds_Rc {x : Int32} {f g : Nat → Prop} (hx : ds_R x f) (h : ∀ i, i < 7 → (f i ↔ g i)) : ds_R x g := ⟨fun i hi => (hx.1 i hi).trans (h i hi), hx.2⟩
theorem ds_R0 : ds_R 0 (fun _ => False) := ⟨fun i _ => by rw [ds_b0]; simp, fun i _ => ds_b0 i⟩
theorem ds_Ror {x y : Int32} {f g : Nat → Prop} (hx : ds_R x f) (hy : ds_R y g) : ds_R (x ||| y) (fun i => f i ∨ g i) :=
  ⟨fun i hi => by rw [ds_bor, Bool.or_eq_true, hx.1 i hi, hy.1 i hi], fun i hi => by rw [ds_bor, hx.2 i hi, hy.2 i hi]; rfl⟩
theorem ds_Rand {x y : Int32} {f g : Nat → Prop} (hx : ds_R x f) (hy : ds_R y g) : ds_R (x &&& y) (fun i => f i ∧ g i) :=
  ⟨fun i hi => by rw [ds_band, Bool.and_eq_true, hx.1 i hi, hy.1 i hi], fun i hi => by rw [ds_band, hx.2 i hi, hy.2 i hi]; rfl⟩
theorem ds_Rdn {x y : Int32} {f g : Nat → Prop} (hx : ds_R x f) (hy : ds_R y g) : ds_R (x &&& (y ^^^ (-1))) (fun i => f i ∧ ¬ g i) :=
  ⟨fun i hi => by
    show ds_bt (x &&& (y ^^^ (-1))) i = true ↔ f i ∧ ¬ g i
    rw [ds_band, ds_bxor, ds_bm1 i (by omega), Bool.and_eq_true, hx.1 i hi, ← hy.1 i hi]
    cases ds_bt y i <;> simp,
   fun i hi => by rw [ds_band, hx.2 i hi, Bool.false_and]⟩
theorem ds_k1 : ∀ i, i < 7 → ∀ j, j < 32 → ds_bt ((1 : Int32) <<< (nI i &&& 31)) j = decide (j = i) := by decide +kernel
theorem ds_R1 {i : Nat} (hi : i < 7) : ds_R ((1 : Int32) <<< (nI i &&& 31)) (fun j => j = i) :=
  ⟨fun j hj => by rw [ds_k1 i hi j (by omega), decide_eq_true_iff],
   fun j hj => by
    rcases Nat.lt_or_ge j 32 with h | h
    · rw [ds_k1 i hi j h]
      exact decide_eq_false (by omega)
    · exact ds_big h⟩
theorem ds_Rt {x : Int32} {f : Nat → Prop} {i : Nat} (hx : ds_R x f) (hi : i < 7) (h : f i) : ((x >>> (nI i &&& 31)) &&& 1) = 1 := by
  rw [ds_bit x hi, if_pos ((hx.1 i hi).mpr h)]
theorem ds_Rf {x : Int32} {f : Nat → Prop} {i : Nat} (hx : ds_R x f) (hi : i < 7) (h : ¬ f i) : ((x >>> (nI i &&& 31)) &&& 1) = 0 := by
  rw [ds_bit x hi, if_neg (fun z => h ((hx.1 i hi).mp z))]
theorem ds_Rb {x : Int32} {f : Nat → Prop} {i : Nat} (hx : ds_R x f) (hi : i < 7) : ((x >>> (nI i &&& 31)) &&& 1) = 0 ↔ ¬ f i :=
  ⟨fun e h => by rw [ds_Rt hx hi h] at e; exact absurd e (by decide), fun h => ds_Rf hx hi h⟩
theorem ds_Rz {x : Int32} {f : Nat → Prop} (hx : ds_R x f) : x = 0 ↔ ∀ i, i < 7 → ¬ f i :=
  ⟨fun e i hi h => by
    have t := (hx.1 i hi).mpr h
    rw [e, ds_b0] at t
    exact absurd t (by decide),
   fun h => ds_Rx hx ds_R0 (fun i hi => ⟨fun z => h i hi z, False.elim⟩)⟩
/-- (e & ~seen & 1 << c) == 0 -/
theorem ds_Rn {x y : Int32} {f g : Nat → Prop} {c : Nat} (hx : ds_R x f) (hy : ds_R y g) (hc : c < 7) : ((x &&& (y ^^^ (-1))) &&& ((1 : Int32) <<< (nI c &&& 31))) = 0 ↔ ¬ (f c ∧ ¬ g c) :=
  (ds_Rz (ds_Rand (ds_Rdn hx hy) (ds_R1 hc))).trans ⟨fun h z => h c hc ⟨z, rfl⟩, fun h i _ z => h (z.2 ▸ z.1)⟩
theorem ds_shl0 : ∀ i, i < 7 → (0 : Int32) <<< (nI i &&& 31) = 0 := by decide +kernel
/-- ((x >> c & 1) << i) -/
theorem ds_Rs {x : Int32} {f : Nat → Prop} {c i : Nat} (hx : ds_R x f) (hc : c < 7) (hi : i < 7) : ds_R (((x >>> (nI c &&& 31)) &&& 1) <<< (nI i &&& 31)) (fun j => j = i ∧ f c) := by
  by_cases h : f c
  · rw [ds_Rt hx hc h]
    exact ds_Rc (ds_R1 hi) (fun j _ => ⟨fun z => ⟨z, h⟩, fun z => z.1⟩)
  · rw [ds_Rf hx hc h, ds_shl0 i hi]
    exact ds_Rc ds_R0 (fun j _ => ⟨False.elim, fun z => h z.2⟩)
theorem ds_Rnat {x : Int32} {f : Nat → Prop} (hx : ds_R x f) : ∃ n, n < 128 ∧ x = nI n := by
  have e : x &&& 127 = x := ds_ext (fun i hi => by
    rw [ds_band, ds_b127 i hi]
    rcases Nat.lt_or_ge i 7 with h | h
    · rw [decide_eq_true h, Bool.and_true]
    · rw [hx.2 i h, Bool.false_and])
  obtain ⟨j, hj, h⟩ := pk_andE x (m := 127) 7 (by decide)
  exact ⟨j, hj, e.symm.trans h⟩
theorem ds_R127 (x : Int32) : ds_R (x &&& 127) (fun i => ds_bt (x &&& 127) i = true) :=
  ⟨fun i _ => Iff.rfl, fun i h => by
    rw [ds_band]
    rcases Nat.lt_or_ge i 32 with g | g
    · rw [ds_b127 i g, decide_eq_false (by omega), Bool.and_false]
    · rw [ds_big g, Bool.false_and]⟩
/-- a set of one -/
def ds_one (f : Nat → Prop) : Prop := ∃ c, c < 7 ∧ ∀ j, j < 7 → (f j ↔ j = c)
theorem ds_s1 : ∀ n, n < 128 → ¬ nI n = 0 → nI n &&& (nI n - 1) = 0 → n.log2 < 7 ∧ nI n = (1 : Int32) <<< (nI n.log2 &&& 31) := by decide +kernel
theorem ds_s2 : ∀ c, c < 7 → ¬ (1 : Int32) <<< (nI c &&& 31) = 0 ∧ ((1 : Int32) <<< (nI c &&& 31)) &&& ((1 : Int32) <<< (nI c &&& 31) - 1) = 0 := by decide +kernel
theorem ds_sg {x : Int32} {f : Nat → Prop} (hx : ds_R x f) : (¬ x = 0 ∧ x &&& (x - 1) = 0) ↔ ds_one f := by
  constructor
  · rintro ⟨h0, h1⟩
    obtain ⟨n, hn, e⟩ := ds_Rnat hx
    subst e
    obtain ⟨hc, e⟩ := ds_s1 n hn h0 h1
    refine ⟨_, hc, fun j hj => ?_⟩
    rw [e] at hx
    exact (hx.1 j hj).symm.trans ((ds_R1 hc).1 j hj)
  · rintro ⟨c, hc, h⟩
    have e := ds_Rx hx (ds_R1 hc) h
    rw [e]
    exact ds_s2 c hc
/-! a union built up place by place -/
theorem ds_st0 {x : Int32} {k : Nat} {T : Nat → Nat → Prop} (h : ds_R x (fun i => ∃ c, c < k ∧ T c i)) (hn : ∀ i, i < 7 → ¬ T k i) : ds_R x (fun i => ∃ c, c < k + 1 ∧ T c i) :=
  ds_Rc h (fun i hi => ⟨fun ⟨c, hc, t⟩ => ⟨c, by omega, t⟩, fun ⟨c, hc, t⟩ => by
    by_cases e : c = k
    · subst e
      exact absurd t (hn i hi)
    · exact ⟨c, by omega, t⟩⟩)
theorem ds_st1 {x y : Int32} {k : Nat} {T : Nat → Nat → Prop} {g : Nat → Prop} (h : ds_R x (fun i => ∃ c, c < k ∧ T c i)) (hy : ds_R y g) (hg : ∀ i, i < 7 → (g i ↔ T k i)) : ds_R (x ||| y) (fun i => ∃ c, c < k + 1 ∧ T c i) :=
  ds_Rc (ds_Ror h hy) (fun i hi => ⟨fun z => by
    rcases z with ⟨c, hc, t⟩ | t
    · exact ⟨c, by omega, t⟩
    · exact ⟨k, by omega, (hg i hi).mp t⟩, fun ⟨c, hc, t⟩ => by
    by_cases e : c = k
    · subst e
      exact Or.inr ((hg i hi).mpr t)
    · exact Or.inl ⟨c, by omega, t⟩⟩)
theorem ds_stI (T : Nat → Nat → Prop) : ds_R 0 (fun i => ∃ c, c < 0 ∧ T c i) :=
  ds_Rc ds_R0 (fun i _ => ⟨False.elim, fun ⟨c, hc, _⟩ => absurd hc (by omega)⟩)
/-! a partner: -1 or a place -/
def ds_o : Option Nat → Int32
  | none => -1
  | some c => nI c
theorem ds_oL {o : Option Nat} {x : Int32} {A B : Prop} (hx : x = ds_o o) (hc : ∀ c, o = some c → c < 7) (f : o = none → A) (g : ∀ c, o = some c → B) : (x < 0 → A) ∧ (¬ x < 0 → B) := by
  subst hx
  cases o with
  | none => exact br_t (by decide) (f rfl)
  | some c => exact br_f (nI_pos (by have := hc c rfl; omega)) (g c rfl)
theorem ds_oG {o : Option Nat} {x : Int32} {A B : Prop} (hx : x = ds_o o) (hc : ∀ c, o = some c → c < 7) (f : o = none → A) (g : ∀ c, o = some c → B) : (0 ≤ x → B) ∧ (¬ 0 ≤ x → A) := by
  subst hx
  cases o with
  | none => exact br_f (by decide) (f rfl)
  | some c => exact br_t (nI_pos' (by have := hc c rfl; omega)) (g c rfl)
theorem ds_oE {o : Option Nat} {x : Int32} {c : Nat} (hx : x = ds_o o) (hc : ∀ d, o = some d → d < 7) (h7 : c < 7) : x = nI c ↔ o = some c := by
  subst hx
  cases o with
  | none => exact ⟨fun e => absurd e ((by decide +kernel : ∀ c, c < 7 → ¬ (-1 : Int32) = nI c) c h7), fun e => absurd e.symm (Option.some_ne_none c)⟩
  | some d =>
    have hd := hc d rfl
    show nI d = nI c ↔ _
    rw [nI_eq (by omega) (by omega)]
    exact ⟨fun e => by rw [e], fun e => Option.some.inj e⟩
theorem ds_by : ∀ c, c < 7 → (nI c).toInt8.toInt32 = nI c := by decide +kernel
/-! counting -/
noncomputable def ds_cnt (f : Nat → Prop) : Nat → Nat
  | 0 => 0
  | k + 1 => ds_cnt f k + @ite Nat (f k) (Classical.propDecidable _) 1 0
theorem ds_cntT {f : Nat → Prop} {k : Nat} (h : f k) : ds_cnt f (k + 1) = ds_cnt f k + 1 := by
  show ds_cnt f k + @ite Nat (f k) (Classical.propDecidable _) 1 0 = _
  rw [if_pos h]
theorem ds_cntF {f : Nat → Prop} {k : Nat} (h : ¬ f k) : ds_cnt f (k + 1) = ds_cnt f k := by
  show ds_cnt f k + @ite Nat (f k) (Classical.propDecidable _) 1 0 = _
  rw [if_neg h]
  rfl
theorem ds_cntL (f : Nat → Prop) (k : Nat) : ds_cnt f k ≤ k := by
  induction k with
  | zero => exact Nat.le_refl 0
  | succ k ih =>
    by_cases h : f k
    · rw [ds_cntT h]; omega
    · rw [ds_cntF h]; omega
theorem ds_cnt0 {f : Nat → Prop} (n : Nat) (h : ∀ i, i < n → ¬ f i) : ds_cnt f n = 0 := by
  induction n with
  | zero => rfl
  | succ n ih => rw [ds_cntF (h n (by omega)), ih (fun i hi => h i (by omega))]
theorem ds_cnt1 {f : Nat → Prop} {a : Nat} (n : Nat) (ha : a < n) (h : ∀ i, i < n → (f i ↔ i = a)) : ds_cnt f n = 1 := by
  induction n with
  | zero => omega
  | succ n ih =>
    by_cases e : a = n
    · rw [ds_cntT ((h n (by omega)).mpr e.symm), ds_cnt0 n (fun i hi z => by have := (h i (by omega)).mp z; omega)]
    · rw [ds_cntF (fun z => e ((h n (by omega)).mp z).symm), ih (by omega) (fun i hi => h i (by omega))]
theorem ds_cnt2 {f : Nat → Prop} {a b : Nat} (n : Nat) (ha : a < n) (hb : b < n) (hab : a ≠ b) (h : ∀ i, i < n → (f i ↔ i = a ∨ i = b)) : ds_cnt f n = 2 := by
  induction n with
  | zero => omega
  | succ n ih =>
    by_cases e : a = n
    · rw [ds_cntT ((h n (by omega)).mpr (Or.inl e.symm)), ds_cnt1 (a := b) n (by omega) (fun i hi => ⟨fun z => by have := (h i (by omega)).mp z; omega, fun z => (h i (by omega)).mpr (Or.inr z)⟩)]
    · by_cases e2 : b = n
      · rw [ds_cntT ((h n (by omega)).mpr (Or.inr e2.symm)), ds_cnt1 (a := a) n (by omega) (fun i hi => ⟨fun z => by have := (h i (by omega)).mp z; omega, fun z => (h i (by omega)).mpr (Or.inl z)⟩)]
      · rw [ds_cntF (fun z => by have := (h n (by omega)).mp z; omega), ih (by omega) (by omega) (fun i hi => h i (by omega))]
end
section
/-! ===== walks of the methods on masks; E i c: row i has an edge to column c; m, w: the partners ===== -/
theorem ds_poc {post : Int32 → Prop} {x1 f1 f2 f3 f4 f5 : Int32} {a1 a2 a3 a4 a5 a6 a7 : Nat → Int32} {C : Nat → Prop} {w : Nat → Option Nat}
    (hC : ds_R x1 C) (h3 : ∀ c, c < 7 → a3 c = ds_o (w c)) (hw : ∀ c i, w c = some i → i < 7)
    (H : ∀ x, ds_R x (fun i => ∃ c, c < 7 ∧ (C c ∧ w c = some i)) → post x) :
    wpX_partnersOfColumns post (f1, f2, f3, f4, f5, a1, a2, a3, a4, a5, a6, a7) x1 := by
  refine pk_loop (fun n i s => wX_partnersOfColumns_4 post x1 f1 f2 f3 f4 f5 a1 a2 a3 a4 a5 a6 a7 n s (nI i))
    (fun k s => ds_R s (fun i => ∃ c, c < k ∧ (C c ∧ w c = some i))) 7 0 0 (by omega) (ds_stI (fun c i => C c ∧ w c = some i))
    (fun n s h => pk_le 7 7 (fun _ => H s h) (fun z => absurd z (by omega)))
    (fun n k s hk h hW => pk_le 7 k (fun z => absurd z (by omega)) (fun _ => ?_))
  refine ek_if (ds_Rb hC hk) (fun z => nm_r (nI_1 k) (hW s (ds_st0 h (fun i _ t => z t.1)))) (fun z => ⟨pk_in k 7 hk, ?_⟩)
  have z' : C k := Classical.not_not.mp z
  rw [nI_clamp (show k < 2 ^ 31 by omega)]
  refine ds_oL (h3 k hk) (hw k) (fun e => nm_r (nI_1 k) (hW s (ds_st0 h (fun i _ t => ?_)))) (fun i e => ⟨pk_in k 7 hk, nm_e (nm_r (nI_1 k) (hW _ ?_))⟩)
  · rw [e] at t
    exact nomatch t.2
  · rw [h3 k hk, e]
    refine ds_st1 h (ds_R1 (hw k i e)) (fun j _ => ⟨fun t => ⟨z', ?_⟩, fun t => ?_⟩)
    · rw [e, t]
    · exact (Option.some.inj (e.symm.trans t.2)).symm
theorem ds_por {post : Int32 → Prop} {x1 f1 f2 f3 f4 f5 : Int32} {a1 a2 a3 a4 a5 a6 a7 : Nat → Int32} {C : Nat → Prop} {w : Nat → Option Nat}
    (hC : ds_R x1 C) (h3 : ∀ c, c < 7 → a2 c = ds_o (w c)) (hw : ∀ c i, w c = some i → i < 7)
    (H : ∀ x, ds_R x (fun i => ∃ c, c < 7 ∧ (C c ∧ w c = some i)) → post x) :
    wpX_partnersOfRows post (f1, f2, f3, f4, f5, a1, a2, a3, a4, a5, a6, a7) x1 := by
  refine pk_loop (fun n i s => wX_partnersOfRows_4 post x1 f1 f2 f3 f4 f5 a1 a2 a3 a4 a5 a6 a7 n s (nI i))
    (fun k s => ds_R s (fun i => ∃ c, c < k ∧ (C c ∧ w c = some i))) 7 0 0 (by omega) (ds_stI (fun c i => C c ∧ w c = some i))
    (fun n s h => pk_le 7 7 (fun _ => H s h) (fun z => absurd z (by omega)))
    (fun n k s hk h hW => pk_le 7 k (fun z => absurd z (by omega)) (fun _ => ?_))
  refine ek_if (ds_Rb hC hk) (fun z => nm_r (nI_1 k) (hW s (ds_st0 h (fun i _ t => z t.1)))) (fun z => ⟨pk_in k 7 hk, ?_⟩)
  have z' : C k := Classical.not_not.mp z
  rw [nI_clamp (show k < 2 ^ 31 by omega)]
  refine ds_oL (h3 k hk) (hw k) (fun e => nm_r (nI_1 k) (hW s (ds_st0 h (fun i _ t => ?_)))) (fun i e => ⟨pk_in k 7 hk, nm_e (nm_r (nI_1 k) (hW _ ?_))⟩)
  · rw [e] at t
    exact nomatch t.2
  · rw [h3 k hk, e]
    refine ds_st1 h (ds_R1 (hw k i e)) (fun j _ => ⟨fun t => ⟨z', ?_⟩, fun t => ?_⟩)
    · rw [e, t]
    · exact (Option.some.inj (e.symm.trans t.2)).symm
theorem ds_cnx {post : Int32 → Prop} {x1 f1 f2 f3 f4 f5 : Int32} {a1 a2 a3 a4 a5 a6 a7 : Nat → Int32} {C : Nat → Prop} {E : Nat → Nat → Prop}
    (hC : ds_R x1 C) (hE : ∀ i, i < 7 → ds_R (a1 i) (E i))
    (H : ∀ x, ds_R x (fun c => ∃ i, i < 7 ∧ (C i ∧ E i c)) → post x) :
    wpX_columnsNextTo post (f1, f2, f3, f4, f5, a1, a2, a3, a4, a5, a6, a7) x1 := by
  refine pk_loop (fun n i s => wX_columnsNextTo_4 post x1 f1 f2 f3 f4 f5 a1 a2 a3 a4 a5 a6 a7 n s (nI i))
    (fun k s => ds_R s (fun c => ∃ i, i < k ∧ (C i ∧ E i c))) 7 0 0 (by omega) (ds_stI (fun i c => C i ∧ E i c))
    (fun n s h => pk_le 7 7 (fun _ => H s h) (fun z => absurd z (by omega)))
    (fun n k s hk h hW => pk_le 7 k (fun z => absurd z (by omega)) (fun _ => ?_))
  refine ek_if (ds_Rb hC hk) (fun z => nm_r (nI_1 k) (hW s (ds_st0 h (fun i _ t => z t.1)))) (fun z => ⟨pk_in k 7 hk, ?_⟩)
  have z' : C k := Classical.not_not.mp z
  rw [nI_clamp (show k < 2 ^ 31 by omega)]
  exact nm_e (nm_r (nI_1 k) (hW _ (ds_st1 h (hE k hk) (fun j _ => ⟨fun t => ⟨z', t⟩, fun t => t.2⟩))))
theorem ds_rwe {post : Int32 → Prop} {f1 f2 f3 f4 f5 : Int32} {a1 a2 a3 a4 a5 a6 a7 : Nat → Int32} {c : Nat} {E : Nat → Nat → Prop}
    (hc : c < 7) (hE : ∀ i, i < 7 → ds_R (a1 i) (E i))
    (H : ∀ x, ds_R x (fun i => E i c) → post x) :
    wpX_rowsWithEdgeTo post (f1, f2, f3, f4, f5, a1, a2, a3, a4, a5, a6, a7) (nI c) := by
  refine pk_loop (fun n i s => wX_rowsWithEdgeTo_4 post (nI c) f1 f2 f3 f4 f5 a1 a2 a3 a4 a5 a6 a7 n s (nI i))
    (fun k s => ds_R s (fun j => ∃ i, i < k ∧ (j = i ∧ E i c))) 7 0 0 (by omega) (ds_stI (fun i j => j = i ∧ E i c))
    (fun n s h => pk_le 7 7 (fun _ => H s (ds_Rc h (fun i hi => ⟨fun ⟨j, _, e, t⟩ => e ▸ t, fun t => ⟨i, hi, rfl, t⟩⟩))) (fun z => absurd z (by omega)))
    (fun n k s hk h hW => pk_le 7 k (fun z => absurd z (by omega)) (fun _ => ⟨pk_in k 7 hk, ?_⟩))
  rw [nI_clamp (show k < 2 ^ 31 by omega)]
  exact nm_e (nm_r (nI_1 k) (hW _ (ds_st1 h (ds_Rs (hE k hk) hc hk) (fun j _ => Iff.rfl))))
theorem ds_rnx {post : Int32 → Prop} {x1 f1 f2 f3 f4 f5 : Int32} {a1 a2 a3 a4 a5 a6 a7 : Nat → Int32} {C : Nat → Prop} {E : Nat → Nat → Prop}
    (hC : ds_R x1 C) (hE : ∀ i, i < 7 → ds_R (a1 i) (E i))
    (H : ∀ x, ds_R x (fun i => ∃ c, c < 7 ∧ (C c ∧ E i c)) → post x) :
    wpX_rowsNextTo post (f1, f2, f3, f4, f5, a1, a2, a3, a4, a5, a6, a7) x1 := by
  refine pk_loop (fun n i s => wX_rowsNextTo_4 post x1 f1 f2 f3 f4 f5 a1 a2 a3 a4 a5 a6 a7 n s (nI i))
    (fun k s => ds_R s (fun i => ∃ c, c < k ∧ (C c ∧ E i c))) 7 0 0 (by omega) (ds_stI (fun c i => C c ∧ E i c))
    (fun n s h => pk_le 7 7 (fun _ => H s h) (fun z => absurd z (by omega)))
    (fun n k s hk h hW => pk_le 7 k (fun z => absurd z (by omega)) (fun _ => ?_))
  refine ek_if (ds_Rb hC hk) (fun z => nm_r (nI_1 k) (hW s (ds_st0 h (fun i _ t => z t.1)))) (fun z => ?_)
  have z' : C k := Classical.not_not.mp z
  exact ds_rwe hk hE (fun x hx => nm_e (nm_r (nI_1 k) (hW _ (ds_st1 h hx (fun j _ => ⟨fun t => ⟨z', t⟩, fun t => t.2⟩)))))
end
section
/-! ===== findReach ===== -/
/-- the rows come to from free rows after k rounds -/
def ds_RR (E : Nat → Nat → Prop) (m w : Nat → Option Nat) : Nat → Nat → Prop
  | 0 => fun i => m i = none
  | k + 1 => fun i => ds_RR E m w k i ∨ ∃ c, c < 7 ∧ ((∃ j, j < 7 ∧ (ds_RR E m w k j ∧ E j c)) ∧ w c = some i)
/-- the columns come to from free columns after k rounds -/
def ds_CC (E : Nat → Nat → Prop) (m w : Nat → Option Nat) : Nat → Nat → Prop
  | 0 => fun c => w c = none
  | k + 1 => fun c => ds_CC E m w k c ∨ ∃ i, i < 7 ∧ ((∃ d, d < 7 ∧ (ds_CC E m w k d ∧ E i d)) ∧ m i = some c)
/-- the rows that a row leads to, along an edge and back along the matching -/
def ds_Re (E : Nat → Nat → Prop) (w : Nat → Option Nat) (i j : Nat) : Prop := ∃ c, c < 7 ∧ (E i c ∧ w c = some j)
/-- the arrays hold the picture -/
def ds_V (E : Nat → Nat → Prop) (m w : Nat → Option Nat) (a1 a2 a3 : Nat → Int32) : Prop :=
  (∀ i, i < 7 → ds_R (a1 i) (E i)) ∧ (∀ i, i < 7 → a2 i = ds_o (m i)) ∧ (∀ c, c < 7 → a3 c = ds_o (w c)) ∧ (∀ i c, m i = some c → c < 7) ∧ (∀ c i, w c = some i → i < 7)
theorem ds_178 {post : St2 → Prop} {J : Int32 → (Nat → Int32) → (Nat → Int32) → (Nat → Int32) → (Nat → Int32) → (Nat → Int32) → (Nat → Int32) → (Nat → Int32) → Prop} {f1 f2 f3 f4 f5 : Int32} {a1 a2 a3 a4 a5 a6 a7 : Nat → Int32} {Re : Nat → Nat → Prop} {d : Nat} (hd : d < 7)
    (h6 : ∀ i, i < 7 → ds_R (a6 i) (Re i)) (hT : ∀ i j k, Re i j → Re j k → Re i k)
    (H : ∀ b, (∀ i, i < 7 → ds_R (b i) (Re i)) → J (nI (d + 1)) a1 a2 a3 a4 a5 b a7) :
    ∃ n, wX_findReach_178 post J (nI d) f1 f2 f3 f4 f5 n 0 a1 a2 a3 a4 a5 a6 a7 := by
  refine pk_loop (fun n i s => wX_findReach_178 post J (nI d) f1 f2 f3 f4 f5 n (nI i) a1 a2 a3 a4 a5 s a7)
    (fun _ s => ∀ i, i < 7 → ds_R (s i) (Re i)) 7 0 a6 (by omega) h6
    (fun n s h => pk_le 7 7 (fun _ => nm_r (nI_1 d) (H s h)) (fun z => absurd z (by omega)))
    (fun n k s hk h hW => pk_le 7 k (fun z => absurd z (by omega)) (fun _ => ⟨pk_in k 7 hk, ?_⟩))
  rw [nI_clamp (show k < 2 ^ 31 by omega)]
  refine ek_if (ds_Rb (h k hk) hd) (fun z => nm_r (nI_1 k) (hW s h)) (fun z => ⟨pk_in k 7 hk, pk_in d 7 hd, pk_in k 7 hk, nm_e (nm_r (nI_1 k) (hW _ ?_))⟩)
  have z' : Re k d := Classical.not_not.mp z
  rw [nI_clamp (show d < 2 ^ 31 by omega)]
  intro i hi
  by_cases e : i = k
  · subst e
    rw [pk_us]
    exact ds_Rc (ds_Ror (h i hi) (h d hd)) (fun j _ => ⟨fun t => t.elim id (fun t => hT _ _ _ z' t), Or.inl⟩)
  · rw [pk_un e]
    exact h i hi
theorem ds_170 {post : St2 → Prop} {f1 f2 f3 f4 f5 : Int32} {a1 a2 a3 a4 a5 a6 a7 : Nat → Int32} {Re : Nat → Nat → Prop}
    (h6 : ∀ i, i < 7 → ds_R (a6 i) (Re i)) (hT : ∀ i j k, Re i j → Re j k → Re i k)
    (H : ∀ b, (∀ i, i < 7 → ds_R (b i) (Re i)) → post (f1, f2, f3, f4, f5, a1, a2, a3, a4, a5, b, a7)) :
    ∃ n, wX_findReach_170 post f1 f2 f3 f4 f5 n 0 a1 a2 a3 a4 a5 a6 a7 :=
  pk_loop (fun n i s => wX_findReach_170 post f1 f2 f3 f4 f5 n (nI i) a1 a2 a3 a4 a5 s a7)
    (fun _ s => ∀ i, i < 7 → ds_R (s i) (Re i)) 7 0 a6 (by omega) h6
    (fun n s h => pk_le 7 7 (fun _ => H s h) (fun z => absurd z (by omega)))
    (fun n k s hk h hW => pk_le 7 k (fun z => absurd z (by omega)) (fun _ => ds_178 hk h hT (fun b hb => hW b hb)))
theorem ds_140 {post : St2 → Prop} {f1 f2 f3 f4 f5 : Int32} {a1 a2 a3 a4 a5 a6 a7 : Nat → Int32} {E : Nat → Nat → Prop} {m w : Nat → Option Nat}
    (hV : ds_V E m w a1 a2 a3) (hT : ∀ i j k, ds_Re E w i j → ds_Re E w j k → ds_Re E w i k)
    (H : ∀ b, (∀ i, i < 7 → ds_R (b i) (ds_Re E w i)) → post (f1, f2, f3, f4, f5, a1, a2, a3, a4, a5, b, a7)) :
    ∃ n, wX_findReach_140 post f1 f2 f3 f4 f5 n 0 a1 a2 a3 a4 a5 a6 a7 := by
  refine pk_loop (fun n i s => wX_findReach_140 post f1 f2 f3 f4 f5 n (nI i) a1 a2 a3 a4 a5 s a7)
    (fun k s => ∀ i, i < k → ds_R (s i) (ds_Re E w i)) 7 0 a6 (by omega) (fun i hi => absurd hi (by omega))
    (fun n s h => pk_le 7 7 (fun _ => ds_170 h hT H) (fun z => absurd z (by omega)))
    (fun n k s hk h hW => pk_le 7 k (fun z => absurd z (by omega)) (fun _ => ⟨pk_in k 7 hk, ?_⟩))
  rw [nI_clamp (show k < 2 ^ 31 by omega)]
  refine ds_poc (hV.1 k hk) hV.2.2.1 hV.2.2.2.2 (fun x hx => ⟨pk_in k 7 hk, nm_e (nm_r (nI_1 k) (hW _ (fun i hi => ?_)))⟩)
  by_cases e : i = k
  · subst e
    rw [pk_us]
    exact hx
  · rw [pk_un e]
    exact h i (by omega)
theorem ds_68 {post : St2 → Prop} {f1 f2 f3 f4 f5 : Int32} {a1 a2 a3 a4 a5 a6 a7 : Nat → Int32} {E : Nat → Nat → Prop} {m w : Nat → Option Nat}
    (hV : ds_V E m w a1 a2 a3) (hT : ∀ i j k, ds_Re E w i j → ds_Re E w j k → ds_Re E w i k)
    (h2 : ds_R f2 (ds_RR E m w 0)) (h5 : ds_R f5 (ds_CC E m w 0))
    (H : ∀ g2 g3 g4 g5 b, ds_R g2 (ds_RR E m w 8) → ds_R g3 (fun c => ∃ j, j < 7 ∧ (ds_RR E m w 7 j ∧ E j c)) → ds_R g5 (ds_CC E m w 8) → (∀ i, i < 7 → ds_R (b i) (ds_Re E w i)) → post (f1, g2, g3, g4, g5, a1, a2, a3, a4, a5, b, a7)) :
    ∃ n, wX_findReach_68 post f1 a1 a2 a3 a4 a5 a6 a7 n 0 f2 f3 f4 f5 := by
  refine pk_loop (fun n i (s : Int32 × Int32 × Int32 × Int32) => wX_findReach_68 post f1 a1 a2 a3 a4 a5 a6 a7 n (nI i) s.1 s.2.1 s.2.2.1 s.2.2.2)
    (fun k s => ds_R s.1 (ds_RR E m w k) ∧ ds_R s.2.2.2 (ds_CC E m w k) ∧ ∀ k', k = k' + 1 → ds_R s.2.1 (fun c => ∃ j, j < 7 ∧ (ds_RR E m w k' j ∧ E j c))) 8 0 (f2, f3, f4, f5) (by omega) ⟨h2, h5, fun k' e => absurd e (by omega)⟩
    (fun n s h => pk_le 8 8 (fun _ => ds_140 hV hT (fun b hb => H _ _ _ _ b h.1 (h.2.2 7 rfl) h.2.1 hb)) (fun z => absurd z (by omega)))
    (fun n k s hk h hW => pk_le 8 k (fun z => absurd z (by omega)) (fun _ => ?_))
  obtain ⟨hr, hc, _⟩ := h
  refine ds_cnx hr hV.1 (fun x hx => ?_)
  refine ds_poc hx hV.2.2.1 hV.2.2.2.2 (fun y hy => nm_e ?_)
  refine ds_rnx hc hV.1 (fun z hz => ?_)
  refine ds_por hz hV.2.1 hV.2.2.2.1 (fun t ht => nm_e (nm_r (nI_1 k) ?_))
  refine hW (s.1 ||| y, x, z, s.2.2.2 ||| t) ⟨ds_Ror hr hy, ds_Ror hc ht, fun k' e => ?_⟩
  have e' : k = k' := by omega
  subst e'
  exact hx
theorem ds_12 {post : St2 → Prop} {f1 f2 f3 f4 f5 : Int32} {a1 a2 a3 a4 a5 a6 a7 : Nat → Int32} {E : Nat → Nat → Prop} {m w : Nat → Option Nat}
    (hV : ds_V E m w a1 a2 a3) (hT : ∀ i j k, ds_Re E w i j → ds_Re E w j k → ds_Re E w i k)
    (H : ∀ g2 g3 g4 g5 b, ds_R g2 (ds_RR E m w 8) → ds_R g3 (fun c => ∃ j, j < 7 ∧ (ds_RR E m w 7 j ∧ E j c)) → ds_R g5 (ds_CC E m w 8) → (∀ i, i < 7 → ds_R (b i) (ds_Re E w i)) → post (f1, g2, g3, g4, g5, a1, a2, a3, a4, a5, b, a7)) :
    wpX_findReach post (f1, f2, f3, f4, f5, a1, a2, a3, a4, a5, a6, a7) := by
  refine pk_loop (fun n i (s : Int32 × Int32) => wX_findReach_12 post f1 f3 f4 a1 a2 a3 a4 a5 a6 a7 n (nI i) s.1 s.2)
    (fun k s => ds_R s.1 (fun i => ∃ c, c < k ∧ (m c = none ∧ i = c)) ∧ ds_R s.2 (fun i => ∃ c, c < k ∧ (w c = none ∧ i = c))) 7 0 (0, 0) (by omega) ⟨ds_stI (fun c i => m c = none ∧ i = c), ds_stI (fun c i => w c = none ∧ i = c)⟩
    (fun n s h => pk_le 7 7 (fun _ => ds_68 hV hT (ds_Rc h.1 (fun i hi => ⟨fun ⟨c, _, t, e⟩ => e ▸ t, fun t => ⟨i, hi, t, rfl⟩⟩)) (ds_Rc h.2 (fun i hi => ⟨fun ⟨c, _, t, e⟩ => e ▸ t, fun t => ⟨i, hi, t, rfl⟩⟩)) H) (fun z => absurd z (by omega)))
    (fun n k s hk h hW => pk_le 7 k (fun z => absurd z (by omega)) (fun _ => ⟨pk_in k 7 hk, ?_⟩))
  obtain ⟨hr, hc⟩ := h
  have tail : ∀ rr, ds_R rr (fun i => ∃ c, c < k + 1 ∧ (m c = none ∧ i = c)) → wX_findReach_39 post (wX_findReach_12 post f1 f3 f4 a1 a2 a3 a4 a5 a6 a7 n) (nI k) f1 rr f3 f4 s.2 a1 a2 a3 a4 a5 a6 a7 := by
    intro rr hrr
    refine ⟨pk_in k 7 hk, ?_⟩
    rw [nI_clamp (show k < 2 ^ 31 by omega)]
    refine ds_oG (hV.2.2.1 k hk) (hV.2.2.2.2 k) (fun e => nm_e (nm_r (nI_1 k) (hW (rr, s.2 ||| ((1 : Int32) <<< (nI k &&& 31))) ⟨hrr, ds_st1 hc (ds_R1 hk) (fun j _ => ⟨fun t => ⟨e, t⟩, fun t => t.2⟩)⟩))) (fun c e => nm_r (nI_1 k) (hW (rr, s.2) ⟨hrr, ds_st0 hc (fun j _ t => ?_)⟩))
    rw [e] at t
    exact nomatch t.1
  rw [nI_clamp (show k < 2 ^ 31 by omega)]
  refine ds_oG (hV.2.1 k hk) (hV.2.2.2.1 k) (fun e => nm_e (tail _ (ds_st1 hr (ds_R1 hk) (fun j _ => ⟨fun t => ⟨e, t⟩, fun t => t.2⟩)))) (fun c e => tail _ (ds_st0 hr (fun j _ t => ?_)))
  rw [e] at t
  exact nomatch t.1
/-! ===== isUsable, findUsable ===== -/
def ds_U (m w : Nat → Option Nat) (RR CC : Nat → Prop) (Re : Nat → Nat → Prop) (i c : Nat) : Prop := m i = some c ∨ RR i ∨ CC c ∨ ∃ j, w c = some j ∧ Re j i
theorem ds_isU {post : Int32 → Prop} {f1 f2 f3 f4 f5 : Int32} {a1 a2 a3 a4 a5 a6 a7 : Nat → Int32} {E : Nat → Nat → Prop} {m w : Nat → Option Nat} {RR CC : Nat → Prop} {Re : Nat → Nat → Prop} {i c : Nat} (hi : i < 7) (hc : c < 7)
    (hV : ds_V E m w a1 a2 a3) (h2 : ds_R f2 RR) (h5 : ds_R f5 CC) (h6 : ∀ i, i < 7 → ds_R (a6 i) (Re i))
    (H1 : ds_U m w RR CC Re i c → post 1) (H0 : ¬ ds_U m w RR CC Re i c → post 0) :
    wpX_isUsable post (f1, f2, f3, f4, f5, a1, a2, a3, a4, a5, a6, a7) (nI i) (nI c) := by
  refine ⟨pk_in i 7 hi, ?_⟩
  rw [nI_clamp (show i < 2 ^ 31 by omega), nI_clamp (show c < 2 ^ 31 by omega)]
  refine ek_if (ds_oE (hV.2.1 i hi) (hV.2.2.2.1 i) hc) (fun z => H1 (Or.inl z)) (fun z1 => ?_)
  refine ek_if (ds_Rb h2 hi) (fun z2 => ?_) (fun z => H1 (Or.inr (Or.inl (Classical.not_not.mp z))))
  refine ek_if (ds_Rb h5 hc) (fun z3 => ⟨pk_in c 7 hc, nm_e ?_⟩) (fun z => H1 (Or.inr (Or.inr (Or.inl (Classical.not_not.mp z)))))
  refine ds_oL (hV.2.2.1 c hc) (hV.2.2.2.2 c) (fun e => H0 (fun t => ?_)) (fun j e => ?_)
  · rcases t with t | t | t | ⟨j, t, _⟩
    · exact z1 t
    · exact z2 t
    · exact z3 t
    · rw [e] at t
      exact nomatch t
  · have hj := hV.2.2.2.2 c j e
    have e3 : a3 c = nI j := by rw [hV.2.2.1 c hc, e]; rfl
    rw [e3, nI_clamp (show j < 2 ^ 31 by omega)]
    refine ⟨pk_in j 7 hj, ek_if (ds_Rb (h6 j hj) hi) (fun z4 => H0 (fun t => ?_)) (fun z => H1 (Or.inr (Or.inr (Or.inr ⟨j, e, Classical.not_not.mp z⟩))))⟩
    rcases t with t | t | t | ⟨j', t, t'⟩
    · exact z1 t
    · exact z2 t
    · exact z3 t
    · have ej : j = j' := Option.some.inj (e.symm.trans t)
      subst ej
      exact z4 t'
theorem ds_17 {post : St2 → Prop} {J : Int32 → (Nat → Int32) → (Nat → Int32) → (Nat → Int32) → (Nat → Int32) → (Nat → Int32) → (Nat → Int32) → (Nat → Int32) → Prop} {f1 f2 f3 f4 f5 : Int32} {a1 a2 a3 a4 a5 a6 a7 : Nat → Int32} {E : Nat → Nat → Prop} {m w : Nat → Option Nat} {RR CC : Nat → Prop} {Re : Nat → Nat → Prop} {i : Nat} (hi : i < 7)
    (hV : ds_V E m w a1 a2 a3) (h2 : ds_R f2 RR) (h5 : ds_R f5 CC) (h6 : ∀ i, i < 7 → ds_R (a6 i) (Re i))
    (h7 : ∀ j, j < i → ds_R (a7 j) (fun c => E j c ∧ ds_U m w RR CC Re j c)) (h70 : a7 i = 0)
    (H : ∀ b, (∀ j, j < i + 1 → ds_R (b j) (fun c => E j c ∧ ds_U m w RR CC Re j c)) → J (nI (i + 1)) a1 a2 a3 a4 a5 a6 b) :
    ∃ n, wX_findUsable_17 post J (nI i) f1 f2 f3 f4 f5 n 0 a1 a2 a3 a4 a5 a6 a7 := by
  refine pk_loop (fun n c s => wX_findUsable_17 post J (nI i) f1 f2 f3 f4 f5 n (nI c) a1 a2 a3 a4 a5 a6 s)
    (fun k s => (∀ j, j < i → ds_R (s j) (fun c => E j c ∧ ds_U m w RR CC Re j c)) ∧ ds_R (s i) (fun c' => ∃ c, c < k ∧ ((E i c ∧ ds_U m w RR CC Re i c) ∧ c' = c))) 7 0 a7 (by omega)
    ⟨h7, by rw [h70]; exact ds_stI (fun c c' => (E i c ∧ ds_U m w RR CC Re i c) ∧ c' = c)⟩
    (fun n s h => pk_le 7 7 (fun _ => nm_r (nI_1 i) (H s (fun j hj => ?_))) (fun z => absurd z (by omega)))
    (fun n k s hk h hW => pk_le 7 k (fun z => absurd z (by omega)) (fun _ => ⟨pk_in i 7 hi, ?_⟩))
  · by_cases e : j = i
    · subst e
      exact ds_Rc h.2 (fun c hc => ⟨fun ⟨d, _, t, e⟩ => e ▸ t, fun t => ⟨c, hc, t, rfl⟩⟩)
    · exact h.1 j (by omega)
  · rw [nI_clamp (show i < 2 ^ 31 by omega)]
    obtain ⟨ho, hn⟩ := h
    refine ek_if (ds_Rb (hV.1 i hi) hk) (fun z => nm_r (nI_1 k) (hW s ⟨ho, ds_st0 hn (fun j _ t => z t.1.1)⟩)) (fun z => ?_)
    have z' : E i k := Classical.not_not.mp z
    refine ds_isU hi hk hV h2 h5 h6 (fun u => br_f (by decide) ⟨pk_in i 7 hi, pk_in i 7 hi, nm_e (nm_r (nI_1 k) (hW _ ⟨fun j hj => ?_, ?_⟩))⟩) (fun u => br_t rfl (nm_r (nI_1 k) (hW s ⟨ho, ds_st0 hn (fun j _ t => u t.1.2)⟩)))
    · rw [pk_un (by omega)]
      exact ho j hj
    · rw [pk_us]
      exact ds_st1 hn (ds_R1 hk) (fun j _ => ⟨fun t => ⟨⟨z', u⟩, t⟩, fun t => t.2⟩)
theorem ds_fU {post : St2 → Prop} {f1 f2 f3 f4 f5 : Int32} {a1 a2 a3 a4 a5 a6 a7 : Nat → Int32} {E : Nat → Nat → Prop} {m w : Nat → Option Nat} {RR CC : Nat → Prop} {Re : Nat → Nat → Prop}
    (hV : ds_V E m w a1 a2 a3) (h2 : ds_R f2 RR) (h5 : ds_R f5 CC) (h6 : ∀ i, i < 7 → ds_R (a6 i) (Re i))
    (H : ∀ b, (∀ j, j < 7 → ds_R (b j) (fun c => E j c ∧ ds_U m w RR CC Re j c)) → post (f1, f2, f3, f4, f5, a1, a2, a3, a4, a5, a6, b)) :
    wpX_findUsable post (f1, f2, f3, f4, f5, a1, a2, a3, a4, a5, a6, a7) := by
  refine pk_loop (fun n i s => wX_findUsable_2 post f1 f2 f3 f4 f5 n (nI i) a1 a2 a3 a4 a5 a6 s)
    (fun k s => ∀ j, j < k → ds_R (s j) (fun c => E j c ∧ ds_U m w RR CC Re j c)) 7 0 a7 (by omega) (fun j hj => absurd hj (by omega))
    (fun n s h => pk_le 7 7 (fun _ => H s h) (fun z => absurd z (by omega)))
    (fun n k s hk h hW => pk_le 7 k (fun z => absurd z (by omega)) (fun _ => ⟨pk_in k 7 hk, nm_e ?_⟩))
  rw [nI_clamp (show k < 2 ^ 31 by omega)]
  refine ds_17 hk hV h2 h5 h6 (fun j hj => ?_) pk_us (fun b hb => hW b hb)
  rw [pk_un (by omega)]
  exact h j hj
end
section
/-! ===== the picture: only the rows r and s have edges, P and Q; m, w: a matching and its inverse ===== -/
def ds_T (r s : Nat) (P Q : Nat → Prop) (E : Nat → Nat → Prop) (m w : Nat → Option Nat) : Prop :=
  r < 7 ∧ s < 7 ∧ r ≠ s ∧ (∀ c, P c → c < 7) ∧ (∀ c, Q c → c < 7) ∧ (∀ i c, E i c ↔ (i = r ∧ P c) ∨ (i = s ∧ Q c)) ∧ (∀ i, i ≠ r → i ≠ s → m i = none) ∧ (∀ c i, w c = some i ↔ m i = some c) ∧ (∀ c, m r = some c → P c) ∧ (∀ c, m s = some c → Q c)
theorem ds_Tsw {r s : Nat} {P Q : Nat → Prop} {E : Nat → Nat → Prop} {m w : Nat → Option Nat} (h : ds_T r s P Q E m w) : ds_T s r Q P E m w := by
  obtain ⟨h1, h2, h3, h4, h5, h6, h7, h8, h9, h10⟩ := h
  exact ⟨h2, h1, fun e => h3 e.symm, h5, h4, fun i c => (h6 i c).trans Or.comm, fun i a b => h7 i b a, h8, h10, h9⟩
theorem ds_Tm {r s : Nat} {P Q : Nat → Prop} {E : Nat → Nat → Prop} {m w : Nat → Option Nat} (h : ds_T r s P Q E m w) : ∀ i c, m i = some c → c < 7 := by
  obtain ⟨h1, h2, h3, h4, h5, h6, h7, h8, h9, h10⟩ := h
  intro i c e
  by_cases e1 : i = r
  · subst e1
    exact h4 c (h9 c e)
  · by_cases e2 : i = s
    · subst e2
      exact h5 c (h10 c e)
    · rw [h7 i e1 e2] at e
      exact nomatch e
theorem ds_Trs {r s : Nat} {P Q : Nat → Prop} {E : Nat → Nat → Prop} {m w : Nat → Option Nat} (h : ds_T r s P Q E m w) : ∀ i c, m i = some c → i = r ∨ i = s := by
  obtain ⟨h1, h2, h3, h4, h5, h6, h7, h8, h9, h10⟩ := h
  intro i c e
  by_cases e1 : i = r
  · exact Or.inl e1
  · by_cases e2 : i = s
    · exact Or.inr e2
    · rw [h7 i e1 e2] at e
      exact nomatch e
theorem ds_Tw {r s : Nat} {P Q : Nat → Prop} {E : Nat → Nat → Prop} {m w : Nat → Option Nat} (h : ds_T r s P Q E m w) : ∀ c i, w c = some i → i < 7 := by
  intro c i e
  have t := (h.2.2.2.2.2.2.2.1 c i).mp e
  rcases ds_Trs h i c t with e | e
  · rw [e]; exact h.1
  · rw [e]; exact h.2.1
/-- row r, free, can't be matched by a longer matching; o: the other row's column -/
def ds_Bl (P Q : Nat → Prop) (o : Option Nat) : Prop := (∀ c, ¬ P c) ∨ ∃ c, o = some c ∧ (∀ j, P j ↔ j = c) ∧ (∀ j, Q j ↔ j = c)
/-- no longer matching -/
def ds_Mx (r s : Nat) (P Q : Nat → Prop) (m : Nat → Option Nat) : Prop := (m r = none → ds_Bl P Q (m s)) ∧ (m s = none → ds_Bl Q P (m r))
theorem ds_up1 {r s k : Nat} {P Q : Nat → Prop} {E : Nat → Nat → Prop} {m w : Nat → Option Nat} (h : ds_T r s P Q E m w) (hr : m r = none) (hk : P k) (hw : w k = none) :
    ds_T r s P Q E (fun i => if i = r then some k else m i) (fun c => if c = k then some r else w c) := by
  obtain ⟨h1, h2, h3, h4, h5, h6, h7, h8, h9, h10⟩ := h
  refine ⟨h1, h2, h3, h4, h5, h6, fun i a b => ?_, fun c i => ?_, fun c e => ?_, fun c e => ?_⟩
  · show (if i = r then some k else m i) = none
    rw [if_neg a]
    exact h7 i a b
  · show (if c = k then some r else w c) = some i ↔ (if i = r then some k else m i) = some c
    by_cases ec : c = k
    · subst ec
      rw [if_pos rfl]
      by_cases ei : i = r
      · subst ei
        rw [if_pos rfl]
        exact ⟨fun _ => rfl, fun _ => rfl⟩
      · rw [if_neg ei]
        exact ⟨fun t => absurd (Option.some.inj t).symm ei, fun t => by have u := (h8 c i).mpr t; rw [hw] at u; exact (nomatch u)⟩
    · rw [if_neg ec]
      by_cases ei : i = r
      · subst ei
        rw [if_pos rfl]
        exact ⟨fun t => by have u := (h8 c i).mp t; rw [hr] at u; exact (nomatch u), fun t => absurd (Option.some.inj t).symm ec⟩
      · rw [if_neg ei]
        exact h8 c i
  · have e' : (if r = r then some k else m r) = some c := e
    rw [if_pos rfl] at e'
    exact Option.some.inj e' ▸ hk
  · have e' : (if s = r then some k else m s) = some c := e
    rw [if_neg (fun t => h3 t.symm)] at e'
    exact h10 c e'
theorem ds_up2 {r s k b : Nat} {P Q : Nat → Prop} {E : Nat → Nat → Prop} {m w : Nat → Option Nat} (h : ds_T r s P Q E m w) (hr : m s = some b) (hk : Q k) (hw : w k = none) :
    ds_T r s P Q E (fun i => if i = s then some k else m i) (fun c => if c = k then some s else if c = b then none else w c) := by
  obtain ⟨h1, h2, h3, h4, h5, h6, h7, h8, h9, h10⟩ := h
  refine ⟨h1, h2, h3, h4, h5, h6, fun i a b => ?_, fun c i => ?_, fun c e => ?_, fun c e => ?_⟩
  · show (if i = s then some k else m i) = none
    rw [if_neg b]
    exact h7 i a b
  · show (if c = k then some s else if c = b then none else w c) = some i ↔ (if i = s then some k else m i) = some c
    by_cases ec : c = k
    · subst ec
      rw [if_pos rfl]
      by_cases ei : i = s
      · subst ei
        rw [if_pos rfl]
        exact ⟨fun _ => rfl, fun _ => rfl⟩
      · rw [if_neg ei]
        exact ⟨fun t => absurd (Option.some.inj t).symm ei, fun t => by have u := (h8 c i).mpr t; rw [hw] at u; exact (nomatch u)⟩
    · rw [if_neg ec]
      by_cases eb : c = b
      · subst eb
        rw [if_pos rfl]
        by_cases ei : i = s
        · subst ei
          rw [if_pos rfl]
          exact ⟨fun t => (nomatch t), fun t => absurd (Option.some.inj t).symm ec⟩
        · rw [if_neg ei]
          refine ⟨fun t => (nomatch t), fun t => ?_⟩
          have u := (h8 c i).mpr t
          have v := (h8 c s).mpr hr
          exact absurd (Option.some.inj (u.symm.trans v)) ei
      · rw [if_neg eb]
        by_cases ei : i = s
        · subst ei
          rw [if_pos rfl]
          refine ⟨fun t => ?_, fun t => absurd (Option.some.inj t).symm ec⟩
          have u := (h8 c i).mp t
          exact absurd (Option.some.inj (u.symm.trans hr)) eb
        · rw [if_neg ei]
          exact h8 c i
  · have e' : (if r = s then some k else m r) = some c := e
    rw [if_neg h3] at e'
    exact h9 c e'
  · have e' : (if s = s then some k else m s) = some c := e
    rw [if_pos rfl] at e'
    exact Option.some.inj e' ▸ hk
theorem ds_Vof {r s : Nat} {P Q : Nat → Prop} {E : Nat → Nat → Prop} {m w : Nat → Option Nat} {a1 a2 a3 : Nat → Int32} (h : ds_T r s P Q E m w) (h1 : ∀ i, i < 7 → ds_R (a1 i) (E i)) (h2 : ∀ i, i < 7 → a2 i = ds_o (m i)) (h3 : ∀ c, c < 7 → a3 c = ds_o (w c)) : ds_V E m w a1 a2 a3 :=
  ⟨h1, h2, h3, ds_Tm h, ds_Tw h⟩
/-! ===== turnPath ===== -/
theorem ds_tpE {post : St2 → Prop} {f1 f2 f3 f4 f5 : Int32} {a1 a2 a3 a4 a5 a6 a7 : Nat → Int32} {c t k : Nat} (n : Nat) (hc : c < 7) (ht : t < 7) (hk : k < 7) (h5 : a5 c = nI t)
    (H : post (f1, f2, f3, f4, f5, a1, upd a2 t (nI c), upd a3 c (nI t), a4, a5, a6, a7)) :
    wX_turnPath_5 post (nI t) f1 f2 f3 f4 f5 (n + 1) (nI c) (nI k) a1 a2 a3 a4 a5 a6 a7 := by
  have ec : (nI c).toNatClampNeg = c := nI_clamp (by omega)
  have et : (nI t).toNatClampNeg = t := nI_clamp (by omega)
  refine pk_le 7 k (fun z => absurd z (by omega)) (fun _ => ⟨pk_in c 7 hc, nm_r (show a5 (nI c).toNatClampNeg = nI t by rw [ec, h5]) ⟨pk_in t 7 ht, nm_e ⟨pk_in t 7 ht, nm_r (show upd a2 (nI t).toNatClampNeg (nI c).toInt8.toInt32 = upd a2 t (nI c) by rw [et, ds_by c hc]) ⟨pk_in c 7 hc, nm_r (show upd a3 (nI c).toNatClampNeg (nI t).toInt8.toInt32 = upd a3 c (nI t) by rw [ec, ds_by t ht]) (br_t rfl H)⟩⟩⟩⟩)
theorem ds_tp1 {post : St2 → Prop} {f1 f2 f3 f4 f5 : Int32} {a1 a2 a3 a4 a5 a6 a7 : Nat → Int32} {c t : Nat} (hc : c < 7) (ht : t < 7) (h5 : a5 c = nI t)
    (H : post (f1, f2, f3, f4, f5, a1, upd a2 t (nI c), upd a3 c (nI t), a4, a5, a6, a7)) :
    wpX_turnPath post (f1, f2, f3, f4, f5, a1, a2, a3, a4, a5, a6, a7) (nI c) (nI t) :=
  ⟨0 + 1, ds_tpE (k := 0) 0 hc ht (by omega) h5 H⟩
theorem ds_tp2 {post : St2 → Prop} {f1 f2 f3 f4 f5 : Int32} {a1 a2 a3 a4 a5 a6 a7 : Nat → Int32} {c b t t' : Nat} (hc : c < 7) (hb : b < 7) (ht : t < 7) (ht' : t' < 7) (htt : t' ≠ t) (h5 : a5 c = nI t') (h2 : a2 t' = nI b) (h5' : a5 b = nI t)
    (H : post (f1, f2, f3, f4, f5, a1, upd (upd a2 t' (nI c)) t (nI b), upd (upd a3 c (nI t')) b (nI t), a4, a5, a6, a7)) :
    wpX_turnPath post (f1, f2, f3, f4, f5, a1, a2, a3, a4, a5, a6, a7) (nI c) (nI t) := by
  have ec : (nI c).toNatClampNeg = c := nI_clamp (by omega)
  have et : (nI t').toNatClampNeg = t' := nI_clamp (by omega)
  refine ⟨0 + 1 + 1, ?_⟩
  refine pk_le 7 0 (fun z => absurd z (by omega)) (fun _ => ⟨pk_in c 7 hc, nm_r (show a5 (nI c).toNatClampNeg = nI t' by rw [ec, h5]) ⟨pk_in t' 7 ht', nm_r (show a2 (nI t').toNatClampNeg = nI b by rw [et, h2]) ⟨pk_in t' 7 ht', nm_r (show upd a2 (nI t').toNatClampNeg (nI c).toInt8.toInt32 = upd a2 t' (nI c) by rw [et, ds_by c hc]) ⟨pk_in c 7 hc, nm_r (show upd a3 (nI c).toNatClampNeg (nI t').toInt8.toInt32 = upd a3 c (nI t') by rw [ec, ds_by t' ht']) (br_f ?_ (nm_r (show (0 : Int32) + 1 = nI 1 by rfl) (ds_tpE (k := 1) 0 hb ht (by omega) h5' H)))⟩⟩⟩⟩)
  rw [nI_eq (by omega) (by omega)]
  exact htt
/-! ===== augment ===== -/
/-- a row without edges -/
theorem ds_augN {post : Int32 → St2 → Prop} {f1 f2 f3 f4 f5 : Int32} {a1 a2 a3 a4 a5 a6 a7 : Nat → Int32} {t : Nat} (ht : t < 7) (h1 : ds_R (a1 t) (fun _ => False))
    (H : ∀ b, post 0 (f1, f2, f3, f4, f5, a1, a2, a3, b, a5, a6, a7)) :
    wpX_augment post (f1, f2, f3, f4, f5, a1, a2, a3, a4, a5, a6, a7) (nI t) := by
  refine nm_r (show upd a4 0 (nI t).toInt8.toInt32 = upd a4 0 (nI t) by rw [ds_by t ht]) ⟨0 + 1 + 1, ?_⟩
  refine pk_le 1 0 (fun z => absurd z (by omega)) (fun _ => ⟨pk_in 0 7 (by omega), nm_r (show upd a4 0 (nI t) (0 : Int32).toNatClampNeg = nI t from pk_us) ?_⟩)
  refine pk_loop (σ := Unit) (fun n k _ => wX_augment_33 post (wX_augment_15 post (nI t) f1 f2 f3 f4 f5 (0 + 1)) (nI t) 0 (nI t) f1 f2 f3 f4 f5 n 1 0 (nI k) a1 a2 a3 (upd a4 0 (nI t)) a5 a6 a7) (fun _ _ => True) 7 0 () (by omega) trivial
    (fun n _ _ => pk_le 7 7 (fun _ => nm_r (show (0 : Int32) + 1 = nI 1 by rfl) (pk_le 1 1 (fun _ => H _) (fun z => absurd z (by omega)))) (fun z => absurd z (by omega)))
    (fun n k _ hk _ hW => pk_le 7 k (fun z => absurd z (by omega)) (fun _ => ⟨pk_in t 7 ht, ?_⟩))
  rw [nI_clamp (show t < 2 ^ 31 by omega)]
  exact br_t ((ds_Rn h1 ds_R0 hk).mpr (fun z => z.1)) (nm_r (nI_1 k) (hW () trivial))
/-- the second turn: from the other row -/
theorem ds_aug2 {post : Int32 → St2 → Prop} {x3 f1 f2 f3 f4 f5 : Int32} {a1 a2 a3 a4 a5 a6 a7 : Nat → Int32} {r s b : Nat} {P Q : Nat → Prop} {E : Nat → Nat → Prop} {m w : Nat → Option Nat}
    (hT : ds_T r s P Q E m w) (hV : ds_V E m w a1 a2 a3) (hr : m r = none) (hs : m s = some b) (hP : ∀ j, P j ↔ j = b) (h3 : ds_R x3 (fun c => c = b)) (h5 : a5 b = nI r)
    (H1 : ∀ m' w' b2 b3 b5, ds_T r s P Q E m' w' → ds_V E m' w' a1 b2 b3 → m' r ≠ none → (m s ≠ none → m' s ≠ none) → post 1 (f1, f2, f3, f4, f5, a1, b2, b3, a4, b5, a6, a7))
    (H0 : ds_Bl P Q (m s) → post 0 (f1, f2, f3, f4, f5, a1, a2, a3, a4, a5, a6, a7)) :
    ∃ n, wX_augment_33 post (wX_augment_15 post (nI r) f1 f2 f3 f4 f5 (0 + 1)) (nI r) (nI 1) (nI s) f1 f2 f3 f4 f5 n (nI 2) x3 0 a1 a2 a3 a4 a5 a6 a7 := by
  obtain ⟨t1, t2, t3, t4, t5, t6, t7, t8, t9, t10⟩ := id hT
  have hb : b < 7 := t5 b (t10 b hs)
  refine pk_loop (σ := Unit) (fun n k _ => wX_augment_33 post (wX_augment_15 post (nI r) f1 f2 f3 f4 f5 (0 + 1)) (nI r) (nI 1) (nI s) f1 f2 f3 f4 f5 n (nI 2) x3 (nI k) a1 a2 a3 a4 a5 a6 a7) (fun k _ => ∀ c, c < k → Q c → c = b) 7 0 () (by omega) (fun c hc => absurd hc (by omega))
    (fun n _ h => pk_le 7 7 (fun _ => nm_r (nI_1 1) (pk_le 2 2 (fun _ => H0 (Or.inr ⟨b, hs, hP, fun j => ⟨fun q => h j (t5 j q) q, fun e => e ▸ t10 b hs⟩⟩)) (fun z => absurd z (by omega)))) (fun z => absurd z (by omega)))
    (fun n k _ hk h hW => pk_le 7 k (fun z => absurd z (by omega)) (fun _ => ⟨pk_in s 7 t2, ?_⟩))
  rw [nI_clamp (show s < 2 ^ 31 by omega)]
  refine ek_if (ds_Rn (hV.1 s t2) h3 hk) (fun z => nm_r (nI_1 k) (hW () (fun c hc q => ?_))) (fun z => nm_e ⟨pk_in k 7 hk, ?_⟩)
  · by_cases e : c = k
    · subst e
      exact Classical.not_not.mp (fun y => z ⟨(t6 s c).mpr (Or.inr ⟨rfl, q⟩), y⟩)
    · exact h c (by omega) q
  · have z' := Classical.not_not.mp z
    have hq : Q k := by
      rcases (t6 s k).mp z'.1 with y | y
      · exact absurd y.1.symm t3
      · exact y.2
    have hkb : k ≠ b := z'.2
    refine nm_r (show upd a5 (nI k).toNatClampNeg (nI s).toInt8.toInt32 = upd a5 k (nI s) by rw [nI_clamp (by omega), ds_by s t2]) ⟨pk_in k 7 hk, ?_⟩
    rw [nI_clamp (show k < 2 ^ 31 by omega)]
    have hwk : w k = none := by
      cases e : w k with
      | none => rfl
      | some j =>
        have u := (t8 k j).mp e
        rcases ds_Trs hT j k u with y | y
        · subst y
          rw [hr] at u
          exact nomatch u
        · subst y
          exact absurd (Option.some.inj (u.symm.trans hs)) hkb
    refine ds_oG (hV.2.2.1 k hk) (hV.2.2.2.2 k) (fun _ => ?_) (fun j e => by rw [hwk] at e; exact nomatch e)
    have hT1 := ds_up2 hT hs hq hwk
    have hT2 := ds_up1 (k := b) hT1 (show (if r = s then some k else m r) = none by rw [if_neg t3, hr]) ((hP b).mpr rfl) (show (if b = k then some s else if b = b then none else w b) = none by rw [if_neg (fun y => hkb y.symm), if_pos rfl])
    refine ds_tp2 hk hb t1 t2 (fun y => t3 y.symm) pk_us (by rw [hV.2.1 s t2, hs]; rfl) (by rw [pk_un (fun y => hkb y.symm), h5]) (H1 _ _ _ _ _ hT2 (ds_Vof hT2 hV.1 (fun i hi => ?_) (fun c hc => ?_)) ?_ (fun _ => ?_))
    · show upd (upd a2 s (nI k)) r (nI b) i = ds_o (if i = r then some b else if i = s then some k else m i)
      by_cases e1 : i = r
      · subst e1
        rw [pk_us, if_pos rfl]
        rfl
      · rw [pk_un e1, if_neg e1]
        by_cases e2 : i = s
        · subst e2
          rw [pk_us, if_pos rfl]
          rfl
        · rw [pk_un e2, if_neg e2]
          exact hV.2.1 i hi
    · show upd (upd a3 k (nI s)) b (nI r) c = ds_o (if c = b then some r else if c = k then some s else if c = b then none else w c)
      by_cases e1 : c = b
      · subst e1
        rw [pk_us, if_pos rfl]
        rfl
      · rw [pk_un e1, if_neg e1]
        by_cases e2 : c = k
        · subst e2
          rw [pk_us, if_pos rfl]
          rfl
        · rw [pk_un e2, if_neg e2, if_neg e1]
          exact hV.2.2.1 c hc
    · show (if r = r then some b else _) ≠ none
      rw [if_pos rfl]
      exact Option.some_ne_none b
    · show (if s = r then some b else if s = s then some k else m s) ≠ none
      rw [if_neg (fun y => t3 y.symm), if_pos rfl]
      exact Option.some_ne_none k
/-- a free row: matched by a longer matching, or blocked -/
theorem ds_aug {post : Int32 → St2 → Prop} {f1 f2 f3 f4 f5 : Int32} {a1 a2 a3 a4 a5 a6 a7 : Nat → Int32} {r s : Nat} {P Q : Nat → Prop} {E : Nat → Nat → Prop} {m w : Nat → Option Nat}
    (hT : ds_T r s P Q E m w) (hV : ds_V E m w a1 a2 a3) (hr : m r = none)
    (H1 : ∀ m' w' b2 b3 b4 b5, ds_T r s P Q E m' w' → ds_V E m' w' a1 b2 b3 → m' r ≠ none → (m s ≠ none → m' s ≠ none) → post 1 (f1, f2, f3, f4, f5, a1, b2, b3, b4, b5, a6, a7))
    (H0 : ∀ b4 b5, ds_Bl P Q (m s) → post 0 (f1, f2, f3, f4, f5, a1, a2, a3, b4, b5, a6, a7)) :
    wpX_augment post (f1, f2, f3, f4, f5, a1, a2, a3, a4, a5, a6, a7) (nI r) := by
  obtain ⟨t1, t2, t3, t4, t5, t6, t7, t8, t9, t10⟩ := id hT
  refine nm_r (show upd a4 0 (nI r).toInt8.toInt32 = upd a4 0 (nI r) by rw [ds_by r t1]) ⟨0 + 1 + 1 + 1, ?_⟩
  refine pk_le 1 0 (fun z => absurd z (by omega)) (fun _ => ⟨pk_in 0 7 (by omega), nm_r (show upd a4 0 (nI r) (0 : Int32).toNatClampNeg = nI r from pk_us) ?_⟩)
  -- the free column k is found
  have free : ∀ (k : Nat) (b4 b5 : Nat → Int32), k < 7 → P k → w k = none → b5 k = nI r → wpX_turnPath (fun u => post 1 u) (f1, f2, f3, f4, f5, a1, a2, a3, b4, b5, a6, a7) (nI k) (nI r) := by
    intro k b4 b5 hk hp hwk h5
    have hT1 := ds_up1 hT hr hp hwk
    refine ds_tp1 hk t1 h5 (H1 _ _ _ _ _ _ hT1 (ds_Vof hT1 hV.1 (fun i hi => ?_) (fun c hc => ?_)) ?_ (fun y => ?_))
    · show upd a2 r (nI k) i = ds_o (if i = r then some k else m i)
      by_cases e1 : i = r
      · subst e1
        rw [pk_us, if_pos rfl]
        rfl
      · rw [pk_un e1, if_neg e1]
        exact hV.2.1 i hi
    · show upd a3 k (nI r) c = ds_o (if c = k then some r else w c)
      by_cases e1 : c = k
      · subst e1
        rw [pk_us, if_pos rfl]
        rfl
      · rw [pk_un e1, if_neg e1]
        exact hV.2.2.1 c hc
    · show (if r = r then some k else m r) ≠ none
      rw [if_pos rfl]
      exact Option.some_ne_none k
    · show (if s = r then some k else m s) ≠ none
      rw [if_neg (fun y => t3 y.symm)]
      exact y
  have tk : ∀ k j, w k = some j → m s = some k ∧ j = s := by
    intro k j e
    have u := (t8 k j).mp e
    rcases ds_Trs hT j k u with y | y
    · subst y
      rw [hr] at u
      exact nomatch u
    · subst y
      exact ⟨u, rfl⟩
  have hEr : ∀ k, E r k ↔ P k := fun k => (t6 r k).trans ⟨fun y => y.elim (fun y => y.2) (fun y => absurd y.1 t3), fun y => Or.inl ⟨rfl, y⟩⟩
  refine pk_loop (fun n k (q : Int32 × Int32 × (Nat → Int32) × (Nat → Int32)) => wX_augment_33 post (wX_augment_15 post (nI r) f1 f2 f3 f4 f5 (0 + 1 + 1)) (nI r) 0 (nI r) f1 f2 f3 f4 f5 n q.1 q.2.1 (nI k) a1 a2 a3 q.2.2.1 q.2.2.2 a6 a7)
    (fun k q => (q.1 = nI 1 ∧ ds_R q.2.1 (fun _ => False) ∧ ∀ c, c < k → ¬ P c) ∨ ∃ b, m s = some b ∧ P b ∧ q.1 = nI 2 ∧ ds_R q.2.1 (fun c => c = b) ∧ q.2.2.1 1 = nI s ∧ q.2.2.2 b = nI r ∧ ∀ c, c < k → P c → c = b)
    7 0 (1, 0, upd a4 0 (nI r), a5) (by omega) (Or.inl ⟨rfl, ds_R0, fun c hc => absurd hc (by omega)⟩)
    (fun n q h => pk_le 7 7 (fun _ => nm_r (show (0 : Int32) + 1 = nI 1 by rfl) ?_) (fun z => absurd z (by omega)))
    (fun n k q hk h hW => pk_le 7 k (fun z => absurd z (by omega)) (fun _ => ⟨pk_in r 7 t1, ?_⟩))
  · obtain ⟨q1, q2, q3, q4⟩ := q
    rcases h with ⟨e1, _, h⟩ | ⟨b, hs, hb, e1, h3, h4, h5, h⟩
    · have e1 : q1 = nI 1 := e1
      subst e1
      exact pk_le 1 1 (fun _ => H0 _ _ (Or.inl (fun c hc => h c (t4 c hc) hc))) (fun z => absurd z (by omega))
    · have e1 : q1 = nI 2 := e1
      subst e1
      exact pk_le 2 1 (fun z => absurd z (by omega)) (fun _ => ⟨pk_in 1 7 (by omega), nm_r (show q3 (nI 1).toNatClampNeg = nI s by rw [nI_clamp (by omega)]; exact h4) (ds_aug2 hT hV hr hs (fun j => ⟨fun p => h j (t4 j p) p, fun e => e ▸ hb⟩) h3 h5 (fun m' w' b2 b3 b5 => H1 m' w' b2 b3 q3 b5) (H0 q3 q4))⟩)
  · rw [nI_clamp (show r < 2 ^ 31 by omega)]
    obtain ⟨q1, q2, q3, q4⟩ := q
    have e5 : upd q4 (nI k).toNatClampNeg (nI r).toInt8.toInt32 = upd q4 k (nI r) := by rw [nI_clamp (by omega), ds_by r t1]
    rcases h with ⟨e1, h3, h⟩ | ⟨b, hs, hb, e1, h3, h4, h5, h⟩
    · have e1 : q1 = nI 1 := e1
      have h3 : ds_R q2 (fun _ => False) := h3
      subst e1
      refine ek_if (ds_Rn (hV.1 r t1) h3 hk) (fun z => nm_r (nI_1 k) (hW (nI 1, q2, q3, q4) (Or.inl ⟨rfl, h3, fun c hc p => ?_⟩))) (fun z => nm_e ⟨pk_in k 7 hk, nm_r e5 ⟨pk_in k 7 hk, ?_⟩⟩)
      · by_cases e : c = k
        · subst e
          exact z ⟨(hEr c).mpr p, id⟩
        · exact h c (by omega) p
      · have hp : P k := (hEr k).mp (Classical.not_not.mp z).1
        rw [nI_clamp (show k < 2 ^ 31 by omega)]
        refine ds_oG (hV.2.2.1 k hk) (hV.2.2.2.2 k) (fun e => free k q3 (upd q4 k (nI r)) hk hp e pk_us) (fun j e => ⟨pk_in k 7 hk, pk_in 1 7 (by omega), ?_⟩)
        obtain ⟨u1, u2⟩ := tk k j e
        have e4 : upd q3 (nI 1).toNatClampNeg (vp_nar .byte (a3 k)) = upd q3 1 (nI s) := by
          rw [nI_clamp (by omega), hV.2.2.1 k hk, e, u2, vp_nar_byte]
          show upd q3 1 (nI s).toInt8.toInt32 = _
          rw [ds_by s t2]
        refine nm_r e4 (nm_r (nI_1 1) (nm_r (nI_1 k) (hW (nI 2, q2 ||| ((1 : Int32) <<< (nI k &&& 31)), upd q3 1 (nI s), upd q4 k (nI r)) (Or.inr ⟨k, u1, hp, rfl, ?_, (pk_us : upd q3 1 (nI s) 1 = nI s), (pk_us : upd q4 k (nI r) k = nI r), fun c hc p => ?_⟩))))
        · exact ds_Rc (ds_Ror h3 (ds_R1 hk)) (fun j _ => ⟨fun t => t.elim False.elim id, Or.inr⟩)
        · by_cases e : c = k
          · exact e
          · exact absurd p (h c (by omega))
    · have e1 : q1 = nI 2 := e1
      have h3 : ds_R q2 (fun c => c = b) := h3
      subst e1
      refine ek_if (ds_Rn (hV.1 r t1) h3 hk) (fun z => nm_r (nI_1 k) (hW (nI 2, q2, q3, q4) (Or.inr ⟨b, hs, hb, rfl, h3, h4, h5, fun c hc p => ?_⟩))) (fun z => nm_e ⟨pk_in k 7 hk, nm_r e5 ⟨pk_in k 7 hk, ?_⟩⟩)
      · by_cases e : c = k
        · subst e
          exact Classical.not_not.mp (fun y => z ⟨(hEr c).mpr p, y⟩)
        · exact h c (by omega) p
      · have z' := Classical.not_not.mp z
        have hp : P k := (hEr k).mp z'.1
        rw [nI_clamp (show k < 2 ^ 31 by omega)]
        refine ds_oG (hV.2.2.1 k hk) (hV.2.2.2.2 k) (fun e => free k q3 (upd q4 k (nI r)) hk hp e pk_us) (fun j e => ?_)
        have u := (tk k j e).1
        exact absurd (Option.some.inj (u.symm.trans hs)) z'.2
end
section
/-! ===== prepare ===== -/
theorem ds_86 {post : St2 → Prop} {J : Int32 → Int32 → Int32 → Int32 → Int32 → Int32 → Int32 → (Nat → Int32) → (Nat → Int32) → (Nat → Int32) → (Nat → Int32) → (Nat → Int32) → (Nat → Int32) → (Nat → Int32) → Prop} {x2 f1 f2 f3 f4 f5 : Int32} {a1 a2 a3 a4 a5 a6 a7 : Nat → Int32} {r s : Nat} {P Q : Nat → Prop} {E : Nat → Nat → Prop} {m w : Nat → Option Nat}
    (hT : ds_T r s P Q E m w) (hV : ds_V E m w a1 a2 a3)
    (H : ∀ x1 m' w' b2 b3 b4 b5, ds_T r s P Q E m' w' → ds_V E m' w' a1 b2 b3 → ds_Mx r s P Q m' → J x1 (x2 + 1) f1 f2 f3 f4 f5 a1 b2 b3 b4 b5 a6 a7) :
    ∃ n, wX_prepare_86 post J x2 n 0 0 f1 f2 f3 f4 f5 a1 a2 a3 a4 a5 a6 a7 := by
  refine pk_loop (fun n k (q : Int32 × (Nat → Int32) × (Nat → Int32) × (Nat → Int32) × (Nat → Int32)) => wX_prepare_86 post J x2 n q.1 (nI k) f1 f2 f3 f4 f5 a1 q.2.1 q.2.2.1 q.2.2.2.1 q.2.2.2.2 a6 a7)
    (fun k q => ∃ m w, ds_T r s P Q E m w ∧ ds_V E m w a1 q.2.1 q.2.2.1 ∧ (r < k → m r = none → ds_Bl P Q (m s)) ∧ (s < k → m s = none → ds_Bl Q P (m r)))
    7 0 (0, a2, a3, a4, a5) (by omega) ⟨m, w, hT, hV, fun z => absurd z (by omega), fun z => absurd z (by omega)⟩
    (fun n q h => pk_le 7 7 (fun _ => nm_e ?_) (fun z => absurd z (by omega)))
    (fun n k q hk h hW => pk_le 7 k (fun z => absurd z (by omega)) (fun _ => ⟨pk_in k 7 hk, ?_⟩))
  · obtain ⟨m', w', h1, h2, h3, h4⟩ := h
    exact H _ m' w' _ _ _ _ h1 h2 ⟨h3 h1.1, h4 h1.2.1⟩
  · obtain ⟨q1, q2, q3, q4, q5⟩ := q
    obtain ⟨m', w', h1, h2, h3, h4⟩ := h
    have h2 : ds_V E m' w' a1 q2 q3 := h2
    rw [nI_clamp (show k < 2 ^ 31 by omega)]
    refine ds_oG (h2.2.1 k hk) (h2.2.2.2.1 k) (fun e => ?_) (fun c e => nm_r (nI_1 k) (hW (q1, q2, q3, q4, q5) ⟨m', w', h1, h2, fun z y => ?_, fun z y => ?_⟩))
    · by_cases er : k = r
      · subst er
        refine ds_aug h1 h2 e (fun m1 w1 b2 b3 b4 b5 g1 g2 g3 g4 => br_f (by decide) (nm_r (nI_1 k) (hW (1, b2, b3, b4, b5) ⟨m1, w1, g1, g2, fun _ y => absurd y g3, fun z y => ?_⟩))) (fun b4 b5 g => br_t rfl (nm_r (nI_1 k) (hW (q1, q2, q3, b4, b5) ⟨m', w', h1, h2, fun _ _ => g, fun z y => h4 (by have := h1.2.2.1; omega) y⟩)))
        have ms : m' s = none := Classical.not_not.mp (fun t => g4 t y)
        rcases h4 (by have := h1.2.2.1; omega) ms with t | ⟨c, t, _⟩
        · exact Or.inl t
        · rw [e] at t
          exact nomatch t
      · by_cases es : k = s
        · subst es
          refine ds_aug (ds_Tsw h1) h2 e (fun m1 w1 b2 b3 b4 b5 g1 g2 g3 g4 => br_f (by decide) (nm_r (nI_1 k) (hW (1, b2, b3, b4, b5) ⟨m1, w1, ds_Tsw g1, g2, fun z y => ?_, fun _ y => absurd y g3⟩))) (fun b4 b5 g => br_t rfl (nm_r (nI_1 k) (hW (q1, q2, q3, b4, b5) ⟨m', w', h1, h2, fun z y => h3 (by have := h1.2.2.1; omega) y, fun _ _ => g⟩)))
          have ms : m' r = none := Classical.not_not.mp (fun t => g4 t y)
          rcases h3 (by have := h1.2.2.1; omega) ms with t | ⟨c, t, _⟩
          · exact Or.inl t
          · rw [e] at t
            exact nomatch t
        · refine ds_augN hk (ds_Rc (h2.1 k hk) (fun c _ => ⟨fun t => ?_, False.elim⟩)) (fun b => br_t rfl (nm_r (nI_1 k) (hW (q1, q2, q3, b, q5) ⟨m', w', h1, h2, fun z y => h3 (by omega) y, fun z y => h4 (by omega) y⟩)))
          rcases (h1.2.2.2.2.2.1 k c).mp t with t | t
          · exact er t.1
          · exact es t.1
    · by_cases er : k = r
      · subst er
        rw [e] at y
        exact nomatch y
      · exact h3 (by omega) y
    · by_cases er : k = s
      · subst er
        rw [e] at y
        exact nomatch y
      · exact h4 (by omega) y
theorem ds_72 {post : St2 → Prop} {f1 f2 f3 f4 f5 : Int32} {a1 a2 a3 a4 a5 a6 a7 : Nat → Int32} {r s : Nat} {P Q : Nat → Prop} {E : Nat → Nat → Prop} {m w : Nat → Option Nat}
    (hT : ds_T r s P Q E m w) (hV : ds_V E m w a1 a2 a3)
    (H : ∀ m' w' b2 b3 b4 b5, ds_T r s P Q E m' w' → ds_V E m' w' a1 b2 b3 → ds_Mx r s P Q m' → wX_prepare_123 post f1 f2 f3 f4 f5 a1 b2 b3 b4 b5 a6 a7) :
    ∃ n, wX_prepare_72 post n 1 0 f1 f2 f3 f4 f5 a1 a2 a3 a4 a5 a6 a7 := by
  refine pk_loop (fun n k (q : Int32 × (Nat → Int32) × (Nat → Int32) × (Nat → Int32) × (Nat → Int32)) => wX_prepare_72 post n q.1 (nI k) f1 f2 f3 f4 f5 a1 q.2.1 q.2.2.1 q.2.2.2.1 q.2.2.2.2 a6 a7)
    (fun k q => (k = 0 → q.1 = 1) ∧ ∃ m w, ds_T r s P Q E m w ∧ ds_V E m w a1 q.2.1 q.2.2.1 ∧ (0 < k → ds_Mx r s P Q m))
    8 0 (1, a2, a3, a4, a5) (by omega) ⟨fun _ => rfl, m, w, hT, hV, fun z => absurd z (by omega)⟩
    (fun n q h => pk_le 8 8 (fun _ => ?_) (fun z => absurd z (by omega)))
    (fun n k q hk h hW => pk_le 8 k (fun z => absurd z (by omega)) (fun _ => br_c (fun z => ?_) (fun z => ?_)))
  · obtain ⟨_, m', w', h1, h2, h3⟩ := h
    exact H m' w' _ _ _ _ h1 h2 (h3 (by omega))
  · obtain ⟨h0, m', w', h1, h2, h3⟩ := h
    refine H m' w' _ _ _ _ h1 h2 (h3 (Nat.pos_of_ne_zero (fun e => ?_)))
    have y := h0 e
    rw [z] at y
    exact absurd y (by decide)
  · obtain ⟨h0, m', w', h1, h2, h3⟩ := h
    refine ds_86 h1 h2 (fun x1 m1 w1 b2 b3 b4 b5 g1 g2 g3 => ?_)
    rw [nI_1]
    exact hW (x1, b2, b3, b4, b5) ⟨fun e => absurd e (by omega), m1, w1, g1, g2, fun _ => g3⟩
/-- in the picture, what a row leads to is closed already -/
theorem ds_tr {r s : Nat} {P Q : Nat → Prop} {E : Nat → Nat → Prop} {m w : Nat → Option Nat} (hT : ds_T r s P Q E m w) : ∀ i j k, ds_Re E w i j → ds_Re E w j k → ds_Re E w i k := by
  obtain ⟨t1, t2, t3, t4, t5, t6, t7, t8, t9, t10⟩ := id hT
  intro i j k h1 h2
  obtain ⟨c, hc, e1, w1⟩ := h1
  obtain ⟨d, hd, e2, w2⟩ := h2
  by_cases eij : i = j
  · subst eij
    exact ⟨d, hd, e2, w2⟩
  · by_cases ejk : j = k
    · subst ejk
      exact ⟨c, hc, e1, w1⟩
    · have mj := (t8 c j).mp w1
      have mk := (t8 d k).mp w2
      have hj := ds_Trs hT j c mj
      have hk := ds_Trs hT k d mk
      have hi : i = r ∨ i = s := ((t6 i c).mp e1).elim (fun y => Or.inl y.1) (fun y => Or.inr y.1)
      have eik : i = k := by omega
      subst eik
      refine ⟨d, hd, (t6 i d).mpr ?_, w2⟩
      rcases hi with y | y
      · subst y
        exact Or.inl ⟨rfl, t9 d mk⟩
      · subst y
        exact Or.inr ⟨rfl, t10 d mk⟩
/-- a prepared state -/
def ds_K (r s : Nat) (P Q : Nat → Prop) (f1 f2 f3 f5 : Int32) (a1 a2 a7 : Nat → Int32) : Prop :=
  f1 = 1 ∧ ∃ E m w, ds_T r s P Q E m w ∧ ds_Mx r s P Q m ∧ (∀ i, i < 7 → ds_R (a1 i) (E i)) ∧ (∀ i, i < 7 → a2 i = ds_o (m i)) ∧
    ds_R f2 (ds_RR E m w 8) ∧ ds_R f3 (fun c => ∃ j, j < 7 ∧ (ds_RR E m w 7 j ∧ E j c)) ∧ ds_R f5 (ds_CC E m w 8) ∧
    ∀ j, j < 7 → ds_R (a7 j) (fun c => E j c ∧ ds_U m w (ds_RR E m w 8) (ds_CC E m w 8) (ds_Re E w) j c)
theorem ds_123 {post : St2 → Prop} {f2 f3 f4 f5 : Int32} {a1 a2 a3 a4 a5 a6 a7 : Nat → Int32} {r s : Nat} {P Q : Nat → Prop} {E : Nat → Nat → Prop} {m w : Nat → Option Nat}
    (hT : ds_T r s P Q E m w) (hV : ds_V E m w a1 a2 a3) (hM : ds_Mx r s P Q m)
    (H : ∀ g2 g3 g4 g5 b6 b7, ds_K r s P Q 1 g2 g3 g5 a1 a2 b7 → post (1, g2, g3, g4, g5, a1, a2, a3, a4, a5, b6, b7)) :
    wX_prepare_123 post 1 f2 f3 f4 f5 a1 a2 a3 a4 a5 a6 a7 := by
  unfold wX_prepare_123
  refine ds_12 hV (ds_tr hT) (fun g2 g3 g4 g5 b6 h2 h3 h5 h6 => ?_)
  refine ds_fU hV h2 h5 h6 (fun b7 h7 => ?_)
  exact H g2 g3 g4 g5 b6 b7 ⟨rfl, E, m, w, hT, hM, hV.1, hV.2.1, h2, h3, h5, h7⟩
/-- the first call: no partners yet -/
theorem ds_prep0 {post : St2 → Prop} {f2 f3 f4 f5 : Int32} {a1 a2 a3 a4 a5 a6 a7 : Nat → Int32} {r s : Nat} {P Q : Nat → Prop} {E : Nat → Nat → Prop}
    (hT : ds_T r s P Q E (fun _ => none) (fun _ => none)) (h1 : ∀ i, i < 7 → ds_R (a1 i) (E i)) (h2 : ∀ i, i < 7 → a2 i = -1) (h3 : ∀ i, i < 7 → a3 i = -1)
    (H : ∀ g2 g3 g4 g5 b2 b3 b4 b5 b6 b7, ds_K r s P Q 1 g2 g3 g5 a1 b2 b7 → post (1, g2, g3, g4, g5, a1, b2, b3, b4, b5, b6, b7)) :
    wpX_prepare post (0, f2, f3, f4, f5, a1, a2, a3, a4, a5, a6, a7) := by
  refine br_t rfl ?_
  refine pk_loop (σ := Unit) (fun n k _ => wX_prepare_15 post 1 f2 f3 f4 f5 n (nI k) a1 a2 a3 a4 a5 a6 a7) (fun _ _ => True) 7 0 () (by omega) trivial
    (fun n _ _ => pk_le 7 7 (fun _ => ds_72 hT (ds_Vof hT h1 h2 h3) (fun m' w' b2 b3 b4 b5 g1 g2 g3 => ds_123 g1 g2 g3 (fun g2 g3 g4 g5 b6 b7 hK => H g2 g3 g4 g5 b2 b3 b4 b5 b6 b7 hK))) (fun z => absurd z (by omega)))
    (fun n k _ hk _ hW => pk_le 7 k (fun z => absurd z (by omega)) (fun _ => ⟨pk_in k 7 hk, nm_r (show a2 (nI k).toNatClampNeg = -1 by rw [nI_clamp (by omega), h2 k hk]) (br_t (by decide) (nm_r (nI_1 k) (hW () trivial)))⟩))
theorem ds_prep1 {post : St2 → Prop} {f2 f3 f4 f5 : Int32} {a1 a2 a3 a4 a5 a6 a7 : Nat → Int32} (H : post (1, f2, f3, f4, f5, a1, a2, a3, a4, a5, a6, a7)) :
    wpX_prepare post (1, f2, f3, f4, f5, a1, a2, a3, a4, a5, a6, a7) := br_f (by decide) H
end
section
/-! ===== the plain law: what the picture's largest matching says ===== -/
def ds_same (P Q : Nat → Prop) : Prop := ∃ c, (∀ j, P j ↔ j = c) ∧ (∀ j, Q j ↔ j = c)
def ds_both (P Q : Nat → Prop) : Prop := (∃ c, P c) ∧ (∃ c, Q c) ∧ ¬ ds_same P Q
def ds_sin (P : Nat → Prop) : Prop := ∃ c, ∀ j, P j ↔ j = c
theorem ds_smC {P Q : Nat → Prop} (h : ds_same P Q) : ds_same Q P := h.elim (fun c y => ⟨c, y.2, y.1⟩)
theorem ds_boC {P Q : Nat → Prop} (h : ds_both P Q) : ds_both Q P := ⟨h.2.1, h.1, fun y => h.2.2 (ds_smC y)⟩
section
variable {r s : Nat} {P Q : Nat → Prop} {E : Nat → Nat → Prop} {m w : Nat → Option Nat}
theorem ds_cases (hT : ds_T r s P Q E m w) (hM : ds_Mx r s P Q m) :
    (∃ a b, m r = some a ∧ m s = some b ∧ a ≠ b) ∨ (∃ a, m r = some a ∧ m s = none ∧ ∀ c, ¬ Q c) ∨ (∃ b, m r = none ∧ m s = some b ∧ ∀ c, ¬ P c) ∨
    (∃ a, m r = some a ∧ m s = none ∧ (∀ j, P j ↔ j = a) ∧ (∀ j, Q j ↔ j = a)) ∨ (∃ b, m r = none ∧ m s = some b ∧ (∀ j, P j ↔ j = b) ∧ (∀ j, Q j ↔ j = b)) ∨
    (m r = none ∧ m s = none ∧ (∀ c, ¬ P c) ∧ ∀ c, ¬ Q c) := by
  obtain ⟨t1, t2, t3, t4, t5, t6, t7, t8, t9, t10⟩ := id hT
  cases e1 : m r with
  | some a =>
    cases e2 : m s with
    | some b =>
      refine Or.inl ⟨a, b, rfl, rfl, fun e => ?_⟩
      subst e
      exact t3 (Option.some.inj (((t8 a r).mpr e1).symm.trans ((t8 a s).mpr e2)))
    | none =>
      rcases hM.2 e2 with y | ⟨c, y, y1, y2⟩
      · exact Or.inr (Or.inl ⟨a, rfl, rfl, y⟩)
      · have ec : a = c := Option.some.inj (e1.symm.trans y)
        subst ec
        exact Or.inr (Or.inr (Or.inr (Or.inl ⟨a, rfl, rfl, y2, y1⟩)))
  | none =>
    cases e2 : m s with
    | some b =>
      rcases hM.1 e1 with y | ⟨c, y, y1, y2⟩
      · exact Or.inr (Or.inr (Or.inl ⟨b, rfl, rfl, y⟩))
      · have ec : b = c := Option.some.inj (e2.symm.trans y)
        subst ec
        exact Or.inr (Or.inr (Or.inr (Or.inr (Or.inl ⟨b, rfl, rfl, y1, y2⟩))))
    | none =>
      refine Or.inr (Or.inr (Or.inr (Or.inr (Or.inr ⟨rfl, rfl, ?_, ?_⟩))))
      · rcases hM.1 e1 with y | ⟨c, y, _⟩
        · exact y
        · rw [e2] at y
          exact nomatch y
      · rcases hM.2 e2 with y | ⟨c, y, _⟩
        · exact y
        · rw [e1] at y
          exact nomatch y
theorem ds_Msw (hM : ds_Mx r s P Q m) : ds_Mx s r Q P m := ⟨hM.2, hM.1⟩
theorem ds_RRm {i : Nat} (h : m i = none) (k : Nat) : ds_RR E m w k i := by
  induction k with
  | zero => exact h
  | succ k ih => exact Or.inl ih
theorem ds_RRs (hT : ds_T r s P Q E m w) (k : Nat) : ds_RR E m w (k + 1) r ↔ ds_RR E m w k r ∨ (ds_RR E m w k s ∧ ∃ c, m r = some c ∧ Q c) := by
  obtain ⟨t1, t2, t3, t4, t5, t6, t7, t8, t9, t10⟩ := id hT
  constructor
  · rintro (h | ⟨c, hc, ⟨j, hj, hr, he⟩, hw⟩)
    · exact Or.inl h
    · rcases (t6 j c).mp he with y | y
      · rw [y.1] at hr
        exact Or.inl hr
      · rw [y.1] at hr
        exact Or.inr ⟨hr, c, (t8 c r).mp hw, y.2⟩
  · rintro (h | ⟨h, c, e, q⟩)
    · exact Or.inl h
    · exact Or.inr ⟨c, t5 c q, ⟨s, t2, h, (t6 s c).mpr (Or.inr ⟨rfl, q⟩)⟩, (t8 c r).mpr e⟩
theorem ds_RRr (hT : ds_T r s P Q E m w) (hM : ds_Mx r s P Q m) (k : Nat) : ds_RR E m w (k + 1) r ↔ (∀ c, ¬ P c) ∨ ds_same P Q := by
  obtain ⟨t1, t2, t3, t4, t5, t6, t7, t8, t9, t10⟩ := id hT
  rcases ds_cases hT hM with ⟨a, b, ea, eb, hab⟩ | ⟨a, ea, eb, hq⟩ | ⟨b, ea, eb, hp⟩ | ⟨a, ea, eb, hp, hq⟩ | ⟨b, ea, eb, hp, hq⟩ | ⟨ea, eb, hp, hq⟩
  · have no : ∀ k, ¬ ds_RR E m w k r ∧ ¬ ds_RR E m w k s := by
      intro k
      induction k with
      | zero => exact ⟨fun y => by have y : m r = none := y; rw [ea] at y; exact (nomatch y), fun y => by have y : m s = none := y; rw [eb] at y; exact (nomatch y)⟩
      | succ k ih =>
        refine ⟨fun y => ?_, fun y => ?_⟩
        · rcases (ds_RRs hT k).mp y with y | y
          · exact ih.1 y
          · exact ih.2 y.1
        · rcases (ds_RRs (ds_Tsw hT) k).mp y with y | y
          · exact ih.2 y
          · exact ih.1 y.1
    refine ⟨fun y => absurd y (no _).1, fun y => ?_⟩
    rcases y with y | ⟨c, y1, y2⟩
    · exact absurd (t9 a ea) (y a)
    · exact absurd (((y1 a).mp (t9 a ea)).trans ((y2 b).mp (t10 b eb)).symm) hab
  · have no : ∀ k, ¬ ds_RR E m w k r := by
      intro k
      induction k with
      | zero => exact fun y => by have y : m r = none := y; rw [ea] at y; exact nomatch y
      | succ k ih =>
        intro y
        rcases (ds_RRs hT k).mp y with y | ⟨_, c, _, y⟩
        · exact ih y
        · exact hq c y
    refine ⟨fun y => absurd y (no _), fun y => ?_⟩
    rcases y with y | ⟨c, y1, y2⟩
    · exact absurd (t9 a ea) (y a)
    · exact absurd ((y2 c).mpr rfl) (hq c)
  · exact ⟨fun _ => Or.inl hp, fun _ => ds_RRm ea _⟩
  · exact ⟨fun _ => Or.inr ⟨a, hp, hq⟩, fun _ => (ds_RRs hT k).mpr (Or.inr ⟨ds_RRm eb k, a, ea, (hq a).mpr rfl⟩)⟩
  · exact ⟨fun _ => Or.inr ⟨b, hp, hq⟩, fun _ => ds_RRm ea _⟩
  · exact ⟨fun _ => Or.inl hp, fun _ => ds_RRm ea _⟩
theorem ds_CR (hT : ds_T r s P Q E m w) (hM : ds_Mx r s P Q m) (c : Nat) : (∃ j, j < 7 ∧ (ds_RR E m w 7 j ∧ E j c)) ↔ ds_same P Q ∧ P c := by
  obtain ⟨t1, t2, t3, t4, t5, t6, t7, t8, t9, t10⟩ := id hT
  constructor
  · rintro ⟨j, hj, hr, he⟩
    rcases (t6 j c).mp he with ⟨y, p⟩ | ⟨y, q⟩
    · subst y
      rcases (ds_RRr hT hM 6).mp hr with y | y
      · exact absurd p (y c)
      · exact ⟨y, p⟩
    · subst y
      rcases (ds_RRr (ds_Tsw hT) (ds_Msw hM) 6).mp hr with y | ⟨d, y1, y2⟩
      · exact absurd q (y c)
      · exact ⟨⟨d, y2, y1⟩, (y2 c).mpr ((y1 c).mp q)⟩
  · rintro ⟨y, p⟩
    exact ⟨r, t1, (ds_RRr hT hM 6).mpr (Or.inr y), (t6 r c).mpr (Or.inl ⟨rfl, p⟩)⟩
theorem ds_CC0 {c : Nat} (h : w c = none) (k : Nat) : ds_CC E m w k c := by
  induction k with
  | zero => exact h
  | succ k ih => exact Or.inl ih
theorem ds_CCm {c k : Nat} (j : Nat) (h : ds_CC E m w k c) : ds_CC E m w (k + j) c := by
  induction j with
  | zero => exact h
  | succ j ih => exact Or.inl ih
theorem ds_bA (hT : ds_T r s P Q E m w) (hM : ds_Mx r s P Q m) (hb : ds_both P Q) : ∃ a b, m r = some a ∧ m s = some b ∧ a ≠ b := by
  rcases ds_cases hT hM with y | ⟨a, ea, eb, hq⟩ | ⟨b, ea, eb, hp⟩ | ⟨a, ea, eb, hp, hq⟩ | ⟨b, ea, eb, hp, hq⟩ | ⟨ea, eb, hp, hq⟩
  · exact y
  · exact absurd hb.2.1 (fun ⟨c, y⟩ => hq c y)
  · exact absurd hb.1 (fun ⟨c, y⟩ => hp c y)
  · exact absurd ⟨a, hp, hq⟩ hb.2.2
  · exact absurd ⟨b, hp, hq⟩ hb.2.2
  · exact absurd hb.1 (fun ⟨c, y⟩ => hp c y)
theorem ds_Ab (hT : ds_T r s P Q E m w) {a b : Nat} (ea : m r = some a) (eb : m s = some b) (hab : a ≠ b) : ds_both P Q := by
  obtain ⟨t1, t2, t3, t4, t5, t6, t7, t8, t9, t10⟩ := id hT
  refine ⟨⟨a, t9 a ea⟩, ⟨b, t10 b eb⟩, fun ⟨c, y1, y2⟩ => ?_⟩
  exact absurd (((y1 a).mp (t9 a ea)).trans ((y2 b).mp (t10 b eb)).symm) hab
/-- the usable edges of row r -/
def ds_W (P Q : Nat → Prop) (c : Nat) : Prop := P c ∧ ¬ (ds_both P Q ∧ ds_sin Q ∧ Q c)
theorem ds_us (hT : ds_T r s P Q E m w) (hM : ds_Mx r s P Q m) (c : Nat) :
    (E r c ∧ ds_U m w (ds_RR E m w 8) (ds_CC E m w 8) (ds_Re E w) r c) ↔ ds_W P Q c := by
  obtain ⟨t1, t2, t3, t4, t5, t6, t7, t8, t9, t10⟩ := id hT
  have hE : E r c ↔ P c := (t6 r c).trans ⟨fun y => y.elim (fun y => y.2) (fun y => absurd y.1 t3), fun y => Or.inl ⟨rfl, y⟩⟩
  constructor
  · rintro ⟨he, hu⟩
    have hp := hE.mp he
    refine ⟨hp, fun ⟨hb, ⟨b', hs⟩, hq⟩ => ?_⟩
    obtain ⟨a, b, ea, eb, hab⟩ := ds_bA hT hM hb
    have e1 : b = b' := (hs b).mp (t10 b eb)
    subst e1
    have e2 : c = b := (hs c).mp hq
    subst e2
    have hwc : w c = some s := (t8 c s).mpr eb
    rcases hu with u | u | u | ⟨j, u, d, hd, u1, u2⟩
    · exact hab (Option.some.inj (ea.symm.trans u))
    · rcases (ds_RRr hT hM 7).mp u with y | y
      · exact y c hp
      · exact hb.2.2 y
    · have no : ∀ k, ¬ ds_CC E m w k c := by
        intro k
        induction k with
        | zero => exact fun y => by have y : w c = none := y; rw [hwc] at y; exact nomatch y
        | succ k ih =>
          rintro (y | ⟨i, hi, ⟨d, hd, y1, y2⟩, y3⟩)
          · exact ih y
          · have ei : i = s := Option.some.inj (((t8 c i).mpr y3).symm.trans hwc)
            subst ei
            rcases (t6 i d).mp y2 with y | y
            · exact t3 y.1.symm
            · have ed : d = c := (hs d).mp y.2
              subst ed
              exact ih y1
      exact no 8 u
    · have ej : j = s := Option.some.inj (u.symm.trans hwc)
      subst ej
      rcases (t6 j d).mp u1 with y | y
      · exact t3 y.1.symm
      · have ed : d = c := (hs d).mp y.2
        subst ed
        exact t3 (Option.some.inj (u2.symm.trans hwc))
  · rintro ⟨hp, hn⟩
    refine ⟨hE.mpr hp, ?_⟩
    cases hwc : w c with
    | none => exact Or.inr (Or.inr (Or.inl (ds_CC0 hwc 8)))
    | some j =>
      have mj := (t8 c j).mp hwc
      rcases ds_Trs hT j c mj with y | y
      · subst y
        exact Or.inl mj
      · subst y
        have hq : Q c := t10 c mj
        rcases ds_cases hT hM with ⟨a, b, ea, eb, hab⟩ | ⟨a, ea, eb, hq⟩ | ⟨b, ea, eb, hp'⟩ | ⟨a, ea, eb, hp, hq⟩ | ⟨b, ea, eb, hp, hq⟩ | ⟨ea, eb, hp, hq⟩
        · have e1 : b = c := Option.some.inj (eb.symm.trans mj)
          subst e1
          have hb := ds_Ab hT ea eb hab
          have hs : ¬ ds_sin Q := fun y => hn ⟨hb, y, hq⟩
          have ⟨d, hd, hdc⟩ : ∃ d, Q d ∧ d ≠ b := Classical.not_not.mp (fun y => hs ⟨b, fun i => ⟨fun q => Classical.not_not.mp (fun z => y ⟨i, q, z⟩), fun e => e ▸ hq⟩⟩)
          cases hwd : w d with
          | none =>
            have g : ds_CC E m w (0 + 1) b := Or.inr ⟨j, t2, ⟨d, t5 d hd, hwd, (t6 j d).mpr (Or.inr ⟨rfl, hd⟩)⟩, mj⟩
            exact Or.inr (Or.inr (Or.inl (ds_CCm 7 g)))
          | some i =>
            have mi := (t8 d i).mp hwd
            rcases ds_Trs hT i d mi with y | y
            · subst y
              exact Or.inr (Or.inr (Or.inr ⟨j, hwc, d, t5 d hd, (t6 j d).mpr (Or.inr ⟨rfl, hd⟩), hwd⟩))
            · subst y
              exact absurd (Option.some.inj (mi.symm.trans mj)) hdc
        · exact absurd (t10 c mj) (hq c)
        · exact absurd hp (hp' c)
        · rw [eb] at mj
          exact nomatch mj
        · exact Or.inr (Or.inl (ds_RRm ea 8))
        · rw [eb] at mj
          exact nomatch mj
theorem ds_usO (hT : ds_T r s P Q E m w) {i : Nat} (h1 : i ≠ r) (h2 : i ≠ s) (c : Nat) : ¬ E i c := by
  intro y
  rcases (hT.2.2.2.2.2.1 i c).mp y with y | y
  · exact h1 y.1
  · exact h2 y.1
/-- a forced edge isn't come to from free columns -/
theorem ds_fc (hT : ds_T r s P Q E m w) (hM : ds_Mx r s P Q m) {a : Nat} (ea : m r = some a) (hU : ∀ c, ds_W P Q c → c = a) : ¬ ds_CC E m w 8 a := by
  obtain ⟨t1, t2, t3, t4, t5, t6, t7, t8, t9, t10⟩ := id hT
  have hwa : w a = some r := (t8 a r).mpr ea
  have no : ∀ k, k ≤ 8 → ¬ ds_CC E m w k a := by
    intro k
    induction k with
    | zero => exact fun _ y => by have y : w a = none := y; rw [hwa] at y; exact nomatch y
    | succ k ih =>
      rintro hk (y | ⟨i, hi, ⟨d, hd, y1, y2⟩, y3⟩)
      · exact ih (by omega) y
      · have ei : i = r := Option.some.inj (((t8 a i).mpr y3).symm.trans hwa)
        subst ei
        have g : ds_CC E m w 8 d := by
          have g := ds_CCm (8 - k) y1
          rw [show k + (8 - k) = 8 by omega] at g
          exact g
        have ed := hU d ((ds_us hT hM d).mp ⟨y2, Or.inr (Or.inr (Or.inl g))⟩)
        subst ed
        exact ih (by omega) y1
  exact no 8 (Nat.le_refl 8)
/-! sizes -/
def ds_sz (P Q : Nat → Prop) (n : Nat) : Prop := (ds_both P Q → n = 2) ∧ (¬ ds_both P Q → ((∃ c, P c) ∨ ∃ c, Q c) → n = 1) ∧ ((∀ c, ¬ P c) → (∀ c, ¬ Q c) → n = 0)
theorem ds_szu {n n' : Nat} (h : ds_sz P Q n) (h' : ds_sz P Q n') : n = n' := by
  by_cases hb : ds_both P Q
  · rw [h.1 hb, h'.1 hb]
  · by_cases he : (∃ c, P c) ∨ ∃ c, Q c
    · rw [h.2.1 hb he, h'.2.1 hb he]
    · have p : ∀ c, ¬ P c := fun c y => he (Or.inl ⟨c, y⟩)
      have q : ∀ c, ¬ Q c := fun c y => he (Or.inr ⟨c, y⟩)
      rw [h.2.2 p q, h'.2.2 p q]
theorem ds_szL (hT : ds_T r s P Q E m w) (hM : ds_Mx r s P Q m) : ds_sz P Q (ds_cnt (fun i => ¬ m i = none) 7) := by
  obtain ⟨t1, t2, t3, t4, t5, t6, t7, t8, t9, t10⟩ := id hT
  have oth : ∀ i, ¬ m i = none → i = r ∨ i = s := by
    intro i y
    by_cases e1 : i = r
    · exact Or.inl e1
    · by_cases e2 : i = s
      · exact Or.inr e2
      · exact absurd (t7 i e1 e2) y
  rcases ds_cases hT hM with ⟨a, b, ea, eb, hab⟩ | ⟨a, ea, eb, hq⟩ | ⟨b, ea, eb, hp⟩ | ⟨a, ea, eb, hp, hq⟩ | ⟨b, ea, eb, hp, hq⟩ | ⟨ea, eb, hp, hq⟩
  · have hb := ds_Ab hT ea eb hab
    refine ⟨fun _ => ?_, fun y => absurd hb y, fun y => absurd hb.1 (fun ⟨c, z⟩ => y c z)⟩
    refine ds_cnt2 7 t1 t2 t3 (fun i hi => ⟨oth i, fun y => ?_⟩)
    rcases y with y | y
    · rw [y, ea]
      exact Option.some_ne_none a
    · rw [y, eb]
      exact Option.some_ne_none b
  · have c1 : ds_cnt (fun i => ¬ m i = none) 7 = 1 := ds_cnt1 7 t1 (fun i hi => ⟨fun y => (oth i y).elim id (fun z => absurd eb (z ▸ y)), fun y => by rw [y, ea]; exact Option.some_ne_none a⟩)
    exact ⟨fun y => absurd y.2.1 (fun ⟨c, z⟩ => hq c z), fun _ _ => c1, fun y => absurd (t9 a ea) (y a)⟩
  · have c1 : ds_cnt (fun i => ¬ m i = none) 7 = 1 := ds_cnt1 7 t2 (fun i hi => ⟨fun y => (oth i y).elim (fun z => absurd ea (z ▸ y)) id, fun y => by rw [y, eb]; exact Option.some_ne_none b⟩)
    exact ⟨fun y => absurd y.1 (fun ⟨c, z⟩ => hp c z), fun _ _ => c1, fun _ y => absurd (t10 b eb) (y b)⟩
  · have c1 : ds_cnt (fun i => ¬ m i = none) 7 = 1 := ds_cnt1 7 t1 (fun i hi => ⟨fun y => (oth i y).elim id (fun z => absurd eb (z ▸ y)), fun y => by rw [y, ea]; exact Option.some_ne_none a⟩)
    exact ⟨fun y => absurd ⟨a, hp, hq⟩ y.2.2, fun _ _ => c1, fun y => absurd (t9 a ea) (y a)⟩
  · have c1 : ds_cnt (fun i => ¬ m i = none) 7 = 1 := ds_cnt1 7 t2 (fun i hi => ⟨fun y => (oth i y).elim (fun z => absurd ea (z ▸ y)) id, fun y => by rw [y, eb]; exact Option.some_ne_none b⟩)
    exact ⟨fun y => absurd ⟨b, hp, hq⟩ y.2.2, fun _ _ => c1, fun _ y => absurd (t10 b eb) (y b)⟩
  · have c0 : ds_cnt (fun i => ¬ m i = none) 7 = 0 := ds_cnt0 7 (fun i hi y => (oth i y).elim (fun z => absurd ea (z ▸ y)) (fun z => absurd eb (z ▸ y)))
    exact ⟨fun y => absurd y.1 (fun ⟨c, z⟩ => hp c z), fun _ y => y.elim (fun ⟨c, z⟩ => absurd z (hp c)) (fun ⟨c, z⟩ => absurd z (hq c)), fun _ _ => c0⟩
theorem ds_szC (hT : ds_T r s P Q E m w) (hM : ds_Mx r s P Q m) : ds_sz P Q (ds_cnt (fun i => (∃ c, E i c) ∧ ¬ ds_RR E m w 8 i) 7 + ds_cnt (fun c => ∃ j, j < 7 ∧ (ds_RR E m w 7 j ∧ E j c)) 7) := by
  obtain ⟨t1, t2, t3, t4, t5, t6, t7, t8, t9, t10⟩ := id hT
  have hEr : ∀ c, E r c ↔ P c := fun c => (t6 r c).trans ⟨fun y => y.elim (fun y => y.2) (fun y => absurd y.1 t3), fun y => Or.inl ⟨rfl, y⟩⟩
  have hEs : ∀ c, E s c ↔ Q c := fun c => (t6 s c).trans ⟨fun y => y.elim (fun y => absurd y.1.symm t3) (fun y => y.2), fun y => Or.inr ⟨rfl, y⟩⟩
  have hr : ((∃ c, E r c) ∧ ¬ ds_RR E m w 8 r) ↔ (∃ c, P c) ∧ ¬ ds_same P Q := by
    constructor
    · rintro ⟨⟨c, y⟩, z⟩
      exact ⟨⟨c, (hEr c).mp y⟩, fun u => z ((ds_RRr hT hM 7).mpr (Or.inr u))⟩
    · rintro ⟨⟨c, y⟩, z⟩
      refine ⟨⟨c, (hEr c).mpr y⟩, fun u => ?_⟩
      rcases (ds_RRr hT hM 7).mp u with u | u
      · exact u c y
      · exact z u
  have hs : ((∃ c, E s c) ∧ ¬ ds_RR E m w 8 s) ↔ (∃ c, Q c) ∧ ¬ ds_same P Q := by
    constructor
    · rintro ⟨⟨c, y⟩, z⟩
      exact ⟨⟨c, (hEs c).mp y⟩, fun u => z ((ds_RRr (ds_Tsw hT) (ds_Msw hM) 7).mpr (Or.inr (ds_smC u)))⟩
    · rintro ⟨⟨c, y⟩, z⟩
      refine ⟨⟨c, (hEs c).mpr y⟩, fun u => ?_⟩
      rcases (ds_RRr (ds_Tsw hT) (ds_Msw hM) 7).mp u with u | u
      · exact u c y
      · exact z (ds_smC u)
  have oth : ∀ i, ((∃ c, E i c) ∧ ¬ ds_RR E m w 8 i) → i = r ∨ i = s := by
    rintro i ⟨⟨c, y⟩, _⟩
    exact ((t6 i c).mp y).elim (fun y => Or.inl y.1) (fun y => Or.inr y.1)
  by_cases hsm : ds_same P Q
  · have c0 : ds_cnt (fun i => (∃ c, E i c) ∧ ¬ ds_RR E m w 8 i) 7 = 0 := by
      refine ds_cnt0 7 (fun i hi y => ?_)
      rcases oth i y with e | e
      · subst e
        exact (hr.mp y).2 hsm
      · subst e
        exact (hs.mp y).2 hsm
    obtain ⟨d, y1, y2⟩ := id hsm
    have c1 : ds_cnt (fun c => ∃ j, j < 7 ∧ (ds_RR E m w 7 j ∧ E j c)) 7 = 1 :=
      ds_cnt1 (a := d) 7 (t4 d ((y1 d).mpr rfl)) (fun i hi => (ds_CR hT hM i).trans ⟨fun z => (y1 i).mp z.2, fun z => ⟨hsm, (y1 i).mpr z⟩⟩)
    rw [c0, c1]
    exact ⟨fun y => absurd hsm y.2.2, fun _ _ => rfl, fun y => absurd ((y1 d).mpr rfl) (y d)⟩
  · have c0 : ds_cnt (fun c => ∃ j, j < 7 ∧ (ds_RR E m w 7 j ∧ E j c)) 7 = 0 := ds_cnt0 7 (fun i hi y => hsm ((ds_CR hT hM i).mp y).1)
    rw [c0, Nat.add_zero]
    by_cases hp : ∃ c, P c
    · by_cases hq : ∃ c, Q c
      · have c2 : ds_cnt (fun i => (∃ c, E i c) ∧ ¬ ds_RR E m w 8 i) 7 = 2 := by
          refine ds_cnt2 7 t1 t2 t3 (fun i hi => ⟨oth i, fun y => ?_⟩)
          rcases y with e | e
          · subst e
            exact hr.mpr ⟨hp, hsm⟩
          · subst e
            exact hs.mpr ⟨hq, hsm⟩
        rw [c2]
        exact ⟨fun _ => rfl, fun y => absurd ⟨hp, hq, hsm⟩ y, fun y => absurd hp (fun ⟨c, z⟩ => y c z)⟩
      · have c1 : ds_cnt (fun i => (∃ c, E i c) ∧ ¬ ds_RR E m w 8 i) 7 = 1 := by
          refine ds_cnt1 7 t1 (fun i hi => ⟨fun y => ?_, fun y => ?_⟩)
          · rcases oth i y with e | e
            · exact e
            · subst e
              exact absurd (hs.mp y).1 hq
          · subst y
            exact hr.mpr ⟨hp, hsm⟩
        rw [c1]
        exact ⟨fun y => absurd y.2.1 hq, fun _ _ => rfl, fun y => absurd hp (fun ⟨c, z⟩ => y c z)⟩
    · by_cases hq : ∃ c, Q c
      · have c1 : ds_cnt (fun i => (∃ c, E i c) ∧ ¬ ds_RR E m w 8 i) 7 = 1 := by
          refine ds_cnt1 7 t2 (fun i hi => ⟨fun y => ?_, fun y => ?_⟩)
          · rcases oth i y with e | e
            · subst e
              exact absurd (hr.mp y).1 hp
            · exact e
          · subst y
            exact hs.mpr ⟨hq, hsm⟩
        rw [c1]
        exact ⟨fun y => absurd y.1 hp, fun _ _ => rfl, fun _ y => absurd hq (fun ⟨c, z⟩ => y c z)⟩
      · have c1 : ds_cnt (fun i => (∃ c, E i c) ∧ ¬ ds_RR E m w 8 i) 7 = 0 := by
          refine ds_cnt0 7 (fun i hi y => ?_)
          rcases oth i y with e | e
          · subst e
            exact absurd (hr.mp y).1 hp
          · subst e
            exact absurd (hs.mp y).1 hq
        rw [c1]
        exact ⟨fun y => absurd y.1 hp, fun _ y => y.elim (fun z => absurd z hp) (fun z => absurd z hq), fun _ _ => rfl⟩
end
end
section
/-! ===== the questions, over a prepared state ===== -/
theorem ds_num {post : Int32 → Prop} {f1 f2 f3 f4 f5 : Int32} {a1 a2 a3 a4 a5 a6 a7 : Nat → Int32} {i : Nat} (hi : i < 7) (H : post 1) : wpX_isNumber post (f1, f2, f3, f4, f5, a1, a2, a3, a4, a5, a6, a7) (nI i) :=
  br_f (nI_pos (by omega)) (pk_lt 6 i (fun z => absurd z (by omega)) (fun _ => H))
theorem ds_lar {post : Int32 → St2 → Prop} {f1 f2 f3 f4 f5 : Int32} {a1 a2 a3 a4 a5 a6 a7 : Nat → Int32} {r s : Nat} {P Q : Nat → Prop} (hK : ds_K r s P Q f1 f2 f3 f5 a1 a2 a7)
    (H : ∀ n, ds_sz P Q n → post (nI n) (f1, f2, f3, f4, f5, a1, a2, a3, a4, a5, a6, a7)) :
    ∃ n, wX_largest_8 post f1 f2 f3 f4 f5 a1 a2 a3 a4 a5 a6 a7 n 0 0 := by
  obtain ⟨_, E, m, w, hT, hM, h1, h2, _⟩ := hK
  refine pk_loop (fun n k q => wX_largest_8 post f1 f2 f3 f4 f5 a1 a2 a3 a4 a5 a6 a7 n q (nI k)) (fun k q => q = nI (ds_cnt (fun i => ¬ m i = none) k)) 7 0 0 (by omega) rfl
    (fun n q h => pk_le 7 7 (fun _ => ?_) (fun z => absurd z (by omega)))
    (fun n k q hk h hW => pk_le 7 k (fun z => absurd z (by omega)) (fun _ => ⟨pk_in k 7 hk, ?_⟩))
  · rw [h]
    exact H _ (ds_szL hT hM)
  · rw [nI_clamp (show k < 2 ^ 31 by omega)]
    refine ds_oL (h2 k hk) (ds_Tm hT k) (fun e => nm_r (nI_1 k) (hW q ?_)) (fun c e => nm_e (nm_r (nI_1 k) (hW (q + 1) ?_)))
    · rw [ds_cntF (f := fun i => ¬ m i = none) (fun y => y e)]
      exact h
    · rw [ds_cntT (f := fun i => ¬ m i = none) (fun y => by rw [e] at y; exact nomatch y), h, nI_1]
theorem ds_cov {post : Int32 → St2 → Prop} {f1 f2 f3 f4 f5 : Int32} {a1 a2 a3 a4 a5 a6 a7 : Nat → Int32} {r s : Nat} {P Q : Nat → Prop} (hK : ds_K r s P Q f1 f2 f3 f5 a1 a2 a7)
    (H : ∀ n, ds_sz P Q n → post (nI n) (f1, f2, f3, f4, f5, a1, a2, a3, a4, a5, a6, a7)) :
    wpX_cover post (f1, f2, f3, f4, f5, a1, a2, a3, a4, a5, a6, a7) := by
  obtain ⟨e1, E, m, w, hT, hM, h1, h2, hr, hc, _⟩ := hK
  subst e1
  unfold wpX_cover
  refine ds_prep1 ?_
  refine pk_loop (fun n k q => wX_cover_8 post 1 f2 f3 f4 f5 a1 a2 a3 a4 a5 a6 a7 n q (nI k)) (fun k q => q = nI (ds_cnt (fun i => (∃ c, E i c) ∧ ¬ ds_RR E m w 8 i) k + ds_cnt (fun c => ∃ j, j < 7 ∧ (ds_RR E m w 7 j ∧ E j c)) k)) 7 0 0 (by omega) rfl
    (fun n q h => pk_le 7 7 (fun _ => ?_) (fun z => absurd z (by omega)))
    (fun n k q hk h hW => pk_le 7 k (fun z => absurd z (by omega)) (fun _ => ⟨pk_in k 7 hk, ?_⟩))
  · rw [h]
    exact H _ (ds_szC hT hM)
  · have tail : ∀ x, x = nI (ds_cnt (fun i => (∃ c, E i c) ∧ ¬ ds_RR E m w 8 i) (k + 1) + ds_cnt (fun c => ∃ j, j < 7 ∧ (ds_RR E m w 7 j ∧ E j c)) k) → wX_cover_37 post (wX_cover_8 post 1 f2 f3 f4 f5 a1 a2 a3 a4 a5 a6 a7 n) x (nI k) 1 f2 f3 f4 f5 a1 a2 a3 a4 a5 a6 a7 := by
      intro x hx
      refine ek_if (ds_Rb hc hk) (fun z => nm_r (nI_1 k) (hW x ?_)) (fun z => nm_e (nm_r (nI_1 k) (hW (x + 1) ?_)))
      · rw [ds_cntF (f := fun c => ∃ j, j < 7 ∧ (ds_RR E m w 7 j ∧ E j c)) z]
        exact hx
      · rw [ds_cntT (f := fun c => ∃ j, j < 7 ∧ (ds_RR E m w 7 j ∧ E j c)) (Classical.not_not.mp z), hx, nI_1]
        rfl
    rw [nI_clamp (show k < 2 ^ 31 by omega)]
    refine ek_if (ds_Rz (h1 k hk)) (fun z => tail q ?_) (fun z => ek_if (ds_Rb hr hk) (fun y => nm_e (tail (q + 1) ?_)) (fun y => tail q ?_))
    · rw [ds_cntF (f := fun i => (∃ c, E i c) ∧ ¬ ds_RR E m w 8 i) (fun ⟨⟨c, u⟩, _⟩ => z c (((hT.2.2.2.2.2.1 k c).mp u).elim (fun v => hT.2.2.2.1 c v.2) (fun v => hT.2.2.2.2.1 c v.2)) u)]
      exact h
    · have ne : ∃ c, E k c := Classical.not_not.mp (fun u => z (fun c _ v => u ⟨c, v⟩))
      rw [ds_cntT (f := fun i => (∃ c, E i c) ∧ ¬ ds_RR E m w 8 i) ⟨ne, y⟩, h, nI_1]
      exact congrArg nI (by omega)
    · rw [ds_cntF (f := fun i => (∃ c, E i c) ∧ ¬ ds_RR E m w 8 i) (fun u => y u.2)]
      exact h
/-- the usable edges, by rows -/
def ds_D (r s : Nat) (A B : Nat → Prop) (j c : Nat) : Prop := (j = r ∧ A c) ∨ (j = s ∧ B c)
theorem ds_K7 {f1 f2 f3 f5 : Int32} {a1 a2 a7 : Nat → Int32} {r s : Nat} {P Q : Nat → Prop} (hK : ds_K r s P Q f1 f2 f3 f5 a1 a2 a7) : ∀ j, j < 7 → ds_R (a7 j) (ds_D r s (ds_W P Q) (ds_W Q P) j) := by
  obtain ⟨_, E, m, w, hT, hM, _, _, _, _, _, h7⟩ := hK
  intro j hj
  have t3 := hT.2.2.1
  refine ds_Rc (h7 j hj) (fun c _ => ?_)
  by_cases e1 : j = r
  · subst e1
    exact (ds_us hT hM c).trans ⟨fun y => Or.inl ⟨rfl, y⟩, fun y => y.elim (fun y => y.2) (fun y => absurd y.1 t3)⟩
  · by_cases e2 : j = s
    · subst e2
      exact (ds_us (ds_Tsw hT) (ds_Msw hM) c).trans ⟨fun y => Or.inr ⟨rfl, y⟩, fun y => y.elim (fun y => absurd y.1 e1) (fun y => y.2)⟩
    · exact ⟨fun y => absurd y.1 (ds_usO hT e1 e2 c), fun y => y.elim (fun y => absurd y.1 e1) (fun y => absurd y.1 e2)⟩
theorem ds_K7r {f1 f2 f3 f5 : Int32} {a1 a2 a7 : Nat → Int32} {r s : Nat} {P Q : Nat → Prop} (hK : ds_K r s P Q f1 f2 f3 f5 a1 a2 a7) : ds_R (a7 r) (ds_W P Q) := by
  have h7 := ds_K7 hK
  obtain ⟨_, E, m, w, hT, _⟩ := hK
  exact ds_Rc (h7 r hT.1) (fun c _ => ⟨fun y => y.elim (fun y => y.2) (fun y => absurd y.1 hT.2.2.1), fun y => Or.inl ⟨rfl, y⟩⟩)
theorem ds_usb {post : Int32 → St2 → Prop} {f1 f2 f3 f4 f5 : Int32} {a1 a2 a3 a4 a5 a6 a7 : Nat → Int32} {r s : Nat} {P Q : Nat → Prop} (hK : ds_K r s P Q f1 f2 f3 f5 a1 a2 a7)
    (H : ∀ x, ds_R x (ds_W P Q) → post x (f1, f2, f3, f4, f5, a1, a2, a3, a4, a5, a6, a7)) :
    wpX_usable post (f1, f2, f3, f4, f5, a1, a2, a3, a4, a5, a6, a7) (nI r) := by
  have h7 := ds_K7r hK
  obtain ⟨e1, E, m, w, hT, _⟩ := hK
  subst e1
  unfold wpX_usable
  refine ds_num hT.1 (br_f (by decide) ?_)
  refine ds_prep1 ⟨pk_in r 7 hT.1, ?_⟩
  have hr := hT.1
  rw [nI_clamp (show r < 2 ^ 31 by omega)]
  exact H _ h7
theorem ds_loo {post : Int32 → St2 → Prop} {f1 f2 f3 f4 f5 : Int32} {a1 a2 a3 a4 a5 a6 a7 : Nat → Int32} {r s : Nat} {P Q : Nat → Prop} (hK : ds_K r s P Q f1 f2 f3 f5 a1 a2 a7)
    (H1 : ((∀ c, ¬ P c) ∨ ds_same P Q) → ∀ x, (x >>> (nI r &&& 31)) &&& 1 = 1 → post x (f1, f2, f3, f4, f5, a1, a2, a3, a4, a5, a6, a7))
    (H0 : ¬ ((∀ c, ¬ P c) ∨ ds_same P Q) → ∀ x, (x >>> (nI r &&& 31)) &&& 1 = 0 → post x (f1, f2, f3, f4, f5, a1, a2, a3, a4, a5, a6, a7)) :
    wpX_looseRows post (f1, f2, f3, f4, f5, a1, a2, a3, a4, a5, a6, a7) := by
  obtain ⟨e1, E, m, w, hT, hM, _, _, hr, _⟩ := hK
  subst e1
  unfold wpX_looseRows
  refine ds_prep1 ?_
  by_cases h : (∀ c, ¬ P c) ∨ ds_same P Q
  · exact H1 h _ (ds_Rt hr hT.1 ((ds_RRr hT hM 7).mpr h))
  · exact H0 h _ (ds_Rf hr hT.1 (fun y => h ((ds_RRr hT hM 7).mp y)))
/-! forced -/
def ds_F (P Q : Nat → Prop) : Prop := ds_sin (ds_W P Q) ∧ (ds_both P Q ∨ ∀ d, ¬ Q d)
theorem ds_for {post : Int32 → St2 → Prop} {f1 f2 f3 f4 f5 : Int32} {a1 a2 a3 a4 a5 a6 a7 : Nat → Int32} {r s : Nat} {P Q : Nat → Prop} (hK : ds_K r s P Q f1 f2 f3 f5 a1 a2 a7)
    (H1 : ds_F P Q → ∀ x, ds_R x (ds_W P Q) → post x (f1, f2, f3, f4, f5, a1, a2, a3, a4, a5, a6, a7))
    (H0 : ¬ ds_F P Q → post 0 (f1, f2, f3, f4, f5, a1, a2, a3, a4, a5, a6, a7)) :
    wpX_forced post (f1, f2, f3, f4, f5, a1, a2, a3, a4, a5, a6, a7) (nI r) := by
  have h7 := ds_K7r hK
  obtain ⟨e1, E, m, w, hT, hM, h1, h2, hRR, _, hCC, _⟩ := hK
  subst e1
  obtain ⟨t1, t2, t3, t4, t5, t6, t7, t8, t9, t10⟩ := id hT
  -- what the law's condition says of the picture
  have key : ds_F P Q → ∃ a, m r = some a ∧ ¬ ds_RR E m w 8 r ∧ ¬ ds_CC E m w 8 a ∧ ∀ c, ds_W P Q c ↔ c = a := by
    rintro ⟨⟨d, hd⟩, hF⟩
    have hWd : ds_W P Q d := (hd d).mpr rfl
    have nsame : ¬ ds_same P Q := by
      rintro ⟨c, y1, y2⟩
      rcases hF with y | y
      · exact y.2.2 ⟨c, y1, y2⟩
      · exact y c ((y2 c).mpr rfl)
    have ⟨a, ea⟩ : ∃ a, m r = some a := by
      cases e : m r with
      | some a => exact ⟨a, rfl⟩
      | none =>
        rcases hM.1 e with y | ⟨c, _, y1, y2⟩
        · exact absurd hWd.1 (y d)
        · exact absurd ⟨c, y1, y2⟩ nsame
    have hWa : ds_W P Q a := (ds_us hT hM a).mp ⟨(t6 r a).mpr (Or.inl ⟨rfl, t9 a ea⟩), Or.inl ea⟩
    have ead : a = d := (hd a).mp hWa
    subst ead
    refine ⟨a, ea, fun y => ?_, ds_fc hT hM ea (fun c y => (hd c).mp y), hd⟩
    rcases (ds_RRr hT hM 7).mp y with y | y
    · exact y a hWa.1
    · exact nsame y
  unfold wpX_forced
  refine ds_num t1 (br_f (by decide) ?_)
  refine ds_prep1 ?_
  refine ⟨pk_in r 7 t1, nm_r (show a2 (nI r).toNatClampNeg = a2 r by rw [nI_clamp (by omega)]) ?_⟩
  refine ds_oL (h2 r t1) (ds_Tm hT r) (fun e => br_t rfl (H0 (fun y => ?_))) (fun a e => ?_)
  · obtain ⟨a, y, _⟩ := key y
    rw [e] at y
    exact nomatch y
  · have ha : a < 7 := ds_Tm hT r a e
    have e2 : a2 r = nI a := by rw [h2 r t1, e]; rfl
    rw [nI_clamp (show r < 2 ^ 31 by omega), e2]
    have no : ∀ y : ds_F P Q, ∀ {X : Prop}, (¬ ds_RR E m w 8 r → ¬ ds_CC E m w 8 a → (∀ c, ds_W P Q c ↔ c = a) → X) → X := by
      intro y X k
      obtain ⟨a', y1, y2, y3, y4⟩ := key y
      have ea : a' = a := Option.some.inj (y1.symm.trans e)
      subst ea
      exact k y2 y3 y4
    refine ek_if (ds_Rb hRR t1) (fun z1 => ?_) (fun z1 => br_t rfl (H0 (fun y => no y (fun k1 _ _ => z1 k1))))
    refine ek_if (ds_Rb hCC ha) (fun z2 => ⟨pk_in r 7 t1, ?_⟩) (fun z2 => br_t rfl (H0 (fun y => no y (fun _ k2 _ => z2 k2))))
    refine br_c (fun z3 => br_f (by decide) ⟨pk_in r 7 t1, ?_⟩) (fun z3 => br_t rfl (H0 (fun y => no y (fun _ _ k3 => z3 (ds_Rx h7 (ds_R1 ha) (fun c _ => k3 c))))))
    have h7' : ds_R ((1 : Int32) <<< (nI a &&& 31)) (ds_W P Q) := z3 ▸ h7
    refine H1 ⟨⟨a, fun c => ⟨fun y => ?_, fun y => ?_⟩⟩, ?_⟩ _ h7'
    · have hc := t4 c y.1
      exact ((ds_R1 ha).1 c hc).mp ((h7'.1 c hc).mpr y)
    · subst y
      exact (h7'.1 c ha).mp (((ds_R1 ha).1 c ha).mpr rfl)
    · by_cases hq : ∀ d, ¬ Q d
      · exact Or.inr hq
      · refine Or.inl ⟨⟨a, t9 a e⟩, Classical.not_not.mp (fun y => hq (fun d z => y ⟨d, z⟩)), fun y => z1 ((ds_RRr hT hM 7).mpr (Or.inr y))⟩
/-! ===== blocks ===== -/
def ds_BK (US : Nat → Nat → Prop) (t : Nat) : Nat → Nat → Prop
  | 0 => fun k => k = t
  | n + 1 => fun k => ds_BK US t n k ∨ ∃ k', k' < 7 ∧ ((∃ c, c < 7 ∧ (US k' c ∧ ∃ j, j < 7 ∧ (ds_BK US t n j ∧ US j c))) ∧ k = k')
theorem ds_sb0 {x : Int32} {k : Nat} {B : Nat → Prop} {T : Nat → Nat → Prop} (h : ds_R x (fun i => B i ∨ ∃ c, c < k ∧ T c i)) (hn : ∀ i, i < 7 → ¬ T k i) : ds_R x (fun i => B i ∨ ∃ c, c < k + 1 ∧ T c i) :=
  ds_Rc h (fun i hi => ⟨fun z => z.elim Or.inl (fun ⟨c, hc, t⟩ => Or.inr ⟨c, by omega, t⟩), fun z => z.elim Or.inl (fun ⟨c, hc, t⟩ => by
    by_cases e : c = k
    · subst e
      exact absurd t (hn i hi)
    · exact Or.inr ⟨c, by omega, t⟩)⟩)
theorem ds_sb1 {x y : Int32} {k : Nat} {B : Nat → Prop} {T : Nat → Nat → Prop} {g : Nat → Prop} (h : ds_R x (fun i => B i ∨ ∃ c, c < k ∧ T c i)) (hy : ds_R y g) (hg : ∀ i, i < 7 → (g i ↔ T k i)) : ds_R (x ||| y) (fun i => B i ∨ ∃ c, c < k + 1 ∧ T c i) :=
  ds_Rc (ds_Ror h hy) (fun i hi => ⟨fun z => by
    rcases z with (z | ⟨c, hc, t⟩) | t
    · exact Or.inl z
    · exact Or.inr ⟨c, by omega, t⟩
    · exact Or.inr ⟨k, by omega, (hg i hi).mp t⟩, fun z => by
    rcases z with z | ⟨c, hc, t⟩
    · exact Or.inl (Or.inl z)
    · by_cases e : c = k
      · subst e
        exact Or.inr ((hg i hi).mpr t)
      · exact Or.inl (Or.inr ⟨c, by omega, t⟩)⟩)
theorem ds_rob {post : Int32 → Prop} {f1 f2 f3 f4 f5 : Int32} {a1 a2 a3 a4 a5 a6 a7 : Nat → Int32} {US : Nat → Nat → Prop} {t : Nat} (ht : t < 7) (h7 : ∀ j, j < 7 → ds_R (a7 j) (US j))
    (H : ∀ x, ds_R x (ds_BK US t 7) → post x) :
    wpX_rowsOfBlock post (f1, f2, f3, f4, f5, a1, a2, a3, a4, a5, a6, a7) (nI t) := by
  refine nm_e ?_
  refine pk_loop (fun n k q => wX_rowsOfBlock_6 post f1 f2 f3 f4 f5 a1 a2 a3 a4 a5 a6 a7 n q (nI k)) (fun k q => ds_R q (ds_BK US t k)) 7 0 ((1 : Int32) <<< (nI t &&& 31)) (by omega) (ds_R1 ht)
    (fun n q h => pk_le 7 7 (fun _ => H q h) (fun z => absurd z (by omega)))
    (fun n k q hk h hW => pk_le 7 k (fun z => absurd z (by omega)) (fun _ => ?_))
  refine pk_loop (fun n' i x => wX_rowsOfBlock_18 post (wX_rowsOfBlock_6 post f1 f2 f3 f4 f5 a1 a2 a3 a4 a5 a6 a7 n) q (nI k) f1 f2 f3 f4 f5 a1 a2 a3 a4 a5 a6 a7 n' x (nI i)) (fun i x => ds_R x (fun c => ∃ j, j < i ∧ (ds_BK US t k j ∧ US j c))) 7 0 0 (by omega) (ds_stI (fun j c => ds_BK US t k j ∧ US j c))
    (fun n' x hx => pk_le 7 7 (fun _ => ?_) (fun z => absurd z (by omega)))
    (fun n' i x hi hx hW' => pk_le 7 i (fun z => absurd z (by omega)) (fun _ => ?_))
  · refine pk_loop (fun n' i y => wX_rowsOfBlock_55 post (wX_rowsOfBlock_6 post f1 f2 f3 f4 f5 a1 a2 a3 a4 a5 a6 a7 n) (nI k) x f1 f2 f3 f4 f5 a1 a2 a3 a4 a5 a6 a7 n' y (nI i)) (fun i y => ds_R y (fun u => ds_BK US t k u ∨ ∃ k', k' < i ∧ ((∃ c, c < 7 ∧ (US k' c ∧ ∃ j, j < 7 ∧ (ds_BK US t k j ∧ US j c))) ∧ u = k'))) 7 0 q (by omega) (ds_Rc h (fun i _ => ⟨Or.inl, fun z => z.elim id (fun ⟨c, hc, _⟩ => absurd hc (by omega))⟩))
      (fun n' y hy => pk_le 7 7 (fun _ => nm_r (nI_1 k) (hW y hy)) (fun z => absurd z (by omega)))
      (fun n' i y hi hy hW' => pk_le 7 i (fun z => absurd z (by omega)) (fun _ => ⟨pk_in i 7 hi, ?_⟩))
    rw [nI_clamp (show i < 2 ^ 31 by omega)]
    refine ek_if (ds_Rz (ds_Rand (h7 i hi) hx)) (fun z => nm_r (nI_1 i) (hW' y (ds_sb0 hy (fun u _ v => ?_)))) (fun z => nm_e (nm_r (nI_1 i) (hW' _ (ds_sb1 hy (ds_R1 hi) (fun u _ => ⟨fun v => ⟨?_, v⟩, fun v => v.2⟩)))))
    · obtain ⟨⟨c, hc, v1, v2⟩, _⟩ := v
      exact z c hc ⟨v1, v2⟩
    · exact Classical.not_not.mp (fun g => z (fun c hc v => g ⟨c, hc, v.1, v.2⟩))
  · refine ek_if (ds_Rb h hi) (fun z => nm_r (nI_1 i) (hW' x (ds_st0 hx (fun c _ v => z v.1)))) (fun z => ⟨pk_in i 7 hi, ?_⟩)
    rw [nI_clamp (show i < 2 ^ 31 by omega)]
    exact nm_e (nm_r (nI_1 i) (hW' _ (ds_st1 hx (h7 i hi) (fun c _ => ⟨fun v => ⟨Classical.not_not.mp z, v⟩, fun v => v.2⟩))))
theorem ds_BKe {US : Nat → Nat → Prop} {r s t : Nat} (hr : r < 7) (hs : s < 7) (ht : t < 7) (hUS : ∀ i c, US i c → (i = r ∨ i = s) ∧ c < 7) (n k : Nat) : ds_BK US t (n + 1) k ↔ k = t ∨ ∃ c, US k c ∧ US t c := by
  have up : ∀ n k, ds_BK US t n k → k = t ∨ ∃ c, US k c ∧ US t c := by
    intro n
    induction n with
    | zero => exact fun k y => Or.inl y
    | succ n ih =>
      rintro k (y | ⟨k', hk', ⟨c, hc, y1, j, hj, y2, y3⟩, e⟩)
      · exact ih k y
      · subst e
        rcases ih j y2 with z | ⟨d, z1, z2⟩
        · subst z
          exact Or.inr ⟨c, y1, y3⟩
        · by_cases e1 : k = t
          · exact Or.inl e1
          · by_cases e2 : j = k
            · subst e2
              exact Or.inr ⟨d, z1, z2⟩
            · have u1 := (hUS k c y1).1
              have u2 := (hUS j c y3).1
              have u3 := (hUS t d z2).1
              have e3 : j = t := by omega
              subst e3
              exact Or.inr ⟨c, y1, y3⟩
  refine ⟨up (n + 1) k, fun y => ?_⟩
  have lo : ∀ n, ds_BK US t (n + 1) k := by
    intro n
    induction n with
    | zero =>
      rcases y with y | ⟨c, y1, y2⟩
      · exact Or.inl y
      · have u := hUS k c y1
        exact Or.inr ⟨k, by omega, ⟨c, u.2, y1, t, ht, rfl, y2⟩, rfl⟩
    | succ n ih => exact Or.inl ih
  exact lo n
theorem ds_blR {post : Int32 → St2 → Prop} {f1 f2 f3 f4 f5 : Int32} {a1 a2 a3 a4 a5 a6 a7 : Nat → Int32} {r s : Nat} {P Q : Nat → Prop} (hK : ds_K r s P Q f1 f2 f3 f5 a1 a2 a7)
    (H0 : (∀ c, ¬ ds_W P Q c) → post 0 (f1, f2, f3, f4, f5, a1, a2, a3, a4, a5, a6, a7))
    (H1 : (∃ c, ds_W P Q c) → ∀ x, ds_R x (fun k => k = r ∨ (k = s ∧ ∃ c, ds_W P Q c ∧ ds_W Q P c)) → post x (f1, f2, f3, f4, f5, a1, a2, a3, a4, a5, a6, a7)) :
    wpX_blockRows post (f1, f2, f3, f4, f5, a1, a2, a3, a4, a5, a6, a7) (nI r) := by
  have h7 := ds_K7r hK
  have h7' := ds_K7 hK
  obtain ⟨e1, E, m, w, hT, _⟩ := hK
  subst e1
  obtain ⟨t1, t2, t3, t4, t5, _⟩ := id hT
  unfold wpX_blockRows
  refine ds_num t1 (br_f (by decide) ?_)
  refine ds_prep1 ⟨pk_in r 7 t1, ?_⟩
  rw [nI_clamp (show r < 2 ^ 31 by omega)]
  refine ek_if (ds_Rz h7) (fun z => H0 (fun c y => z c (t4 c y.1) y)) (fun z => ?_)
  have ne : ∃ c, ds_W P Q c := Classical.not_not.mp (fun u => z (fun c _ v => u ⟨c, v⟩))
  refine ds_rob t1 h7' (fun x hx => H1 ne x (ds_Rc hx (fun k hk => ?_)))
  refine (ds_BKe t1 t2 t1 (fun i c y => ?_) 6 k).trans ⟨fun y => ?_, fun y => ?_⟩
  · rcases y with y | y
    · exact ⟨Or.inl y.1, t4 c y.2.1⟩
    · exact ⟨Or.inr y.1, t5 c y.2.1⟩
  · rcases y with y | ⟨c, y1, y2⟩
    · exact Or.inl y
    · rcases y1 with y1 | y1
      · exact Or.inl y1.1
      · rcases y2 with y2 | y2
        · exact Or.inr ⟨y1.1, c, y2.2, y1.2⟩
        · exact absurd y2.1 t3
  · rcases y with y | ⟨y, c, y1, y2⟩
    · exact Or.inl y
    · exact Or.inr ⟨c, Or.inr ⟨y, y2⟩, Or.inl ⟨rfl, y1⟩⟩
/-- how many blocks -/
def ds_bn (A B : Nat → Prop) (n : Nat) : Prop := ((∀ c, ¬ A c) → (∀ c, ¬ B c) → n = 0) ∧ ((∃ c, A c) → (∀ c, ¬ B c) → n = 1) ∧ ((∀ c, ¬ A c) → (∃ c, B c) → n = 1) ∧ ((∃ c, A c ∧ B c) → n = 1) ∧ ((∃ c, A c) → (∃ c, B c) → (¬ ∃ c, A c ∧ B c) → n = 2)
theorem ds_bnD {r s : Nat} {A B : Nat → Prop} (hr : r < 7) (hs : s < 7) (hrs : r ≠ s) : ds_bn A B (ds_cnt (fun i => (∃ c, ds_D r s A B i c) ∧ ¬ ∃ j, j < i ∧ ∃ c, ds_D r s A B i c ∧ ds_D r s A B j c) 7) := by
  have dr : ∀ c, ds_D r s A B r c ↔ A c := fun c => ⟨fun y => y.elim (fun y => y.2) (fun y => absurd y.1 hrs), fun y => Or.inl ⟨rfl, y⟩⟩
  have dsx : ∀ c, ds_D r s A B s c ↔ B c := fun c => ⟨fun y => y.elim (fun y => absurd y.1.symm hrs) (fun y => y.2), fun y => Or.inr ⟨rfl, y⟩⟩
  have oth : ∀ i c, ds_D r s A B i c → i = r ∨ i = s := fun i c y => y.elim (fun y => Or.inl y.1) (fun y => Or.inr y.1)
  refine ⟨fun ha hb => ?_, fun ha hb => ?_, fun ha hb => ?_, fun hab => ?_, fun ha hb hab => ?_⟩
  · refine ds_cnt0 7 (fun i hi y => ?_)
    obtain ⟨⟨c, y⟩, _⟩ := y
    exact y.elim (fun y => ha c y.2) (fun y => hb c y.2)
  · refine ds_cnt1 7 hr (fun i hi => ⟨fun y => ?_, fun y => ?_⟩)
    · obtain ⟨⟨c, y⟩, _⟩ := y
      exact y.elim (fun y => y.1) (fun y => absurd y.2 (hb c))
    · subst y
      refine ⟨ha.elim (fun c y => ⟨c, Or.inl ⟨rfl, y⟩⟩), fun ⟨j, hj, c, _, y⟩ => ?_⟩
      exact y.elim (fun y => absurd y.1 (by omega)) (fun y => hb c y.2)
  · refine ds_cnt1 7 hs (fun i hi => ⟨fun y => ?_, fun y => ?_⟩)
    · obtain ⟨⟨c, y⟩, _⟩ := y
      exact y.elim (fun y => absurd y.2 (ha c)) (fun y => y.1)
    · subst y
      refine ⟨hb.elim (fun c y => ⟨c, Or.inr ⟨rfl, y⟩⟩), fun ⟨j, hj, c, _, y⟩ => ?_⟩
      exact y.elim (fun y => ha c y.2) (fun y => absurd y.1 (by omega))
  · obtain ⟨c0, y1, y2⟩ := hab
    by_cases hlt : r < s
    · refine ds_cnt1 7 hr (fun i hi => ⟨fun y => ?_, fun y => ?_⟩)
      · obtain ⟨⟨c, y⟩, z⟩ := y
        rcases oth i c y with e | e
        · exact e
        · subst e
          exact absurd ⟨r, hlt, c0, (dsx c0).mpr y2, (dr c0).mpr y1⟩ z
      · subst y
        refine ⟨⟨c0, (dr c0).mpr y1⟩, fun ⟨j, hj, c, _, y⟩ => ?_⟩
        have := oth j c y
        omega
    · refine ds_cnt1 7 hs (fun i hi => ⟨fun y => ?_, fun y => ?_⟩)
      · obtain ⟨⟨c, y⟩, z⟩ := y
        rcases oth i c y with e | e
        · subst e
          exact absurd ⟨s, by omega, c0, (dr c0).mpr y1, (dsx c0).mpr y2⟩ z
        · exact e
      · subst y
        refine ⟨⟨c0, (dsx c0).mpr y2⟩, fun ⟨j, hj, c, _, y⟩ => ?_⟩
        have := oth j c y
        omega
  · refine ds_cnt2 7 hr hs hrs (fun i hi => ⟨fun y => ?_, fun y => ?_⟩)
    · obtain ⟨⟨c, y⟩, _⟩ := y
      exact oth i c y
    · rcases y with y | y
      · subst y
        refine ⟨ha.elim (fun c y => ⟨c, (dr c).mpr y⟩), fun ⟨j, hj, c, z1, z2⟩ => ?_⟩
        rcases oth j c z2 with e | e
        · omega
        · subst e
          exact hab ⟨c, (dr c).mp z1, (dsx c).mp z2⟩
      · subst y
        refine ⟨hb.elim (fun c y => ⟨c, (dsx c).mpr y⟩), fun ⟨j, hj, c, z1, z2⟩ => ?_⟩
        rcases oth j c z2 with e | e
        · subst e
          exact hab ⟨c, (dr c).mp z2, (dsx c).mp z1⟩
        · omega
theorem ds_blo {post : Int32 → St2 → Prop} {f1 f2 f3 f4 f5 : Int32} {a1 a2 a3 a4 a5 a6 a7 : Nat → Int32} {r s : Nat} {P Q : Nat → Prop} (hK : ds_K r s P Q f1 f2 f3 f5 a1 a2 a7)
    (H : ∀ n, ds_bn (ds_W P Q) (ds_W Q P) n → post (nI n) (f1, f2, f3, f4, f5, a1, a2, a3, a4, a5, a6, a7)) :
    wpX_blocks post (f1, f2, f3, f4, f5, a1, a2, a3, a4, a5, a6, a7) := by
  have h7 := ds_K7 hK
  obtain ⟨e1, E, m, w, hT, _⟩ := hK
  subst e1
  obtain ⟨t1, t2, t3, t4, t5, _⟩ := id hT
  have hUS : ∀ i c, ds_D r s (ds_W P Q) (ds_W Q P) i c → (i = r ∨ i = s) ∧ c < 7 := by
    intro i c y
    rcases y with y | y
    · exact ⟨Or.inl y.1, t4 c y.2.1⟩
    · exact ⟨Or.inr y.1, t5 c y.2.1⟩
  have hbn := ds_bnD (A := ds_W P Q) (B := ds_W Q P) t1 t2 t3
  revert h7 hUS hbn
  generalize ds_D r s (ds_W P Q) (ds_W Q P) = US
  intro h7 hUS hbn
  unfold wpX_blocks
  refine ds_prep1 ?_
  refine pk_loop (fun n k (q : Int32 × Int32) => wX_blocks_10 post 1 f2 f3 f4 f5 a1 a2 a3 a4 a5 a6 a7 n q.1 q.2 (nI k))
    (fun k q => q.1 = nI (ds_cnt (fun i => (∃ c, US i c) ∧ ¬ ∃ j, j < i ∧ ∃ c, US i c ∧ US j c) k) ∧ ds_R q.2 (fun i => ∃ j, j < k ∧ ((∃ c, US j c) ∧ (i = j ∨ ∃ c, US i c ∧ US j c)))) 7 0 (0, 0) (by omega) ⟨rfl, ds_stI (fun j i => (∃ c, US j c) ∧ (i = j ∨ ∃ c, US i c ∧ US j c))⟩
    (fun n q h => pk_le 7 7 (fun _ => ?_) (fun z => absurd z (by omega)))
    (fun n k q hk h hW => pk_le 7 k (fun z => absurd z (by omega)) (fun _ => ⟨pk_in k 7 hk, ?_⟩))
  · rw [h.1]
    exact H _ hbn
  · obtain ⟨q1, q2⟩ := q
    obtain ⟨e1, hd⟩ := h
    have e1 : q1 = nI (ds_cnt (fun i => (∃ c, US i c) ∧ ¬ ∃ j, j < i ∧ ∃ c, US i c ∧ US j c) k) := e1
    rw [nI_clamp (show k < 2 ^ 31 by omega)]
    refine ek_if (ds_Rz (h7 k hk)) (fun z => ?_) (fun z => ?_)
    · have no : ¬ ∃ c, US k c := fun ⟨c, y⟩ => z c (hUS k c y).2 y
      refine nm_r (nI_1 k) (hW (q1, q2) ⟨?_, ds_st0 hd (fun i _ y => no y.1)⟩)
      rw [ds_cntF (f := fun i => (∃ c, US i c) ∧ ¬ ∃ j, j < i ∧ ∃ c, US i c ∧ US j c) (fun y => no y.1)]
      exact e1
    · have ne : ∃ c, US k c := Classical.not_not.mp (fun u => z (fun c _ v => u ⟨c, v⟩))
      refine ek_if (ds_Rb hd hk) (fun y => ?_) (fun y => ?_)
      · refine ds_rob hk h7 (fun x hx => nm_e (nm_e (nm_r (nI_1 k) (hW (q1 + 1, q2 ||| x) ⟨?_, ds_st1 hd (ds_Rc hx (fun i _ => ds_BKe t1 t2 hk hUS 6 i)) (fun i _ => ⟨fun u => ⟨ne, u⟩, fun u => u.2⟩)⟩))))
        rw [ds_cntT (f := fun i => (∃ c, US i c) ∧ ¬ ∃ j, j < i ∧ ∃ c, US i c ∧ US j c) ⟨ne, fun ⟨j, hj, c, u1, u2⟩ => y ⟨j, hj, ⟨c, u2⟩, Or.inr ⟨c, u1, u2⟩⟩⟩, e1, nI_1]
      · obtain ⟨j, hj, ⟨c, u0⟩, u⟩ := Classical.not_not.mp y
        have ⟨d, u1, u2⟩ : ∃ d, US k d ∧ US j d := by
          rcases u with u | u
          · omega
          · exact u
        refine nm_r (nI_1 k) (hW (q1, q2) ⟨?_, ds_Rc hd (fun i _ => ⟨fun ⟨j', g1, g2⟩ => ⟨j', by omega, g2⟩, fun ⟨j', g1, g2, g3⟩ => ?_⟩)⟩)
        · rw [ds_cntF (f := fun i => (∃ c, US i c) ∧ ¬ ∃ j, j < i ∧ ∃ c, US i c ∧ US j c) (fun v => v.2 ⟨j, hj, d, u1, u2⟩)]
          exact e1
        · by_cases e : j' = k
          · subst e
            by_cases ei : i = j'
            · exact ⟨j, hj, ⟨c, u0⟩, Or.inr ⟨d, ei ▸ u1, u2⟩⟩
            · have ⟨g, g4, g5⟩ : ∃ g, US i g ∧ US j' g := g3.elim (fun v => absurd v ei) id
              have v1 := (hUS i g g4).1
              have v2 := (hUS j' g g5).1
              have v3 := (hUS j d u2).1
              exact ⟨j, hj, ⟨c, u0⟩, Or.inl (by omega)⟩
          · exact ⟨j', by omega, g2, g3⟩
end
section
/-! ===== the law ===== -/
theorem ds_Rz7 {x : Int32} {f : Nat → Prop} (hx : ds_R x f) (hf : ∀ c, f c → c < 7) : x = 0 ↔ ∀ c, ¬ f c :=
  (ds_Rz hx).trans ⟨fun h c y => h c (hf c y) y, fun h c _ => h c⟩
theorem ds_oS {f : Nat → Prop} (hf : ∀ c, f c → c < 7) : ds_one f ↔ ds_sin f :=
  ⟨fun ⟨c, hc, h⟩ => ⟨c, fun j => ⟨fun y => (h j (hf j y)).mp y, fun e => e ▸ (h c hc).mpr rfl⟩⟩, fun ⟨c, h⟩ => ⟨c, hf c ((h c).mpr rfl), fun j _ => h j⟩⟩
theorem ds_si {post : Int32 → Prop} {x : Int32} {f : Nat → Prop} (hx : ds_R x f) (hf : ∀ c, f c → c < 7) (H1 : ds_sin f → post 1) (H0 : ¬ ds_sin f → post 0) : wpL_single post () x := by
  have hs := (ds_sg hx).trans (ds_oS hf)
  exact br_c (fun z => H0 (fun y => (hs.mpr y).1 z)) (fun z => br_c (fun z2 => H1 (hs.mp ⟨z, z2⟩)) (fun z2 => H0 (fun y => z2 (hs.mpr y).2)))
theorem ds_row {post : Int32 → St2 → Prop} {f1 f2 f3 f4 f5 x : Int32} {a1 a2 a3 a4 a5 a6 a7 : Nat → Int32} {i : Nat} {f : Nat → Prop} (hi : i < 7) (hx : ds_R x f)
    (H : post 1 (0, f2, f3, f4, f5, upd a1 i x, a2, a3, a4, a5, a6, a7)) : wpX_row post (f1, f2, f3, f4, f5, a1, a2, a3, a4, a5, a6, a7) (nI i) x := by
  obtain ⟨n, hn, e⟩ := ds_Rnat hx
  subst e
  unfold wpX_row
  refine ds_num hi (br_f (by decide) (br_f (nI_pos (by omega)) (pk_le n 127 (fun _ => ⟨pk_in i 7 hi, ?_⟩) (fun z => absurd z (by omega)))))
  exact nm_r (show upd a1 (nI i).toNatClampNeg (nI n) = upd a1 i (nI n) by rw [nI_clamp (by omega)]) H
theorem ds_ini {post : St2 → Prop} (H : ∀ b2 b3, (∀ i, i < 7 → b2 i = -1) → (∀ i, i < 7 → b3 i = -1) → post (0, 0, 0, 0, 0, fun _ => 0, b2, b3, fun _ => 0, fun _ => 0, fun _ => 0, fun _ => 0)) : wpX_init post 7 49 (0, 0, 0, 0, 0) := by
  refine ⟨by decide, by decide, by decide, by decide, by decide, by decide, by decide, by decide, by decide, by decide, by decide, by decide, by decide, by decide, ?_⟩
  refine pk_loop (fun n k (q : (Nat → Int32) × (Nat → Int32)) => wX_init_62 post 7 49 7 49 0 0 0 0 0 n (nI k) (fun _ => 0) q.1 q.2 (fun _ => 0) (fun _ => 0) (fun _ => 0) (fun _ => 0))
    (fun k q => (∀ i, i < k → q.1 i = -1) ∧ ∀ i, i < k → q.2 i = -1) 7 0 (fun _ => 0, fun _ => 0) (by omega) ⟨fun i hi => absurd hi (by omega), fun i hi => absurd hi (by omega)⟩
    (fun n q h => pk_le 7 7 (fun _ => H _ _ h.1 h.2) (fun z => absurd z (by omega)))
    (fun n k q hk h hW => pk_le 7 k (fun z => absurd z (by omega)) (fun _ => ⟨pk_in k 7 hk, nm_r (show upd q.1 (nI k).toNatClampNeg (-1) = upd q.1 k (-1) by rw [nI_clamp (by omega)]) ⟨pk_in k 7 hk, nm_r (show upd q.2 (nI k).toNatClampNeg (-1) = upd q.2 k (-1) by rw [nI_clamp (by omega)]) (nm_r (nI_1 k) (hW (upd q.1 k (-1), upd q.2 k (-1)) ⟨fun i hi => ?_, fun i hi => ?_⟩))⟩⟩))
  · show upd q.1 k (-1) i = -1
    by_cases e : i = k
    · rw [e, pk_us]
    · rw [pk_un e]
      exact h.1 i (by omega)
  · show upd q.2 k (-1) i = -1
    by_cases e : i = k
    · rw [e, pk_us]
    · rw [pk_un e]
      exact h.2 i (by omega)
section
variable {post : Int32 → St0 → Prop} {mc ms kc ks r s : Nat} {P Q : Nat → Prop} {x6 x7 x8 x10 x13 : Int32} {f1 f2 f3 f4 f5 : Int32} {a1 a2 a3 a4 a5 a6 a7 : Nat → Int32}
theorem ds_355 {z0 : Int32} (hpo : post 1 ()) (hP : ∀ c, P c → c < 7) (hQ : ∀ c, Q c → c < 7) (h6 : ds_R x6 P) (h7 : ds_R x7 Q) (h8 : x8 = 0 ↔ ¬ ds_both P Q) (hK : ds_K r s P Q f1 f2 f3 f5 a1 a2 a7)
    (hz0 : (∀ c, ¬ ds_W P Q c) → z0 = 0) (hz1 : (∃ c, ds_W P Q c) → ds_R z0 (fun k => k = r ∨ (k = s ∧ ∃ c, ds_W P Q c ∧ ds_W Q P c))) :
    wL_lawOf_355 post mc ms (nI r) x6 x7 x8 z0 kc ks f1 f2 f3 f4 f5 a1 a2 a3 a4 a5 a6 a7 := by
  have e6 := ds_Rz7 h6 hP
  have e7 := ds_Rz7 h7 hQ
  have fin : wpX_looseRows (fun r_278 u => match u with | (fm130_ready_279, fm130_rowsFromRows_280, fm130_columnsFromRows_281, fm130_rowsFromColumns_282, fm130_columnsFromColumns_283, am3731_286, am3732_289, am3733_292, am3734_295, am3735_298, am3736_301, am3737_304) => (((x6 = 0 → (wL_lawOf_396 post mc ms ((r_278 >>> (nI r &&& 31)) &&& 1) kc ks)) ∧ (¬ x6 = 0 → (((x8 = 0 → (((x7 = 0 → (wL_lawOf_400 post mc ms ((r_278 >>> (nI r &&& 31)) &&& 1) kc ks)) ∧ (¬ x7 = 0 → (wL_lawOf_396 post mc ms ((r_278 >>> (nI r &&& 31)) &&& 1) kc ks))))) ∧ (¬ x8 = 0 → (wL_lawOf_400 post mc ms ((r_278 >>> (nI r &&& 31)) &&& 1) kc ks)))))))) (f1, f2, f3, f4, f5, a1, a2, a3, a4, a5, a6, a7) := by
    refine ds_loo hK (fun hl x hx => ?_) (fun hl x hx => ?_)
    · have g : wL_lawOf_396 post mc ms ((x >>> (nI r &&& 31)) &&& 1) kc ks := br_t hx hpo
      refine ⟨fun _ => g, fun z => ⟨fun z8 => ⟨fun z7 => ?_, fun _ => g⟩, fun z8 => ?_⟩⟩
      · rcases hl with y | ⟨c, y1, y2⟩
        · exact absurd (e6.mpr y) z
        · exact absurd ((y2 c).mpr rfl) (e7.mp z7 c)
      · have hb : ds_both P Q := Classical.not_not.mp (fun y => z8 (h8.mpr y))
        rcases hl with y | y
        · exact absurd hb.1 (fun ⟨c, v⟩ => y c v)
        · exact absurd y hb.2.2
    · have g : wL_lawOf_400 post mc ms ((x >>> (nI r &&& 31)) &&& 1) kc ks := br_t hx hpo
      refine ⟨fun z => absurd (Or.inl (e6.mp z)) hl, fun z => ⟨fun z8 => ⟨fun _ => g, fun z7 => ?_⟩, fun _ => g⟩⟩
      have nb := h8.mp z8
      refine absurd ⟨?_, ?_, fun y => hl (Or.inr y)⟩ nb
      · exact Classical.not_not.mp (fun y => z (e6.mpr (fun c v => y ⟨c, v⟩)))
      · exact Classical.not_not.mp (fun y => z7 (e7.mpr (fun c v => y ⟨c, v⟩)))
  unfold wL_lawOf_355
  exact ds_blR hK (fun h => br_t (hz0 h).symm fin) (fun h x hx => br_t (ds_Rx hx (hz1 h) (fun _ _ => Iff.rfl)) fin)
theorem ds_316 {n : Nat} {z0 z1 : Int32} (hpo : post 1 ()) (hr : r < 7) (hs : s < 7) (hP : ∀ c, P c → c < 7) (hQ : ∀ c, Q c → c < 7) (h6 : ds_R x6 P) (h7 : ds_R x7 Q) (h8 : x8 = 0 ↔ ¬ ds_both P Q) (hK : ds_K r s P Q f1 f2 f3 f5 a1 a2 a7)
    (h10 : ds_R x10 (ds_W P Q)) (h13 : ds_R x13 (ds_W Q P)) (hz : nI n = z1 - z0) :
    wL_lawOf_316 post mc ms (nI r) (nI s) x6 x7 x8 x10 x13 z0 z1 (nI n) kc ks f1 f2 f3 f4 f5 a1 a2 a3 a4 a5 a6 a7 := by
  have e10 := ds_Rz7 h10 (fun c y => hP c y.1)
  have eab := ds_Rz7 (ds_Rand h10 h13) (fun c y => hP c y.1.1)
  refine br_t hz ⟨fun z => ?_, fun z => ⟨fun y => ?_, fun y => ?_⟩⟩
  · exact ds_355 hpo hP hQ h6 h7 h8 hK (fun _ => rfl) (fun ⟨c, v⟩ => absurd v (e10.mp z c))
  · refine ds_355 hpo hP hQ h6 h7 h8 hK (fun v => absurd (e10.mpr v) z) (fun _ => ds_Rc (ds_R1 hr) (fun k _ => ⟨Or.inl, fun v => v.elim id (fun ⟨_, c, v⟩ => absurd v (eab.mp y c))⟩))
  · have ne : ∃ c, ds_W P Q c ∧ ds_W Q P c := Classical.not_not.mp (fun v => y (eab.mpr (fun c u => v ⟨c, u⟩)))
    refine ds_355 hpo hP hQ h6 h7 h8 hK (fun v => absurd (e10.mpr v) z) (fun _ => ds_Rc (ds_Ror (ds_R1 hr) (ds_R1 hs)) (fun k _ => ⟨fun v => v.elim Or.inl (fun v => Or.inr ⟨v, ne⟩), fun v => v.elim Or.inl (fun v => Or.inr v.1)⟩))
theorem ds_275 (hpo : post 1 ()) (hr : r < 7) (hs : s < 7) (hP : ∀ c, P c → c < 7) (hQ : ∀ c, Q c → c < 7) (h6 : ds_R x6 P) (h7 : ds_R x7 Q) (h8 : x8 = 0 ↔ ¬ ds_both P Q) (hK : ds_K r s P Q f1 f2 f3 f5 a1 a2 a7)
    (h10 : ds_R x10 (ds_W P Q)) (h13 : ds_R x13 (ds_W Q P)) :
    wL_lawOf_275 post mc ms (nI r) (nI s) x6 x7 x8 x10 x13 kc ks f1 f2 f3 f4 f5 a1 a2 a3 a4 a5 a6 a7 := by
  have e10 := ds_Rz7 h10 (fun c y => hP c y.1)
  have e13 := ds_Rz7 h13 (fun c y => hQ c y.1)
  have eab := ds_Rz7 (ds_Rand h10 h13) (fun c y => hP c y.1.1)
  have nn : ∀ f : Nat → Prop, ¬ (∀ c, ¬ f c) → ∃ c, f c := fun f y => Classical.not_not.mp (fun v => y (fun c u => v ⟨c, u⟩))
  have k : ∀ {n : Nat} {z0 z1 : Int32}, nI n = z1 - z0 → wL_lawOf_316 post mc ms (nI r) (nI s) x6 x7 x8 x10 x13 z0 z1 (nI n) kc ks f1 f2 f3 f4 f5 a1 a2 a3 a4 a5 a6 a7 :=
    fun hz => ds_316 hpo hr hs hP hQ h6 h7 h8 hK h10 h13 hz
  unfold wL_lawOf_275
  refine ds_blo hK (fun n hn => ?_)
  refine ⟨fun z10 => ⟨fun z13 => ⟨fun zab => k ?_, fun zab => k ?_⟩, fun z13 => ⟨fun zab => k ?_, fun zab => k ?_⟩⟩, fun z10 => ⟨fun z13 => ⟨fun zab => k ?_, fun zab => k ?_⟩, fun z13 => ⟨fun zab => k ?_, fun zab => k ?_⟩⟩⟩
  · rw [hn.1 (e10.mp z10) (e13.mp z13)]
    rfl
  · exact absurd (eab.mpr (fun c y => e10.mp z10 c y.1)) zab
  · rw [hn.2.2.1 (e10.mp z10) (nn _ (fun y => z13 (e13.mpr y)))]
    rfl
  · exact absurd (eab.mpr (fun c y => e10.mp z10 c y.1)) zab
  · rw [hn.2.1 (nn _ (fun y => z10 (e10.mpr y))) (e13.mp z13)]
    rfl
  · exact absurd (eab.mpr (fun c y => e13.mp z13 c y.2)) zab
  · rw [hn.2.2.2.2 (nn _ (fun y => z10 (e10.mpr y))) (nn _ (fun y => z13 (e13.mpr y))) (fun ⟨c, y⟩ => eab.mp zab c y)]
    rfl
  · rw [hn.2.2.2.1 (nn _ (fun y => zab (eab.mpr y)))]
    rfl
theorem ds_229 {z : Int32} (hpo : post 1 ()) (hr : r < 7) (hs : s < 7) (hP : ∀ c, P c → c < 7) (hQ : ∀ c, Q c → c < 7) (h6 : ds_R x6 P) (h7 : ds_R x7 Q) (h8 : x8 = 0 ↔ ¬ ds_both P Q) (hK : ds_K r s P Q f1 f2 f3 f5 a1 a2 a7)
    (h10 : ds_R x10 (ds_W P Q)) (hz1 : ds_F P Q → ds_R z (ds_W P Q)) (hz0 : ¬ ds_F P Q → z = 0) :
    wL_lawOf_229 post mc ms (nI r) (nI s) x6 x7 x8 x10 z kc ks f1 f2 f3 f4 f5 a1 a2 a3 a4 a5 a6 a7 := by
  have go : ∀ y, ds_R y (ds_W Q P) → wL_lawOf_275 post mc ms (nI r) (nI s) x6 x7 x8 x10 y kc ks f1 f2 f3 f4 f5 a1 a2 a3 a4 a5 a6 a7 :=
    fun y hy => ds_275 hpo hr hs hP hQ h6 h7 h8 hK h10 hy
  have k : (x8 = 0 → wL_lawOf_275 post mc ms (nI r) (nI s) x6 x7 x8 x10 x7 kc ks f1 f2 f3 f4 f5 a1 a2 a3 a4 a5 a6 a7) ∧ (¬ x8 = 0 → wpL_single (fun r_309 => ((r_309 = 0 → (wL_lawOf_275 post mc ms (nI r) (nI s) x6 x7 x8 x10 x7 kc ks f1 f2 f3 f4 f5 a1 a2 a3 a4 a5 a6 a7)) ∧ (¬ r_309 = 0 → (wL_lawOf_275 post mc ms (nI r) (nI s) x6 x7 x8 x10 (x7 &&& (x6 ^^^ (-1))) kc ks f1 f2 f3 f4 f5 a1 a2 a3 a4 a5 a6 a7)))) () x6) := by
    refine ⟨fun z8 => go x7 (ds_Rc h7 (fun c _ => ⟨fun y => ⟨y, fun u => h8.mp z8 (ds_boC u.1)⟩, fun y => y.1⟩)), fun z8 => ?_⟩
    have hb : ds_both P Q := Classical.not_not.mp (fun y => z8 (h8.mpr y))
    refine ds_si h6 hP (fun y => br_f (by decide) (go _ (ds_Rc (ds_Rdn h7 h6) (fun c _ => ⟨fun u => ⟨u.1, fun v => u.2 v.2.2⟩, fun u => ⟨u.1, fun v => u.2 ⟨ds_boC hb, y, v⟩⟩⟩)))) (fun y => br_t rfl (go _ (ds_Rc h7 (fun c _ => ⟨fun u => ⟨u, fun v => y v.2.1⟩, fun u => u.1⟩))))
  unfold wL_lawOf_229
  exact ds_for hK (fun h x hx => br_t (ds_Rx hx (hz1 h) (fun _ _ => Iff.rfl)) k) (fun h => br_t (hz0 h).symm k)
end
theorem ds_128 {post : Int32 → St0 → Prop} {r s n : Nat} {P Q : Nat → Prop} {x6 x7 x8 z0 : Int32} (hpo : post 1 ()) (hr : r < 7) (hs : s < 7) (hrs : r ≠ s) (hP : ∀ c, P c → c < 7) (hQ : ∀ c, Q c → c < 7) (h6 : ds_R x6 P) (h7 : ds_R x7 Q) (h8 : x8 = 0 ↔ ¬ ds_both P Q) (h9 : ds_sz P Q n) (h10 : ds_R z0 (ds_W P Q)) :
    wL_lawOf_128 post 38 608 (nI r) (nI s) x6 x7 x8 (nI n) z0 0 0 := by
  have e7 := ds_Rz7 h7 hQ
  have hT : ds_T r s P Q (ds_D r s P Q) (fun _ => none) (fun _ => none) :=
    ⟨hr, hs, hrs, hP, hQ, fun i c => Iff.rfl, fun _ _ _ => rfl, fun c i => ⟨fun y => (nomatch y), fun y => (nomatch y)⟩, fun c y => (nomatch y), fun c y => (nomatch y)⟩
  refine ⟨by decide, by decide, 7, 49, by decide, by decide, ?_⟩
  refine ds_ini (fun b2 b3 g2 g3 => ?_)
  refine ds_row hr h6 (br_f (by decide) ?_)
  refine ds_row hs h7 (br_f (by decide) ?_)
  unfold wpX_largest
  refine ds_prep0 hT (fun i hi => ?_) g2 g3 (fun c2 c3 c4 c5 b2 b3 b4 b5 b6 b7 hK => ?_)
  · by_cases e1 : i = s
    · subst e1
      rw [pk_us]
      exact ds_Rc h7 (fun c _ => ⟨fun y => Or.inr ⟨rfl, y⟩, fun y => y.elim (fun y => absurd y.1.symm hrs) (fun y => y.2)⟩)
    · rw [pk_un e1]
      by_cases e2 : i = r
      · subst e2
        rw [pk_us]
        exact ds_Rc h6 (fun c _ => ⟨fun y => Or.inl ⟨rfl, y⟩, fun y => y.elim (fun y => y.2) (fun y => absurd y.1 e1)⟩)
      · rw [pk_un e2]
        exact ds_Rc ds_R0 (fun c _ => ⟨False.elim, fun y => y.elim (fun y => e2 y.1) (fun y => e1 y.1)⟩)
  refine ds_lar hK (fun n1 hn1 => br_t (by rw [ds_szu hn1 h9]) ?_)
  refine ds_cov hK (fun n2 hn2 => br_t (by rw [ds_szu hn2 h9]) ?_)
  refine ds_usb hK (fun x hx => br_t (ds_Rx hx h10 (fun _ _ => Iff.rfl)) ?_)
  refine ds_si h10 (fun c y => hP c y.1) (fun hs1 => br_f (by decide) ⟨fun z8 => ⟨fun z7 => ?_, fun z7 => ?_⟩, fun z8 => ?_⟩) (fun hs1 => br_t rfl ?_)
  · exact ds_229 hpo hr hs hP hQ h6 h7 h8 hK h10 (fun _ => h10) (fun y => absurd ⟨hs1, Or.inr (e7.mp z7)⟩ y)
  · exact ds_229 hpo hr hs hP hQ h6 h7 h8 hK h10 (fun y => y.2.elim (fun v => absurd v (h8.mp z8)) (fun v => absurd (e7.mpr v) z7)) (fun _ => rfl)
  · have hb : ds_both P Q := Classical.not_not.mp (fun y => z8 (h8.mpr y))
    exact ds_229 hpo hr hs hP hQ h6 h7 h8 hK h10 (fun _ => h10) (fun y => absurd ⟨hs1, Or.inl hb⟩ y)
  · exact ds_229 hpo hr hs hP hQ h6 h7 h8 hK h10 (fun y => absurd y.1 hs1) (fun _ => rfl)
theorem ds_70 {post : Int32 → St0 → Prop} {r s : Nat} {P Q : Nat → Prop} {x6 x7 x8 : Int32} (hpo : post 1 ()) (hr : r < 7) (hs : s < 7) (hrs : r ≠ s) (hP : ∀ c, P c → c < 7) (hQ : ∀ c, Q c → c < 7) (h6 : ds_R x6 P) (h7 : ds_R x7 Q) (h8 : x8 = 0 ↔ ¬ ds_both P Q) :
    wL_lawOf_70 post 38 608 (nI r) (nI s) x6 x7 x8 0 0 := by
  have e6 := ds_Rz7 h6 hP
  have e7 := ds_Rz7 h7 hQ
  have k : ∀ n, ds_sz P Q n → wL_lawOf_96 post 38 608 (nI r) (nI s) x6 x7 x8 (nI n) 0 0 := by
    intro n hn
    refine ⟨fun z8 => ds_128 hpo hr hs hrs hP hQ h6 h7 h8 hn (ds_Rc h6 (fun c _ => ⟨fun y => ⟨y, fun u => h8.mp z8 u.1⟩, fun y => y.1⟩)), fun z8 => ?_⟩
    have hb : ds_both P Q := Classical.not_not.mp (fun y => z8 (h8.mpr y))
    exact ds_si h7 hQ (fun y => br_f (by decide) (ds_128 hpo hr hs hrs hP hQ h6 h7 h8 hn (ds_Rc (ds_Rdn h6 h7) (fun c _ => ⟨fun u => ⟨u.1, fun v => u.2 v.2.2⟩, fun u => ⟨u.1, fun v => u.2 ⟨hb, y, v⟩⟩⟩)))) (fun y => br_t rfl (ds_128 hpo hr hs hrs hP hQ h6 h7 h8 hn (ds_Rc h6 (fun c _ => ⟨fun u => ⟨u, fun v => y v.2.1⟩, fun u => u.1⟩))))
  have nn : ∀ f : Nat → Prop, ¬ (∀ c, ¬ f c) → ∃ c, f c := fun f y => Classical.not_not.mp (fun v => y (fun c u => v ⟨c, u⟩))
  refine ⟨fun z8 => ⟨fun z6 => ⟨fun z7 => k 0 ?_, fun z7 => k 1 ?_⟩, fun z6 => k 1 ?_⟩, fun z8 => k 2 ?_⟩
  · exact ⟨fun y => absurd y (h8.mp z8), fun _ y => y.elim (fun ⟨c, v⟩ => absurd v (e6.mp z6 c)) (fun ⟨c, v⟩ => absurd v (e7.mp z7 c)), fun _ _ => rfl⟩
  · exact ⟨fun y => absurd y (h8.mp z8), fun _ _ => rfl, fun _ y => absurd (e7.mpr y) z7⟩
  · exact ⟨fun y => absurd y (h8.mp z8), fun _ _ => rfl, fun y _ => absurd (e6.mpr y) z6⟩
  · have hb : ds_both P Q := Classical.not_not.mp (fun y => z8 (h8.mpr y))
    exact ⟨fun _ => rfl, fun y => absurd hb y, fun y => absurd hb.1 (fun ⟨c, v⟩ => y c v)⟩
theorem ds_law {post : Int32 → St0 → Prop} (hpo : post 1 ()) (p0 p1 p2 p3 : Int32) : wpL_lawOf post 38 608 () p0 p1 p2 p3 := by
  obtain ⟨j, hj, ej⟩ := pk_andE p0 (m := 255) 8 (by decide)
  obtain ⟨i, hi, ei⟩ := pk_andE p1 (m := 255) 8 (by decide)
  have e4 : (p0 &&& 255) - (p0 &&& 255) / 7 * 7 = nI (j % 7) := by
    rw [ej]
    exact pk_rem (d := 7) (by omega) (by omega) (by omega)
  have e4' : (p1 &&& 255) - (p1 &&& 255) / 6 * 6 = nI (i % 6) := by
    rw [ei]
    exact pk_rem (d := 6) (by omega) (by omega) (by omega)
  have e5 : ((nI (j % 7) + 1) + ((p1 &&& 255) - (p1 &&& 255) / 6 * 6)) - ((nI (j % 7) + 1) + ((p1 &&& 255) - (p1 &&& 255) / 6 * 6)) / 7 * 7 = nI ((j % 7 + 1 + i % 6) % 7) := by
    rw [e4', nI_1, nI_add]
    exact pk_rem (d := 7) (by omega) (by omega) (by omega)
  refine ⟨by decide, nm_r e4 ⟨by decide, by decide, nm_r e5 (nm_e (nm_e ?_))⟩⟩
  have hP : ∀ c, ds_bt (p2 &&& 127) c = true → c < 7 := fun c y => Nat.lt_of_not_le (fun z => by rw [(ds_R127 p2).2 c z] at y; exact absurd y (by decide))
  have hQ : ∀ c, ds_bt (p3 &&& 127) c = true → c < 7 := fun c y => Nat.lt_of_not_le (fun z => by rw [(ds_R127 p3).2 c z] at y; exact absurd y (by decide))
  have h6 := ds_R127 p2
  have h7 := ds_R127 p3
  have e6 := ds_Rz7 h6 hP
  have e7 := ds_Rz7 h7 hQ
  have hr : j % 7 < 7 := by omega
  have hs : (j % 7 + 1 + i % 6) % 7 < 7 := by omega
  have hrs : j % 7 ≠ (j % 7 + 1 + i % 6) % 7 := by omega
  have k0 : ¬ ds_both (fun c => ds_bt (p2 &&& 127) c = true) (fun c => ds_bt (p3 &&& 127) c = true) → wL_lawOf_69 post 38 608 (nI (j % 7)) (nI ((j % 7 + 1 + i % 6) % 7)) (p2 &&& 127) (p3 &&& 127) 0 0 :=
    fun nb => ds_70 hpo hr hs hrs hP hQ h6 h7 ⟨fun _ => nb, fun _ => rfl⟩
  have k1 : ds_both (fun c => ds_bt (p2 &&& 127) c = true) (fun c => ds_bt (p3 &&& 127) c = true) → wL_lawOf_65 post 38 608 (nI (j % 7)) (nI ((j % 7 + 1 + i % 6) % 7)) (p2 &&& 127) (p3 &&& 127) 0 0 :=
    fun hb => ds_70 hpo hr hs hrs hP hQ h6 h7 ⟨fun y => absurd y (by decide), fun y => absurd hb y⟩
  refine ⟨fun z6 => k0 (fun y => y.1.elim (fun c v => e6.mp z6 c v)), fun z6 => ⟨fun z7 => k0 (fun y => y.2.1.elim (fun c v => e7.mp z7 c v)), fun z7 => ?_⟩⟩
  have n6 : ∃ c, ds_bt (p2 &&& 127) c = true := Classical.not_not.mp (fun y => z6 (e6.mpr (fun c v => y ⟨c, v⟩)))
  have n7 : ∃ c, ds_bt (p3 &&& 127) c = true := Classical.not_not.mp (fun y => z7 (e7.mpr (fun c v => y ⟨c, v⟩)))
  refine ⟨fun ee => ds_si h6 hP (fun hs1 => br_f (by decide) (k0 (fun y => y.2.2 ?_))) (fun hs1 => br_t rfl (k1 ⟨n6, n7, fun y => hs1 (y.elim (fun c v => ⟨c, v.1⟩))⟩)), fun ne => k1 ⟨n6, n7, fun y => ne (y.elim (fun c v => ds_Rx h6 h7 (fun i _ => (v.1 i).trans (v.2 i).symm)))⟩⟩
  obtain ⟨c, hc⟩ := hs1
  refine ⟨c, hc, ?_⟩
  rw [← ee]
  exact hc
theorem i_vc (xs : Nat → Int32) (L : Nat) (hL : L ≤ 4) : wpL_law (fun r => r = 1) L xs := by
  have cell : ∀ (post : Int32 → Prop) (k : Nat), k < 4 → (∀ x, post x) → wpL_cellAt post L xs () (nI k) := fun post k hk H => pk_le L k (fun _ => H _) (fun z => ⟨pk_in k L z, H _⟩)
  refine cell _ 0 (by omega) (fun x0 => cell _ 1 (by omega) (fun x1 => cell _ 2 (by omega) (fun x2 => cell _ 3 (by omega) (fun x3 => ?_))))
  exact ⟨38, 608, by decide, by decide, ds_law rfl x0 x1 x2 x3⟩
end
