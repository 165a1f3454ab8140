section
/-! bits and packed rows: the pure picture is in Nat, by raw operations that the kernel computes -/
noncomputable def cg_fc {α : Type} (n : Nat) (f : Nat → α) : α := Nat.rec (motive := fun _ => α) (f 0) (fun k _ => f (Nat.succ k)) n
theorem cg_fcE {α : Type} (n : Nat) (f : Nat → α) : cg_fc n f = f n := by cases n <;> rfl
def cg_tb (a i : Nat) : Bool := Nat.beq (Nat.mod (Nat.div a (Nat.pow 2 i)) 2) 1
theorem cg_tb_iff (a i : Nat) : cg_tb a i = true ↔ a / 2 ^ i % 2 = 1 := by
  show Nat.beq (a / 2 ^ i % 2) 1 = true ↔ _
  rw [Nat.beq_eq]
theorem cg_tb_f (a i : Nat) : cg_tb a i = false ↔ a / 2 ^ i % 2 = 0 := by
  have h := cg_tb_iff a i
  generalize a / 2 ^ i = z at h ⊢
  cases hb : cg_tb a i
  · rw [hb] at h
    have h2 : ¬ z % 2 = 1 := fun t => absurd (h.mpr t) (by decide)
    exact ⟨fun _ => by omega, fun _ => rfl⟩
  · have h2 := h.mp hb
    exact ⟨fun t => absurd t (by decide), fun t => by omega⟩
theorem cg_sm : ∀ n, n < 32 → ((nI n &&& 31).toBitVec.smod 32).toNat = n := by decide +kernel
theorem cg_bv {a i : Nat} (ha : a < 2 ^ 31) (hi : i < 32) : (nI a >>> (nI i &&& 31)) &&& 1 = nI (a / 2 ^ i % 2) := by
  have h1 : a / 2 ^ i < 2 ^ 32 := Nat.lt_of_le_of_lt (Nat.div_le_self _ _) (by omega)
  rw [pk_shrN ha _ i (cg_sm i hi)]
  exact pk_andN h1 1 (by decide)
theorem cg_b0 {a i : Nat} (ha : a < 2 ^ 31) (hi : i < 32) : ((nI a >>> (nI i &&& 31)) &&& 1) = 0 ↔ cg_tb a i = false := by
  rw [cg_bv ha hi, cg_tb_f, ← nI_0]
  exact nI_eq (by omega) (by omega)
theorem cg_b1 {a i : Nat} (ha : a < 2 ^ 31) (hi : i < 32) : ((nI a >>> (nI i &&& 31)) &&& 1) = 1 ↔ cg_tb a i = true := by
  rw [cg_bv ha hi, cg_tb_iff]
  exact nI_eq (b := 1) (by omega) (by omega)
theorem cg_br {c A B : Prop} {b : Bool} (e : c ↔ b = false) (f : b = false → A) (g : b = true → B) : (c → A) ∧ (¬ c → B) :=
  ⟨fun z => f (e.mp z), fun z => g (by cases hb : b <;> first | rfl | exact absurd (e.mpr hb) z)⟩
theorem cg_bt {c A B : Prop} {b : Bool} (e : c ↔ b = true) (f : b = true → A) (g : b = false → B) : (c → A) ∧ (¬ c → B) :=
  ⟨fun z => f (e.mp z), fun z => g (by cases hb : b <;> first | rfl | exact absurd (e.mpr hb) z)⟩
theorem cg_and (a b : Nat) : nI a &&& nI b = nI (Nat.land a b) := by
  apply Int32.toBitVec_inj.1
  show BitVec.ofNat 32 a &&& BitVec.ofNat 32 b = BitVec.ofNat 32 (a &&& b)
  apply BitVec.eq_of_getLsbD_eq
  intro i hi
  simp [hi]
theorem cg_or (a b : Nat) : nI a ||| nI b = nI (Nat.lor a b) := by
  apply Int32.toBitVec_inj.1
  show BitVec.ofNat 32 a ||| BitVec.ofNat 32 b = BitVec.ofNat 32 (a ||| b)
  apply BitVec.eq_of_getLsbD_eq
  intro i hi
  simp [hi]
theorem cg_xor (a b : Nat) : nI a ^^^ nI b = nI (Nat.xor a b) := by
  apply Int32.toBitVec_inj.1
  show BitVec.ofNat 32 a ^^^ BitVec.ofNat 32 b = BitVec.ofNat 32 (a ^^^ b)
  apply BitVec.eq_of_getLsbD_eq
  intro i hi
  simp [hi]
theorem cg_m1 : (-1 : Int32) = nI 4294967295 := by decide
theorem cg_an (a b : Nat) : nI a &&& (nI b ^^^ (-1)) = nI (Nat.land a (Nat.xor b 4294967295)) := by
  rw [cg_m1, cg_xor, cg_and]
theorem cg_sh : ∀ i, i < 31 → (1 : Int32) <<< (nI i &&& 31) = nI (Nat.pow 2 i) := by decide +kernel
theorem cg_land_le (a b : Nat) : Nat.land a b ≤ a := Nat.and_le_left
theorem cg_lor_lt {a b : Nat} (ha : a < 32) (hb : b < 32) : Nat.lor a b < 32 := Nat.or_lt_two_pow (n := 5) ha hb
theorem cg_lor_lt16 {a b : Nat} (ha : a < 65536) (hb : b < 65536) : Nat.lor a b < 65536 := Nat.or_lt_two_pow (n := 16) ha hb
theorem cg_p2 : ∀ i, i < 5 → Nat.pow 2 i < 32 := by decide
theorem cg_p216 : ∀ i, i < 16 → Nat.pow 2 i < 65536 := by decide
theorem cg_z {a : Nat} (ha : a < 2 ^ 31) : nI a = 0 ↔ Nat.beq a 0 = true := by
  rw [← nI_0, nI_eq ha (by omega), Nat.beq_eq]
theorem cg_i8 : ∀ i, i < 128 → (nI i).toInt8.toInt32 = nI i := by decide +kernel
def cg_oI (b : Nat) : Int32 := match b with | 0 => -1 | k + 1 => nI k
theorem cg_o_lt {b : Nat} (hb : b < 2 ^ 31) : cg_oI b < 0 ↔ Nat.beq b 0 = true := by
  cases b with
  | zero => exact ⟨fun _ => rfl, fun _ => by decide⟩
  | succ k => exact ⟨fun z => absurd z (nI_pos (by omega)), fun z => absurd z (by rw [Nat.beq_eq]; omega)⟩
def cg_bI (b : Bool) : Int32 := cond b 1 0
theorem cg_bI0 (b : Bool) : cg_bI b = 0 ↔ b = false := by cases b <;> decide
/-- five masks in one number -/
def cg_pk (p j : Nat) : Nat := Nat.mod (Nat.div p (Nat.pow 32 j)) 32
def cg_pa (f : Nat → Nat) : Nat := Nat.add (f 0) (Nat.mul 32 (Nat.add (f 1) (Nat.mul 32 (Nat.add (f 2) (Nat.mul 32 (Nat.add (f 3) (Nat.mul 32 (f 4))))))))
theorem cg_pk_lt (p j : Nat) : cg_pk p j < 32 := Nat.mod_lt _ (by omega)
theorem cg_5 {P : Nat → Prop} (h0 : P 0) (h1 : P 1) (h2 : P 2) (h3 : P 3) (h4 : P 4) : ∀ j, j < 5 → P j
  | 0, _ => h0 | 1, _ => h1 | 2, _ => h2 | 3, _ => h3 | 4, _ => h4
theorem cg_pk_pa (f : Nat → Nat) (h : ∀ j, j < 5 → f j < 32) : ∀ j, j < 5 → cg_pk (cg_pa f) j = f j := by
  have h0 := h 0 (by omega)
  have h1 := h 1 (by omega)
  have h2 := h 2 (by omega)
  have h3 := h 3 (by omega)
  have h4 := h 4 (by omega)
  refine cg_5 ?_ ?_ ?_ ?_ ?_
  · show (f 0 + 32 * (f 1 + 32 * (f 2 + 32 * (f 3 + 32 * f 4)))) / 1 % 32 = f 0
    omega
  · show (f 0 + 32 * (f 1 + 32 * (f 2 + 32 * (f 3 + 32 * f 4)))) / 32 % 32 = f 1
    omega
  · show (f 0 + 32 * (f 1 + 32 * (f 2 + 32 * (f 3 + 32 * f 4)))) / 1024 % 32 = f 2
    omega
  · show (f 0 + 32 * (f 1 + 32 * (f 2 + 32 * (f 3 + 32 * f 4)))) / 32768 % 32 = f 3
    omega
  · show (f 0 + 32 * (f 1 + 32 * (f 2 + 32 * (f 3 + 32 * f 4)))) / 1048576 % 32 = f 4
    omega
/-- the first five places of an array -/
def cg_M (a : Nat → Int32) (f : Nat → Nat) : Prop := ∀ j, j < 5 → a j = nI (f j)
theorem cg_at {a : Nat → Int32} {f : Nat → Nat} (h : cg_M a f) {i : Nat} (hi : i < 5) : a (nI i).toNatClampNeg = nI (f i) := by
  rw [nI_clamp (by omega)]
  exact h i hi
end
section
/-! methods that store nothing: immediate, bitsIn, superfluous, inTrees, heightOf -/
section
variable {pt : Int32} {a1 a2 a3 a4 : Nat → Int32} {l f : Nat → Nat}
noncomputable def cg_imR (l : Nat → Nat) (s : Nat) (r : Nat) : Nat → Nat → Nat :=
  Nat.rec (motive := fun _ => Nat → Nat → Nat) (fun _ x => x) (fun _ ih i x => ih (Nat.succ i) (cond (cg_tb s i) (Nat.land x (Nat.xor (l i) 4294967295)) x)) r
theorem cg_imS (l : Nat → Nat) (s r i x : Nat) : cg_imR l s (r + 1) i x = cg_imR l s r (i + 1) (cond (cg_tb s i) (Nat.land x (Nat.xor (l i) 4294967295)) x) := rfl
noncomputable def cg_im (l : Nat → Nat) (s : Nat) : Nat := cg_imR l s 5 0 s
theorem cg_imR_le (l : Nat → Nat) (s : Nat) : ∀ r i x, cg_imR l s r i x ≤ x := by
  intro r
  induction r with
  | zero => intro i x; exact Nat.le_refl x
  | succ r ih =>
    intro i x
    rw [cg_imS]
    refine Nat.le_trans (ih _ _) ?_
    cases cg_tb s i
    · exact Nat.le_refl x
    · exact cg_land_le _ _
theorem cg_im_le (l : Nat → Nat) (s : Nat) : cg_im l s ≤ s := cg_imR_le l s 5 0 s
theorem cg_imW {post : Int32 → Prop} {s : Nat} (hl : cg_M a2 l) (hs : s < 2 ^ 31) : ∀ r i x, i + r = 5 → post (nI (cg_imR l s r i x)) → wX_immediate_5 post (nI s) (nI 5) pt a1 a2 a3 a4 (r + 1) (nI x) (nI i) := by
  intro r
  induction r with
  | zero =>
    intro i x hi hp
    exact pk_le 5 i (fun _ => hp) (fun z => absurd z (by omega))
  | succ r ih =>
    intro i x hi hp
    rw [cg_imS] at hp
    refine pk_le 5 i (fun z => absurd z (by omega)) (fun _ => cg_br (cg_b0 hs (by omega)) (fun hb => ?_) (fun hb => ⟨pk_in i 9 (by omega), ?_⟩))
    · rw [hb] at hp
      exact nm_r (nI_1 i) (ih (i + 1) _ (by omega) hp)
    · rw [hb] at hp
      refine nm_r ?_ (nm_r (nI_1 i) (ih (i + 1) _ (by omega) hp))
      rw [cg_at hl (by omega)]
      exact cg_an _ _
theorem cg_imX {post : Int32 → Prop} {s : Nat} {p0 p1 : Int32} (hl : cg_M a2 l) (hs : s < 2 ^ 31) (e : p1 = nI s) (hp : post (nI (cg_im l s))) : wpX_immediate post (nI 5, pt, a1, a2, a3, a4) p0 p1 := by
  rw [e]
  exact ⟨6, cg_imW hl hs 5 0 s rfl hp⟩
noncomputable def cg_biR (s : Nat) (r : Nat) : Nat → Nat → Nat :=
  Nat.rec (motive := fun _ => Nat → Nat → Nat) (fun _ x => x) (fun _ ih i x => ih (Nat.succ i) (Nat.add x (Nat.mod (Nat.div s (Nat.pow 2 i)) 2))) r
theorem cg_biS (s r i x : Nat) : cg_biR s (r + 1) i x = cg_biR s r (i + 1) (x + s / 2 ^ i % 2) := rfl
noncomputable def cg_bi (s : Nat) : Nat := cg_biR s 9 0 0
theorem cg_biW {post : Int32 → Prop} {s : Nat} (hs : s < 2 ^ 31) : ∀ r i x, i + r = 9 → post (nI (cg_biR s r i x)) → wX_bitsIn_4 post (nI s) (nI 5) pt a1 a2 a3 a4 (r + 1) (nI x) (nI i) := by
  intro r
  induction r with
  | zero =>
    intro i x hi hp
    exact pk_le 9 i (fun _ => hp) (fun z => absurd z (by omega))
  | succ r ih =>
    intro i x hi hp
    rw [cg_biS] at hp
    refine pk_le 9 i (fun z => absurd z (by omega)) (fun _ => nm_r ?_ (nm_r (nI_1 i) (ih (i + 1) _ (by omega) hp)))
    rw [cg_bv hs (by omega), nI_add]
theorem cg_biX {post : Int32 → Prop} {s : Nat} {p0 : Int32} (hs : s < 2 ^ 31) (e : p0 = nI s) (hp : post (nI (cg_bi s))) : wpX_bitsIn post (nI 5, pt, a1, a2, a3, a4) p0 := by
  rw [e]
  exact ⟨10, cg_biW hs 9 0 0 rfl hp⟩
noncomputable def cg_suR (l f : Nat → Nat) (r : Nat) : Nat → Nat → Nat :=
  Nat.rec (motive := fun _ => Nat → Nat → Nat) (fun _ x => x) (fun _ ih i x => ih (Nat.succ i) (Nat.add x (cg_bi (Nat.land (f i) (Nat.xor (cg_im l (l i)) 4294967295))))) r
theorem cg_suS (l f : Nat → Nat) (r i x : Nat) : cg_suR l f (r + 1) i x = cg_suR l f r (i + 1) (x + cg_bi (Nat.land (f i) (Nat.xor (cg_im l (l i)) 4294967295))) := rfl
noncomputable def cg_su (l f : Nat → Nat) : Nat := cg_suR l f 5 0 0
theorem cg_suW {post : Int32 → Prop} (hf : cg_M a1 f) (hl : cg_M a2 l) (bf : ∀ j, j < 5 → f j < 32) (bl : ∀ j, j < 5 → l j < 32) : ∀ r i x, i + r = 5 → post (nI (cg_suR l f r i x)) → wX_superfluous_4 post (nI 5) pt a1 a2 a3 a4 (r + 1) (nI x) (nI i) := by
  intro r
  induction r with
  | zero =>
    intro i x hi hp
    exact pk_le 5 i (fun _ => hp) (fun z => absurd z (by omega))
  | succ r ih =>
    intro i x hi hp
    rw [cg_suS] at hp
    have hi5 : i < 5 := by omega
    have b1 := bl i hi5
    have b2 := bf i hi5
    have b3 := cg_land_le (f i) (Nat.xor (cg_im l (l i)) 4294967295)
    refine pk_le 5 i (fun z => absurd z (by omega)) (fun _ => ⟨pk_in i 9 (by omega), cg_imX hl (by omega) (cg_at hl hi5) ⟨pk_in i 9 (by omega), cg_biX (s := Nat.land (f i) (Nat.xor (cg_im l (l i)) 4294967295)) (by omega) ?_ (nm_r (nI_add _ _) (nm_r (nI_1 i) (ih (i + 1) _ (by omega) hp)))⟩⟩)
    rw [cg_at hf hi5]
    exact cg_an _ _
theorem cg_suX {post : Int32 → Prop} (hf : cg_M a1 f) (hl : cg_M a2 l) (bf : ∀ j, j < 5 → f j < 32) (bl : ∀ j, j < 5 → l j < 32) (hp : post (nI (cg_su l f))) : wpX_superfluous post (nI 5, pt, a1, a2, a3, a4) :=
  ⟨6, cg_suW hf hl bf bl 5 0 0 rfl hp⟩
def cg_t1 (n : Nat) : Bool := Nat.beq (Nat.land n (Nat.pred n)) 0
theorem cg_t1E : ∀ n, n < 32 → ((nI n &&& (nI n - 1)) = 0 ↔ cg_t1 n = true) := by decide +kernel
noncomputable def cg_itR (l : Nat → Nat) (r : Nat) : Nat → Bool :=
  Nat.rec (motive := fun _ => Nat → Bool) (fun _ => true) (fun _ ih i => cond (cg_fc (cg_im l (l i)) cg_t1) (ih (Nat.succ i)) false) r
theorem cg_itS (l : Nat → Nat) (r i : Nat) : cg_itR l (r + 1) i = cond (cg_t1 (cg_im l (l i))) (cg_itR l r (i + 1)) false := by
  show cond (cg_fc (cg_im l (l i)) cg_t1) (cg_itR l r (i + 1)) false = _
  rw [cg_fcE]
noncomputable def cg_it (l : Nat → Nat) : Bool := cg_itR l 5 0
theorem cg_itW {post : Int32 → Prop} (hl : cg_M a2 l) (bl : ∀ j, j < 5 → l j < 32) : ∀ r i, i + r = 5 → post (cg_bI (cg_itR l r i)) → wX_inTrees_2 post (nI 5) pt a1 a2 a3 a4 (r + 1) (nI i) := by
  intro r
  induction r with
  | zero =>
    intro i hi hp
    exact pk_le 5 i (fun _ => hp) (fun z => absurd z (by omega))
  | succ r ih =>
    intro i hi hp
    rw [cg_itS] at hp
    have hi5 : i < 5 := by omega
    have b1 := bl i hi5
    have b2 := cg_im_le l (l i)
    refine pk_le 5 i (fun z => absurd z (by omega)) (fun _ => ⟨pk_in i 9 (by omega), cg_imX hl (by omega) (cg_at hl hi5) (cg_bt (cg_t1E _ (by omega)) (fun h => ?_) (fun h => ?_))⟩)
    · rw [h] at hp
      exact nm_r (nI_1 i) (ih (i + 1) (by omega) hp)
    · rw [h] at hp
      exact hp
theorem cg_itX {post : Int32 → Prop} (hl : cg_M a2 l) (bl : ∀ j, j < 5 → l j < 32) (hp : post (cg_bI (cg_it l))) : wpX_inTrees post (nI 5, pt, a1, a2, a3, a4) :=
  ⟨6, cg_itW hl bl 5 0 rfl hp⟩
/-! heightOf -/
noncomputable def cg_hiR (l : Nat → Nat) (s : Nat) (r : Nat) : Nat → Nat → Nat :=
  Nat.rec (motive := fun _ => Nat → Nat → Nat) (fun _ x => x) (fun _ ih i x => ih (Nat.succ i) (cond (cg_tb s i) (cond (Nat.beq (Nat.land (l i) s) 0) x (Nat.lor x (Nat.pow 2 i))) x)) r
theorem cg_hiS (l : Nat → Nat) (s r i x : Nat) : cg_hiR l s (r + 1) i x = cg_hiR l s r (i + 1) (cond (cg_tb s i) (cond (Nat.beq (Nat.land (l i) s) 0) x (Nat.lor x (Nat.pow 2 i))) x) := rfl
noncomputable def cg_hi (l : Nat → Nat) (s : Nat) : Nat := cg_hiR l s 5 0 0
theorem cg_hiR_lt (l : Nat → Nat) (s : Nat) : ∀ r i x, i + r = 5 → x < 32 → cg_hiR l s r i x < 32 := by
  intro r
  induction r with
  | zero => intro i x _ hx; exact hx
  | succ r ih =>
    intro i x hi hx
    rw [cg_hiS]
    refine ih _ _ (by omega) ?_
    cases cg_tb s i
    · exact hx
    · cases Nat.beq (Nat.land (l i) s) 0
      · exact cg_lor_lt hx (cg_p2 i (by omega))
      · exact hx
theorem cg_hi_lt (l : Nat → Nat) (s : Nat) : cg_hi l s < 32 := cg_hiR_lt l s 5 0 0 rfl (by omega)
theorem cg_hiW {post : Int32 → Prop} {J : Int32 → Int32 → Int32 → Prop} {s h q : Nat} (hl : cg_M a2 l) (bl : ∀ j, j < 5 → l j < 32) (hs : s < 32) : ∀ r i x, i + r = 5 → J (nI (cg_hiR l s r i x)) (nI (h + 1)) (nI (q + 1)) → wX_heightOf_29 post J (nI s) (nI h) (nI q) (nI 5) pt a1 a2 a3 a4 (r + 1) (nI x) (nI i) := by
  intro r
  induction r with
  | zero =>
    intro i x hi hp
    exact pk_le 5 i (fun _ => nm_r (nI_1 h) (nm_r (nI_1 q) hp)) (fun z => absurd z (by omega))
  | succ r ih =>
    intro i x hi hp
    rw [cg_hiS] at hp
    have hi5 : i < 5 := by omega
    have b1 := bl i hi5
    have b2 := cg_land_le (l i) s
    refine pk_le 5 i (fun z => absurd z (by omega)) (fun _ => cg_br (cg_b0 (by omega) (by omega)) (fun hb => ?_) (fun hb => ⟨pk_in i 9 (by omega), cg_bt (b := Nat.beq (Nat.land (l i) s) 0) ?_ (fun hc => ?_) (fun hc => ?_)⟩))
    · rw [hb] at hp
      exact nm_r (nI_1 i) (ih (i + 1) _ (by omega) hp)
    · rw [cg_at hl hi5, cg_and]
      exact cg_z (by omega)
    · rw [hb, hc] at hp
      exact nm_r (nI_1 i) (ih (i + 1) _ (by omega) hp)
    · rw [hb, hc] at hp
      refine nm_r ?_ (nm_r (nI_1 i) (ih (i + 1) _ (by omega) hp))
      rw [cg_sh i (by omega)]
      exact cg_or _ _
noncomputable def cg_htR (l : Nat → Nat) (r : Nat) : Nat → Nat → Nat :=
  Nat.rec (motive := fun _ => Nat → Nat → Nat) (fun _ h => h) (fun _ ih s h => cond (Nat.beq s 0) h (cg_fc (cg_hi l s) (fun s' => ih s' (Nat.succ h)))) r
theorem cg_htS (l : Nat → Nat) (r s h : Nat) : cg_htR l (r + 1) s h = cond (Nat.beq s 0) h (cg_htR l r (cg_hi l s) (h + 1)) := by
  show cond (Nat.beq s 0) h (cg_fc (cg_hi l s) (fun s' => cg_htR l r s' (Nat.succ h))) = _
  rw [cg_fcE]
noncomputable def cg_ht (l : Nat → Nat) (v : Nat) : Nat := cg_htR l 9 (l v) 1
theorem cg_htR_le (l : Nat → Nat) : ∀ r s h, cg_htR l r s h ≤ h + r := by
  intro r
  induction r with
  | zero => intro s h; exact Nat.le_refl h
  | succ r ih =>
    intro s h
    rw [cg_htS]
    cases Nat.beq s 0
    · exact Nat.le_trans (ih _ _) (by omega)
    · exact Nat.le_add_right _ _
theorem cg_ht_le (l : Nat → Nat) (v : Nat) : cg_ht l v ≤ 10 := cg_htR_le l 9 (l v) 1
theorem cg_htW {post : Int32 → Prop} (hl : cg_M a2 l) (bl : ∀ j, j < 5 → l j < 32) : ∀ r q s h, q + r = 9 → s < 32 → post (nI (cg_htR l r s h)) → wX_heightOf_12 post (nI 5) pt a1 a2 a3 a4 (r + 1) (nI s) (nI h) (nI q) := by
  intro r
  induction r with
  | zero =>
    intro q s h hq hs hp
    exact pk_le 9 q (fun _ => hp) (fun z => absurd z (by omega))
  | succ r ih =>
    intro q s h hq hs hp
    rw [cg_htS] at hp
    refine pk_le 9 q (fun z => absurd z (by omega)) (fun _ => cg_bt (cg_z (a := s) (by omega)) (fun hb => ?_) (fun hb => ⟨6, ?_⟩))
    · rw [hb] at hp
      exact hp
    · rw [hb] at hp
      exact cg_hiW hl bl hs 5 0 0 rfl (ih (q + 1) _ (h + 1) (by omega) (cg_hi_lt l s) hp)
theorem cg_htX {post : Int32 → Prop} {v : Nat} (hl : cg_M a2 l) (bl : ∀ j, j < 5 → l j < 32) (hv : v < 5) (hp : post (nI (cg_ht l v))) : wpX_heightOf post (nI 5, pt, a1, a2, a3, a4) (nI v) :=
  ⟨pk_in v 9 (by omega), nm_r (cg_at hl hv) ⟨10, cg_htW hl bl 9 0 (l v) 1 rfl (bl v hv) hp⟩⟩
end
end
section
/-! labelByHeights, isReady, bestReady, lengthOnList -/
section
variable {pt : Int32} {a1 a2 a3 a4 : Nat → Int32} {l lab : Nat → Nat}
theorem cg_put {a : Nat → Int32} {f : Nat → Nat} {i k : Nat} {x : Int32} (hk : k = i) (h : ∀ j, j < i → a j = nI (f j)) (hx : x = nI (f i)) : ∀ j, j < i + 1 → upd a k x j = nI (f j) := by
  intro j hj
  rw [hk]
  by_cases e : j = i
  · rw [e, pk_us, hx]
  · rw [pk_un e]
    exact h j (by omega)
theorem cg_lhW {post : St2 → Prop} (hl : cg_M a2 l) (bl : ∀ j, j < 5 → l j < 32) (H : ∀ b4, cg_M b4 (cg_ht l) → post (nI 5, pt, a1, a2, a3, b4)) : ∀ r i a4, i + r = 5 → (∀ j, j < i → a4 j = nI (cg_ht l j)) → wX_labelByHeights_2 post (nI 5) pt (r + 1) (nI i) a1 a2 a3 a4 := by
  intro r
  induction r with
  | zero =>
    intro i a4 hi h
    have e : i = 5 := by omega
    exact pk_le 5 i (fun _ => H a4 (fun j hj => h j (by omega))) (fun z => absurd z (by omega))
  | succ r ih =>
    intro i a4 hi h
    have b := cg_ht_le l i
    refine pk_le 5 i (fun z => absurd z (by omega)) (fun _ => cg_htX hl bl (by omega) ⟨pk_in i 9 (by omega), nm_e (nm_r (nI_1 i) (ih (i + 1) _ (by omega) (cg_put (nI_clamp (by omega)) h (cg_i8 _ (by omega)))))⟩)
theorem cg_lhX {post : St2 → Prop} (hl : cg_M a2 l) (bl : ∀ j, j < 5 → l j < 32) (H : ∀ b4, cg_M b4 (cg_ht l) → post (nI 5, pt, a1, a2, a3, b4)) : wpX_labelByHeights post (nI 5, pt, a1, a2, a3, a4) :=
  ⟨6, cg_lhW hl bl H 5 0 a4 rfl (fun j hj => absurd hj (by omega))⟩
noncomputable def cg_irR (l : Nat → Nat) (v op : Nat) (r : Nat) : Nat → Bool :=
  Nat.rec (motive := fun _ => Nat → Bool) (fun _ => true) (fun _ ih i => cond (cg_tb op i) (cond (cg_tb (l i) v) false (ih (Nat.succ i))) (ih (Nat.succ i))) r
theorem cg_irS (l : Nat → Nat) (v op r i : Nat) : cg_irR l v op (r + 1) i = cond (cg_tb op i) (cond (cg_tb (l i) v) false (cg_irR l v op r (i + 1))) (cg_irR l v op r (i + 1)) := rfl
noncomputable def cg_ir (l : Nat → Nat) (v op : Nat) : Bool := cg_irR l v op 5 0
theorem cg_irW {post : Int32 → Prop} {v op : Nat} (hl : cg_M a2 l) (bl : ∀ j, j < 5 → l j < 32) (hv : v < 5) (ho : op < 32) : ∀ r i, i + r = 5 → post (cg_bI (cg_irR l v op r i)) → wX_isReady_2 post (nI v) (nI op) (nI 5) pt a1 a2 a3 a4 (r + 1) (nI i) := by
  intro r
  induction r with
  | zero =>
    intro i hi hp
    exact pk_le 5 i (fun _ => hp) (fun z => absurd z (by omega))
  | succ r ih =>
    intro i hi hp
    rw [cg_irS] at hp
    have hi5 : i < 5 := by omega
    have b1 := bl i hi5
    refine pk_le 5 i (fun z => absurd z (by omega)) (fun _ => cg_br (cg_b0 (by omega) (by omega)) (fun hb => ?_) (fun hb => ⟨pk_in i 9 (by omega), cg_br (b := cg_tb (l i) v) ?_ (fun hc => ?_) (fun hc => ?_)⟩))
    · rw [hb] at hp
      exact nm_r (nI_1 i) (ih (i + 1) (by omega) hp)
    · rw [cg_at hl hi5]
      exact cg_b0 (by omega) (by omega)
    · rw [hb, hc] at hp
      exact nm_r (nI_1 i) (ih (i + 1) (by omega) hp)
    · rw [hb, hc] at hp
      exact hp
theorem cg_irX {post : Int32 → Prop} {v op : Nat} (hl : cg_M a2 l) (bl : ∀ j, j < 5 → l j < 32) (hv : v < 5) (ho : op < 32) (hp : post (cg_bI (cg_ir l v op))) : wpX_isReady post (nI 5, pt, a1, a2, a3, a4) (nI v) (nI op) :=
  ⟨6, cg_irW hl bl hv ho 5 0 rfl hp⟩
/-- bestReady: 0 stands for none, k + 1 for task k -/
def cg_bsN (l lab : Nat → Nat) (i b : Nat) : Nat := cond (Nat.beq b 0) (Nat.succ i) (cond (Nat.ble (lab i) (lab (Nat.pred b))) b (Nat.succ i))
noncomputable def cg_bsR (l lab : Nat → Nat) (sl op : Nat) (r : Nat) : Nat → Nat → Nat :=
  Nat.rec (motive := fun _ => Nat → Nat → Nat) (fun _ b => b) (fun _ ih i b => cond (cg_tb op i) (cond (cg_tb sl i) (ih (Nat.succ i) b) (cond (cg_ir l i op) (cg_fc (cg_bsN l lab i b) (fun b' => ih (Nat.succ i) b')) (ih (Nat.succ i) b))) (ih (Nat.succ i) b)) r
theorem cg_bsS (l lab : Nat → Nat) (sl op r i b : Nat) : cg_bsR l lab sl op (r + 1) i b = cond (cg_tb op i) (cond (cg_tb sl i) (cg_bsR l lab sl op r (i + 1) b) (cond (cg_ir l i op) (cg_bsR l lab sl op r (i + 1) (cg_bsN l lab i b)) (cg_bsR l lab sl op r (i + 1) b))) (cg_bsR l lab sl op r (i + 1) b) := by
  show cond (cg_tb op i) (cond (cg_tb sl i) (cg_bsR l lab sl op r (i + 1) b) (cond (cg_ir l i op) (cg_fc (cg_bsN l lab i b) (fun b' => cg_bsR l lab sl op r (i + 1) b')) (cg_bsR l lab sl op r (i + 1) b))) (cg_bsR l lab sl op r (i + 1) b) = _
  rw [cg_fcE]
noncomputable def cg_bs (l lab : Nat → Nat) (sl op : Nat) : Nat := cg_bsR l lab sl op 5 0 0
theorem cg_bsN_le (l lab : Nat → Nat) {i b : Nat} (hi : i < 5) (hb : b ≤ 5) : cg_bsN l lab i b ≤ 5 := by
  unfold cg_bsN
  cases Nat.beq b 0
  · cases Nat.ble (lab i) (lab (Nat.pred b))
    · exact hi
    · exact hb
  · exact hi
theorem cg_bsR_le (l lab : Nat → Nat) (sl op : Nat) : ∀ r i b, i + r = 5 → b ≤ 5 → cg_bsR l lab sl op r i b ≤ 5 := by
  intro r
  induction r with
  | zero => intro i b _ hb; exact hb
  | succ r ih =>
    intro i b hi hb
    rw [cg_bsS]
    have g := ih (i + 1) b (by omega) hb
    have g2 := ih (i + 1) _ (by omega) (cg_bsN_le l lab (i := i) (by omega) hb)
    cases cg_tb op i
    · exact g
    · cases cg_tb sl i
      · cases cg_ir l i op
        · exact g
        · exact g2
      · exact g
theorem cg_bs_le (l lab : Nat → Nat) (sl op : Nat) : cg_bs l lab sl op ≤ 5 := cg_bsR_le l lab sl op 5 0 0 rfl (by omega)
theorem cg_bsW {post : Int32 → Prop} {sl op : Nat} (hl : cg_M a2 l) (h4 : cg_M a4 lab) (bl : ∀ j, j < 5 → l j < 32) (b4 : ∀ j, j < 5 → lab j < 32) (hs : sl < 32) (ho : op < 32) : ∀ r i b, i + r = 5 → b ≤ 5 → post (cg_oI (cg_bsR l lab sl op r i b)) → wX_bestReady_15 post (nI sl) (nI op) (nI 5) pt a1 a2 a3 a4 (r + 1) (cg_oI b) (nI i) := by
  intro r
  induction r with
  | zero =>
    intro i b hi hb hp
    exact pk_le 5 i (fun _ => hp) (fun z => absurd z (by omega))
  | succ r ih =>
    intro i b hi hb hp
    rw [cg_bsS] at hp
    have hi5 : i < 5 := by omega
    refine pk_le 5 i (fun z => absurd z (by omega)) (fun _ => cg_br (cg_b0 (by omega) (by omega)) (fun h1 => ?_) (fun h1 => cg_br (cg_b0 (by omega) (by omega)) (fun h2 => cg_irX hl bl hi5 ho (cg_br (cg_bI0 _) (fun h3 => ?_) (fun h3 => cg_bt (cg_o_lt (b := b) (by omega)) (fun h5 => ?_) (fun h5 => ?_)))) (fun h2 => ?_)))
    · rw [h1] at hp
      exact nm_r (nI_1 i) (ih (i + 1) _ (by omega) hb hp)
    · rw [h1, h2, h3] at hp
      exact nm_r (nI_1 i) (ih (i + 1) _ (by omega) hb hp)
    · rw [h1, h2, h3] at hp
      have e : cg_bsN l lab i b = i + 1 := by unfold cg_bsN; rw [h5]; rfl
      rw [e] at hp
      exact nm_r (nI_1 i) (ih (i + 1) (i + 1) (by omega) (by omega) hp)
    · rw [h1, h2, h3] at hp
      cases b with
      | zero => exact absurd h5 (by decide)
      | succ k =>
        have q1 := b4 i hi5
        have q2 := b4 k (by omega)
        refine ⟨pk_in i 9 (by omega), pk_in k 9 (by omega), pk_le (lab i) (lab k) (fun z => ?_) (fun z => ?_) (cg_at h4 hi5) (cg_at h4 (by omega))⟩
        · have e : cg_bsN l lab i (k + 1) = k + 1 := by
            have t : Nat.ble (lab i) (lab k) = true := Nat.ble_eq ▸ z
            show cond (Nat.ble (lab i) (lab k)) (k + 1) (i + 1) = k + 1
            rw [t]; rfl
          rw [e] at hp
          exact nm_r (nI_1 i) (ih (i + 1) (k + 1) (by omega) hb hp)
        · have e : cg_bsN l lab i (k + 1) = i + 1 := by
            have t : Nat.ble (lab i) (lab k) = false := by
              cases hh : Nat.ble (lab i) (lab k)
              · rfl
              · exact absurd (Nat.le_of_ble_eq_true hh) (by omega)
            show cond (Nat.ble (lab i) (lab k)) (k + 1) (i + 1) = i + 1
            rw [t]; rfl
          rw [e] at hp
          exact nm_r (nI_1 i) (ih (i + 1) (i + 1) (by omega) (by omega) hp)
    · rw [h1, h2] at hp
      exact nm_r (nI_1 i) (ih (i + 1) _ (by omega) hb hp)
def cg_op (p d : Nat) : Nat := Nat.land p (Nat.xor d 4294967295)
theorem cg_bsX {post : Int32 → Prop} {p d sl : Nat} (hl : cg_M a2 l) (h4 : cg_M a4 lab) (bl : ∀ j, j < 5 → l j < 32) (b4 : ∀ j, j < 5 → lab j < 32) (hp32 : p < 32) (hs : sl < 32) (hp : post (cg_oI (cg_bs l lab sl (cg_op p d)))) : wpX_bestReady post (nI 5, nI p, a1, a2, a3, a4) (nI d) (nI sl) :=
  nm_r (cg_an p d) ⟨6, cg_bsW hl h4 bl b4 hs (Nat.lt_of_le_of_lt (cg_land_le p (Nat.xor d 4294967295)) hp32) 5 0 0 rfl (by omega) hp⟩
/-- a slot of the schedule -/
def cg_sn (sl v : Nat) : Nat := cond (Nat.beq v 0) sl (Nat.lor sl (Nat.pow 2 (Nat.pred v)))
noncomputable def cg_slR (l lab : Nat → Nat) (op : Nat) (r : Nat) : Nat → Nat :=
  Nat.rec (motive := fun _ => Nat → Nat) (fun sl => sl) (fun _ ih sl => cg_fc (cg_bs l lab sl op) (fun v => cg_fc (cg_sn sl v) ih)) r
theorem cg_slS (l lab : Nat → Nat) (op r sl : Nat) : cg_slR l lab op (r + 1) sl = cg_slR l lab op r (cg_sn sl (cg_bs l lab sl op)) := by
  show cg_fc (cg_bs l lab sl op) (fun v => cg_fc (cg_sn sl v) (cg_slR l lab op r)) = _
  rw [cg_fcE, cg_fcE]
theorem cg_sn_lt {sl v : Nat} (hs : sl < 32) (hv : v ≤ 5) : cg_sn sl v < 32 := by
  cases v with
  | zero => exact hs
  | succ k => exact cg_lor_lt hs (cg_p2 k (by omega))
theorem cg_slR_lt (l lab : Nat → Nat) (op : Nat) : ∀ r sl, sl < 32 → cg_slR l lab op r sl < 32 := by
  intro r
  induction r with
  | zero => intro sl hs; exact hs
  | succ r ih =>
    intro sl hs
    rw [cg_slS]
    exact ih _ (cg_sn_lt hs (cg_bs_le _ _ _ _))
theorem cg_slW {post : Int32 → Prop} {J : Int32 → Int32 → Prop} {m p d n : Nat} (hl : cg_M a2 l) (h4 : cg_M a4 lab) (bl : ∀ j, j < 5 → l j < 32) (b4 : ∀ j, j < 5 → lab j < 32) (hp32 : p < 32) (hm : m < 10) : ∀ r k sl, k + r = m → sl < 32 → J (nI (Nat.lor d (cg_slR l lab (cg_op p d) r sl))) (nI (n + 1)) → wX_lengthOnList_24 post J (nI m) (nI d) (nI n) (nI 5) (nI p) a1 a2 a3 a4 (r + 1) (nI sl) (nI k) := by
  intro r
  induction r with
  | zero =>
    intro k sl hk hs hp
    exact pk_le m k (fun _ => nm_r (cg_or d sl) (nm_r (nI_1 n) hp)) (fun z => absurd z (by omega))
  | succ r ih =>
    intro k sl hk hs hp
    rw [cg_slS] at hp
    have hv := cg_bs_le l lab sl (cg_op p d)
    refine pk_le m k (fun z => absurd z (by omega)) (fun _ => cg_bsX hl h4 bl b4 hp32 hs ?_)
    generalize cg_bs l lab sl (cg_op p d) = v at hp hv
    refine cg_bt (cg_o_lt (b := v) (by omega)) (fun h => ?_) (fun h => ?_)
    · have e : cg_sn sl v = sl := by unfold cg_sn; rw [h]; rfl
      rw [e] at hp
      exact nm_r (nI_1 k) (ih (k + 1) sl (by omega) hs hp)
    · cases v with
      | zero => exact absurd h (by decide)
      | succ q =>
        have e : cg_sn sl (q + 1) = Nat.lor sl (Nat.pow 2 q) := rfl
        rw [e] at hp
        refine nm_r ?_ (nm_r (nI_1 k) (ih (k + 1) _ (by omega) (cg_lor_lt hs (cg_p2 q (by omega))) hp))
        show nI sl ||| ((1 : Int32) <<< (nI q &&& 31)) = _
        rw [cg_sh q (by omega)]
        exact cg_or _ _
noncomputable def cg_loR (l lab : Nat → Nat) (m p : Nat) (r : Nat) : Nat → Nat → Nat :=
  Nat.rec (motive := fun _ => Nat → Nat → Nat) (fun _ n => n) (fun _ ih d n => cond (Nat.beq d p) n (cg_fc (cg_op p d) (fun o => cg_fc (Nat.lor d (cg_slR l lab o m 0)) (fun d' => ih d' (Nat.succ n))))) r
theorem cg_loS (l lab : Nat → Nat) (m p r d n : Nat) : cg_loR l lab m p (r + 1) d n = cond (Nat.beq d p) n (cg_loR l lab m p r (Nat.lor d (cg_slR l lab (cg_op p d) m 0)) (n + 1)) := by
  show cond (Nat.beq d p) n (cg_fc (cg_op p d) (fun o => cg_fc (Nat.lor d (cg_slR l lab o m 0)) (fun d' => cg_loR l lab m p r d' (Nat.succ n)))) = _
  rw [cg_fcE, cg_fcE]
noncomputable def cg_lo (l lab : Nat → Nat) (m p : Nat) : Nat := cg_loR l lab m p 9 0 0
theorem cg_loW {post : Int32 → Prop} {m p : Nat} (hl : cg_M a2 l) (h4 : cg_M a4 lab) (bl : ∀ j, j < 5 → l j < 32) (b4 : ∀ j, j < 5 → lab j < 32) (hp32 : p < 32) (hm : m < 10) : ∀ r d n, n + r = 9 → d < 32 → post (nI (cg_loR l lab m p r d n)) → wX_lengthOnList_4 post (nI m) (nI 5) (nI p) a1 a2 a3 a4 (r + 1) (nI d) (nI n) := by
  intro r
  induction r with
  | zero =>
    intro d n hn hd hp
    exact pk_eq d p (fun _ => hp) (fun _ => pk_le 9 n (fun _ => hp) (fun z => absurd z (by omega)))
  | succ r ih =>
    intro d n hn hd hp
    rw [cg_loS] at hp
    refine pk_eq d p (fun z => ?_) (fun z => pk_le 9 n (fun z => absurd z (by omega)) (fun _ => ⟨m + 1, ?_⟩))
    · have t : Nat.beq d p = true := Nat.beq_eq ▸ z
      rw [t] at hp
      exact hp
    · have t : Nat.beq d p = false := by
        cases hh : Nat.beq d p
        · rfl
        · exact absurd (Nat.eq_of_beq_eq_true hh) z
      rw [t] at hp
      exact cg_slW hl h4 bl b4 hp32 hm m 0 0 (by omega) (by omega) (ih _ (n + 1) (by omega) (cg_lor_lt hd (cg_slR_lt l lab (cg_op p d) m 0 (by omega))) hp)
theorem cg_loX {post : Int32 → Prop} {m p : Nat} (hl : cg_M a2 l) (h4 : cg_M a4 lab) (bl : ∀ j, j < 5 → l j < 32) (b4 : ∀ j, j < 5 → lab j < 32) (hp32 : p < 32) (hm : m < 10) (hp : post (nI (cg_lo l lab m p))) : wpX_lengthOnList post (nI 5, nI p, a1, a2, a3, a4) (nI m) :=
  ⟨10, cg_loW hl h4 bl b4 hp32 hm 9 0 0 rfl (by omega) hp⟩
end
end
section
/-! labelList, labelByLists, shortest, addOrder -/
section
variable {pt : Int32} {a1 a2 a3 a4 : Nat → Int32} {l lab nx : Nat → Nat}
/-- labelList: 0 stands for -1, x + 1 for x -/
noncomputable def cg_llR (lab : Nat → Nat) (s : Nat) (r : Nat) : Nat → Nat → Nat :=
  Nat.rec (motive := fun _ => Nat → Nat → Nat) (fun _ x => Nat.succ x) (fun _ ih i x => cond (cg_tb s i) (cond (Nat.beq (lab i) 0) 0 (ih (Nat.succ i) (Nat.lor x (Nat.pow 2 (lab i))))) (ih (Nat.succ i) x)) r
theorem cg_llS (lab : Nat → Nat) (s r i x : Nat) : cg_llR lab s (r + 1) i x = cond (cg_tb s i) (cond (Nat.beq (lab i) 0) 0 (cg_llR lab s r (i + 1) (Nat.lor x (Nat.pow 2 (lab i))))) (cg_llR lab s r (i + 1) x) := rfl
noncomputable def cg_ll (lab : Nat → Nat) (s : Nat) : Nat := cg_llR lab s 5 0 0
theorem cg_llR_le (lab : Nat → Nat) (s : Nat) (b4 : ∀ j, j < 5 → lab j < 16) : ∀ r i x, i + r = 5 → x < 65536 → cg_llR lab s r i x ≤ 65536 := by
  intro r
  induction r with
  | zero => intro i x _ hx; exact hx
  | succ r ih =>
    intro i x hi hx
    rw [cg_llS]
    cases cg_tb s i
    · exact ih _ _ (by omega) hx
    · cases Nat.beq (lab i) 0
      · exact ih _ _ (by omega) (cg_lor_lt16 hx (cg_p216 _ (b4 i (by omega))))
      · exact Nat.zero_le _
theorem cg_ll_le (lab : Nat → Nat) (s : Nat) (b4 : ∀ j, j < 5 → lab j < 16) : cg_ll lab s ≤ 65536 := cg_llR_le lab s b4 5 0 0 rfl (by omega)
theorem cg_llW {post : Int32 → Prop} {s : Nat} (h4 : cg_M a4 lab) (b4 : ∀ j, j < 5 → lab j < 16) (hs : s < 32) : ∀ r i x, i + r = 5 → post (cg_oI (cg_llR lab s r i x)) → wX_labelList_4 post (nI s) (nI 5) pt a1 a2 a3 a4 (r + 1) (nI x) (nI i) := by
  intro r
  induction r with
  | zero =>
    intro i x hi hp
    exact pk_le 5 i (fun _ => hp) (fun z => absurd z (by omega))
  | succ r ih =>
    intro i x hi hp
    rw [cg_llS] at hp
    have hi5 : i < 5 := by omega
    have q := b4 i hi5
    refine pk_le 5 i (fun z => absurd z (by omega)) (fun _ => cg_br (cg_b0 (by omega) (by omega)) (fun hb => ?_) (fun hb => ⟨pk_in i 9 (by omega), cg_bt (b := Nat.beq (lab i) 0) ?_ (fun hc => ?_) (fun hc => ⟨pk_in i 9 (by omega), ?_⟩)⟩))
    · rw [hb] at hp
      exact nm_r (nI_1 i) (ih (i + 1) _ (by omega) hp)
    · rw [cg_at h4 hi5]
      exact cg_z (by omega)
    · rw [hb, hc] at hp
      exact hp
    · rw [hb, hc] at hp
      refine nm_r ?_ (nm_r (nI_1 i) (ih (i + 1) _ (by omega) hp))
      rw [cg_at h4 hi5, cg_sh _ (by omega)]
      exact cg_or _ _
theorem cg_llX {post : Int32 → Prop} {s : Nat} {p0 : Int32} (h4 : cg_M a4 lab) (b4 : ∀ j, j < 5 → lab j < 16) (hs : s < 32) (e : p0 = nI s) (hp : post (cg_oI (cg_ll lab s))) : wpX_labelList post (nI 5, pt, a1, a2, a3, a4) p0 := by
  rw [e]
  exact ⟨6, cg_llW h4 b4 hs 5 0 0 rfl hp⟩
/-- the next task to label: 0 stands for none -/
noncomputable def cg_lkR (lab nx : Nat → Nat) (p : Nat) (r : Nat) : Nat → Nat → Nat → Nat :=
  Nat.rec (motive := fun _ => Nat → Nat → Nat → Nat) (fun _ b _ => b) (fun _ ih i b y => cond (cg_tb p i) (cond (Nat.beq (lab i) 0) (cg_fc (cg_ll lab (nx i)) (fun c => cond (Nat.beq c 0) (ih (Nat.succ i) b y) (cond (Nat.beq b 0) (ih (Nat.succ i) (Nat.succ i) (Nat.pred c)) (cond (Nat.ble y (Nat.pred c)) (ih (Nat.succ i) b y) (ih (Nat.succ i) (Nat.succ i) (Nat.pred c)))))) (ih (Nat.succ i) b y)) (ih (Nat.succ i) b y)) r
theorem cg_lkS (lab nx : Nat → Nat) (p r i b y : Nat) : cg_lkR lab nx p (r + 1) i b y = cond (cg_tb p i) (cond (Nat.beq (lab i) 0) (cond (Nat.beq (cg_ll lab (nx i)) 0) (cg_lkR lab nx p r (i + 1) b y) (cond (Nat.beq b 0) (cg_lkR lab nx p r (i + 1) (i + 1) (Nat.pred (cg_ll lab (nx i)))) (cond (Nat.ble y (Nat.pred (cg_ll lab (nx i)))) (cg_lkR lab nx p r (i + 1) b y) (cg_lkR lab nx p r (i + 1) (i + 1) (Nat.pred (cg_ll lab (nx i))))))) (cg_lkR lab nx p r (i + 1) b y)) (cg_lkR lab nx p r (i + 1) b y) := by
  show cond (cg_tb p i) (cond (Nat.beq (lab i) 0) (cg_fc (cg_ll lab (nx i)) (fun c => cond (Nat.beq c 0) (cg_lkR lab nx p r (i + 1) b y) (cond (Nat.beq b 0) (cg_lkR lab nx p r (i + 1) (i + 1) (Nat.pred c)) (cond (Nat.ble y (Nat.pred c)) (cg_lkR lab nx p r (i + 1) b y) (cg_lkR lab nx p r (i + 1) (i + 1) (Nat.pred c)))))) (cg_lkR lab nx p r (i + 1) b y)) (cg_lkR lab nx p r (i + 1) b y) = _
  rw [cg_fcE]
noncomputable def cg_lk (lab nx : Nat → Nat) (p : Nat) : Nat := cg_lkR lab nx p 5 0 0 0
noncomputable def cg_lu (q num b : Nat) : Nat := cond (Nat.beq b 0) q (cg_pa (fun j => cond (Nat.beq j (Nat.pred b)) num (cg_pk q j)))
theorem cg_luE {q num k : Nat} (hn : num < 32) : ∀ j, j < 5 → cg_pk (cg_lu q num (k + 1)) j = cond (Nat.beq j k) num (cg_pk q j) :=
  cg_pk_pa (fun j => cond (Nat.beq j k) num (cg_pk q j)) (fun j _ => by
    cases Nat.beq j k
    · exact cg_pk_lt q j
    · exact hn)
theorem cg_lu16 {q num b : Nat} (hn : num < 16) (h : ∀ j, j < 5 → cg_pk q j < 16) : ∀ j, j < 5 → cg_pk (cg_lu q num b) j < 16 := by
  cases b with
  | zero => exact h
  | succ k =>
    intro j hj
    rw [cg_luE (by omega) j hj]
    cases Nat.beq j k
    · exact h j hj
    · exact hn
theorem cg_luM {q num k : Nat} (hn : num < 32) (h4 : cg_M a4 (cg_pk q)) : cg_M (upd a4 k (nI num)) (cg_pk (cg_lu q num (k + 1))) := by
  intro j hj
  rw [cg_luE hn j hj]
  by_cases e : j = k
  · have t : Nat.beq j k = true := Nat.beq_eq ▸ e
    rw [t, e, pk_us]; rfl
  · have t : Nat.beq j k = false := by
      cases hh : Nat.beq j k
      · rfl
      · exact absurd (Nat.eq_of_beq_eq_true hh) e
    rw [t, pk_un e]; exact h4 j hj
theorem cg_lkW {post : St2 → Prop} {J : Int32 → (Nat → Int32) → (Nat → Int32) → (Nat → Int32) → (Nat → Int32) → Prop} {q num p : Nat} (h4 : cg_M a4 (cg_pk q)) (h3 : cg_M a3 nx) (b4 : ∀ j, j < 5 → cg_pk q j < 16) (b3 : ∀ j, j < 5 → nx j < 32) (hp : p < 32) (hn : num < 16) :
    ∀ r i b y, i + r = 5 → b ≤ 5 → y < 65536 → (∀ c4, cg_M c4 (cg_pk (cg_lu q num (cg_lkR (cg_pk q) nx p r i b y))) → J (nI (num + 1)) a1 a2 a3 c4) → wX_labelByLists_65 post J (nI num) (nI 5) (nI p) a1 a2 a3 a4 (r + 1) (cg_oI b) (nI y) (nI i) := by
  intro r
  induction r with
  | zero =>
    intro i b y hi hb hy H
    refine pk_le 5 i (fun _ => cg_bt (cg_o_lt (b := b) (by omega)) (fun h => ?_) (fun h => ?_)) (fun z => absurd z (by omega))
    · have e : b = 0 := Nat.eq_of_beq_eq_true h
      subst e
      exact nm_r (nI_1 num) (H a4 h4)
    · cases b with
      | zero => exact absurd h (by decide)
      | succ k =>
        have e : upd a4 (nI k).toNatClampNeg (nI num).toInt8.toInt32 = upd a4 k (nI num) := by rw [nI_clamp (by omega), cg_i8 num (by omega)]
        exact ⟨pk_in k 9 (by omega), nm_r e (nm_r (nI_1 num) (H _ (cg_luM (by omega) h4)))⟩
  | succ r ih =>
    intro i b y hi hb hy H
    rw [cg_lkS] at H
    have hi5 : i < 5 := by omega
    have q4 := b4 i hi5
    have q3 := b3 i hi5
    have qc := cg_ll_le (cg_pk q) (nx i) b4
    refine pk_le 5 i (fun z => absurd z (by omega)) (fun _ => cg_br (cg_b0 (by omega) (by omega)) (fun h1 => ?_) (fun h1 => ⟨pk_in i 9 (by omega), cg_bt (b := Nat.beq (cg_pk q i) 0) ?_ (fun h2 => ⟨pk_in i 9 (by omega), cg_llX h4 b4 q3 (cg_at h3 hi5) ?_⟩) (fun h2 => ?_)⟩))
    · rw [h1] at H
      exact nm_r (nI_1 i) (ih (i + 1) b y (by omega) hb hy H)
    · rw [cg_at h4 hi5]
      exact cg_z (by omega)
    · rw [h1, h2] at H
      generalize cg_ll (cg_pk q) (nx i) = c at H qc
      refine cg_bt (cg_o_lt (b := c) (by omega)) (fun h3 => ?_) (fun h3 => ?_)
      · rw [h3] at H
        exact nm_r (nI_1 i) (ih (i + 1) b y (by omega) hb hy H)
      · rw [h3] at H
        cases c with
        | zero => exact absurd h3 (by decide)
        | succ c =>
          refine cg_bt (cg_o_lt (b := b) (by omega)) (fun h5 => ?_) (fun h5 => pk_lt c y (fun z => ?_) (fun z => ?_))
          · rw [h5] at H
            exact nm_r (nI_1 i) (ih (i + 1) (i + 1) c (by omega) (by omega) (by omega) H)
          · have t : Nat.ble y (Nat.pred (c + 1)) = false := by
              cases hh : Nat.ble y (Nat.pred (c + 1))
              · rfl
              · exact absurd (show y ≤ c from Nat.le_of_ble_eq_true hh) (by omega)
            rw [h5, t] at H
            exact nm_r (nI_1 i) (ih (i + 1) (i + 1) c (by omega) (by omega) (by omega) H)
          · have t : Nat.ble y (Nat.pred (c + 1)) = true := Nat.ble_eq ▸ z
            rw [h5, t] at H
            exact nm_r (nI_1 i) (ih (i + 1) b y (by omega) hb hy H)
    · rw [h1, h2] at H
      exact nm_r (nI_1 i) (ih (i + 1) b y (by omega) hb hy H)
noncomputable def cg_lbR (nx : Nat → Nat) (p : Nat) (r : Nat) : Nat → Nat → Nat :=
  Nat.rec (motive := fun _ => Nat → Nat → Nat) (fun _ q => q) (fun _ ih num q => cg_fc (cg_lk (cg_pk q) nx p) (fun b => cg_fc (cg_lu q num b) (fun q' => ih (Nat.succ num) q'))) r
theorem cg_lbS (nx : Nat → Nat) (p r num q : Nat) : cg_lbR nx p (r + 1) num q = cg_lbR nx p r (num + 1) (cg_lu q num (cg_lk (cg_pk q) nx p)) := by
  show cg_fc (cg_lk (cg_pk q) nx p) (fun b => cg_fc (cg_lu q num b) (fun q' => cg_lbR nx p r (Nat.succ num) q')) = _
  rw [cg_fcE, cg_fcE]
theorem cg_lbW {post : St2 → Prop} {p : Nat} (h3 : cg_M a3 nx) (b3 : ∀ j, j < 5 → nx j < 32) (hp : p < 32) : ∀ r num q a4, num + r = 10 → cg_M a4 (cg_pk q) → (∀ j, j < 5 → cg_pk q j < 16) → (∀ c4, cg_M c4 (cg_pk (cg_lbR nx p r num q)) → post (nI 5, nI p, a1, a2, a3, c4)) → wX_labelByLists_52 post (nI 5) (nI p) (r + 1) (nI num) a1 a2 a3 a4 := by
  intro r
  induction r with
  | zero =>
    intro num q a4 hn h4 b4 H
    exact pk_lt 9 num (fun _ => H a4 h4) (fun z => absurd z (by omega))
  | succ r ih =>
    intro num q a4 hn h4 b4 H
    rw [cg_lbS] at H
    refine pk_lt 9 num (fun z => absurd z (by omega)) (fun _ => ⟨6, cg_lkW h4 h3 b4 b3 hp (by omega) 5 0 0 0 rfl (by omega) (by omega) (fun c4 hc => ?_)⟩)
    exact ih (num + 1) _ c4 (by omega) hc (cg_lu16 (by omega) b4) H
noncomputable def cg_nx (l : Nat → Nat) (p j : Nat) : Nat := Nat.land (cg_im l (Nat.land (l j) p)) p
theorem cg_nx_lt {p j : Nat} (bl : l j < 32) : cg_nx l p j < 32 := by
  have h1 := cg_land_le (cg_im l (Nat.land (l j) p)) p
  have h2 := cg_im_le l (Nat.land (l j) p)
  have h3 := cg_land_le (l j) p
  unfold cg_nx
  omega
theorem cg_l2W {post : St2 → Prop} {p : Nat} (hl : cg_M a2 l) (bl : ∀ j, j < 5 → l j < 32) (hp : p < 32) (H : ∀ b3 b4, cg_M b3 (cg_nx l p) → cg_M b4 (fun _ => 0) → ∃ n, wX_labelByLists_52 post (nI 5) (nI p) n 1 a1 a2 b3 b4) : ∀ r i a3 a4, i + r = 5 → (∀ j, j < i → a3 j = nI (cg_nx l p j)) → (∀ j, j < i → a4 j = nI 0) → wX_labelByLists_2 post (nI 5) (nI p) (r + 1) (nI i) a1 a2 a3 a4 := by
  intro r
  induction r with
  | zero =>
    intro i a3 a4 hi g3 g4
    exact pk_le 5 i (fun _ => H a3 a4 (fun j hj => g3 j (by omega)) (fun j hj => g4 j (by omega))) (fun z => absurd z (by omega))
  | succ r ih =>
    intro i a3 a4 hi g3 g4
    have hi5 : i < 5 := by omega
    have b1 := bl i hi5
    have b2 := cg_land_le (l i) p
    refine pk_le 5 i (fun z => absurd z (by omega)) (fun _ => ⟨pk_in i 9 (by omega), nm_e ⟨pk_in i 9 (by omega), cg_imX (s := Nat.land (l i) p) hl (by omega) ?_ ⟨pk_in i 9 (by omega), nm_e (nm_r (nI_1 i) (ih (i + 1) _ _ (by omega) (cg_put (nI_clamp (by omega)) g3 (cg_and _ _)) (cg_put (f := fun _ => 0) (nI_clamp (by omega)) g4 rfl)))⟩⟩⟩)
    rw [cg_at hl hi5]
    exact cg_and _ _
noncomputable def cg_lb (l : Nat → Nat) (p : Nat) : Nat := cg_fc (cg_pa (cg_nx l p)) (fun x => cg_lbR (cg_pk x) p 9 1 0)
theorem cg_pk0 (j : Nat) : cg_pk 0 j = 0 := by
  show 0 / 32 ^ j % 32 = 0
  rw [Nat.zero_div]
theorem cg_lbX {post : St2 → Prop} {p : Nat} (hl : cg_M a2 l) (bl : ∀ j, j < 5 → l j < 32) (hp : p < 32) (H : ∀ b3 b4, cg_M b4 (cg_pk (cg_lb l p)) → post (nI 5, nI p, a1, a2, b3, b4)) : wpX_labelByLists post (nI 5, nI p, a1, a2, a3, a4) := by
  unfold cg_lb at H
  rw [cg_fcE] at H
  refine ⟨6, cg_l2W hl bl hp (fun b3 b4 h3 h4 => ⟨10, ?_⟩) 5 0 a3 a4 rfl (fun j hj => absurd hj (by omega)) (fun j hj => absurd hj (by omega))⟩
  refine cg_lbW (nx := cg_pk (cg_pa (cg_nx l p))) (fun j hj => ?_) (fun j _ => cg_pk_lt _ j) hp 9 1 0 b4 rfl (fun j hj => ?_) (fun j _ => by rw [cg_pk0]; omega) (fun c4 hc => H b3 c4 hc)
  · rw [cg_pk_pa (cg_nx l p) (fun j hj => cg_nx_lt (bl j hj)) j hj]
    exact h3 j hj
  · rw [cg_pk0]
    exact h4 j hj
/-- shortest(2) -/
noncomputable def cg_s2 (l : Nat → Nat) : Nat := cg_fc (cg_lb l 31) (fun q => cg_lo l (cg_pk q) 2 31)
theorem cg_s2X {post : Int32 → St2 → Prop} (hl : cg_M a2 l) (bl : ∀ j, j < 5 → l j < 32) (H : ∀ b3 b4, post (nI (cg_s2 l)) (nI 5, nI 31, a1, a2, b3, b4)) : wpX_shortest post (nI 5, pt, a1, a2, a3, a4) 2 := by
  unfold cg_s2 at H
  rw [cg_fcE] at H
  refine pk_lt 2 1 (fun z => absurd z (by omega)) (fun _ => pk_le 2 9 (fun _ => nm_r (e' := nI 31) (by decide) (pk_eq 2 1 (fun z => absurd z (by omega)) (fun _ => pk_eq 2 2 (fun _ => cg_lbX hl bl (by omega) (fun b3 b4 h4 => ?_)) (fun z => absurd rfl z)))) (fun z => absurd z (by omega)))
  exact cg_loX (m := 2) hl h4 bl (fun j _ => cg_pk_lt _ j) (by omega) (by omega) (H b3 b4)
/-- shortest(m), m > 2, where the orders are trees -/
noncomputable def cg_sM (l : Nat → Nat) (m : Nat) : Nat := cg_fc (cg_pa (cg_ht l)) (fun q => cg_lo l (cg_pk q) m 31)
theorem cg_sMX {post : Int32 → St2 → Prop} {m : Nat} (hl : cg_M a2 l) (bl : ∀ j, j < 5 → l j < 32) (h2 : 2 < m) (h9 : m < 10) (H0 : cg_it l = false → post (-2) (nI 5, nI 31, a1, a2, a3, a4)) (H1 : cg_it l = true → ∀ b3 b4, post (nI (cg_sM l m)) (nI 5, nI 31, a1, a2, b3, b4)) : wpX_shortest post (nI 5, pt, a1, a2, a3, a4) (nI m) := by
  unfold cg_sM at H1
  rw [cg_fcE] at H1
  refine pk_lt m 1 (fun z => absurd z (by omega)) (fun _ => pk_le m 9 (fun _ => nm_r (e' := nI 31) (by decide) (pk_eq m 1 (fun z => absurd z (by omega)) (fun _ => pk_eq m 2 (fun z => absurd z (by omega)) (fun _ => cg_itX hl bl (cg_br (cg_bI0 _) (fun h => H0 h) (fun h => cg_lhX hl bl (fun b4 h4 => ?_))))))) (fun z => absurd z (by omega)))
  refine cg_loX (m := m) (lab := cg_pk (cg_pa (cg_ht l))) hl (fun j hj => ?_) bl (fun j _ => cg_pk_lt _ j) (by omega) (by omega) (H1 h _ b4)
  rw [cg_pk_pa (cg_ht l) (fun j _ => by have := cg_ht_le l j; omega) j hj]
  exact h4 j hj
/-! addOrder -/
def cg_fA (f : Nat → Nat) (u v j : Nat) : Nat := cond (Nat.beq j u) (Nat.lor (f j) (Nat.pow 2 v)) (f j)
def cg_lA (l : Nat → Nat) (u v j : Nat) : Nat := cond (cond (Nat.beq j u) true (cg_tb (l j) u)) (Nat.lor (l j) (Nat.lor (l v) (Nat.pow 2 v))) (l j)
theorem cg_beq_t {a b : Nat} (h : a = b) : Nat.beq a b = true := Nat.beq_eq ▸ h
theorem cg_beq_f {a b : Nat} (h : a ≠ b) : Nat.beq a b = false := by
  cases hh : Nat.beq a b
  · rfl
  · exact absurd (Nat.eq_of_beq_eq_true hh) h
theorem cg_aoW {post : Int32 → St2 → Prop} {u v : Nat} (hu : u < 5) (bl : ∀ j, j < 5 → l j < 32) (H : ∀ b2, cg_M b2 (cg_lA l u v) → post 1 (nI 5, pt, a1, b2, a3, a4)) : ∀ r i a2, i + r = 5 → (∀ j, j < i → a2 j = nI (cg_lA l u v j)) → (∀ j, i ≤ j → j < 5 → a2 j = nI (l j)) → wX_addOrder_80 post (nI u) (nI (Nat.lor (l v) (Nat.pow 2 v))) (nI 5) pt (r + 1) (nI i) a1 a2 a3 a4 := by
  intro r
  induction r with
  | zero =>
    intro i a2 hi g1 g2
    exact pk_le 5 i (fun _ => H a2 (fun j hj => g1 j (by omega))) (fun z => absurd z (by omega))
  | succ r ih =>
    intro i a2 hi g1 g2
    have hi5 : i < 5 := by omega
    have b1 := bl i hi5
    have ea : a2 (nI i).toNatClampNeg = nI (l i) := by rw [nI_clamp (by omega)]; exact g2 i (Nat.le_refl i) hi5
    have st : cg_lA l u v i = Nat.lor (l i) (Nat.lor (l v) (Nat.pow 2 v)) → wX_addOrder_109 post (wX_addOrder_80 post (nI u) (nI (Nat.lor (l v) (Nat.pow 2 v))) (nI 5) pt (r + 1)) (nI u) (nI (Nat.lor (l v) (Nat.pow 2 v))) (nI i) (nI 5) pt a1 a2 a3 a4 := by
      intro e
      refine ⟨pk_in i 9 (by omega), pk_in i 9 (by omega), nm_e (nm_r (nI_1 i) (ih (i + 1) _ (by omega) (cg_put (nI_clamp (by omega)) g1 ?_) ?_))⟩
      · rw [ea, e]
        exact cg_or _ _
      · intro j h1 h2
        rw [nI_clamp (by omega), pk_un (by omega)]
        exact g2 j (by omega) h2
    refine pk_le 5 i (fun z => absurd z (by omega)) (fun _ => pk_eq i u (fun z => st ?_) (fun z => ⟨pk_in i 9 (by omega), cg_br (b := cg_tb (l i) u) ?_ (fun h => ?_) (fun h => st ?_)⟩))
    · unfold cg_lA
      rw [cg_beq_t z]; rfl
    · rw [ea]
      exact cg_b0 (by omega) (by omega)
    · refine nm_r (nI_1 i) (ih (i + 1) a2 (by omega) (fun j hj => ?_) (fun j h1 h2 => g2 j (by omega) h2))
      by_cases e : j = i
      · rw [e, g2 i (Nat.le_refl i) hi5]
        unfold cg_lA
        rw [cg_beq_f z, h]; rfl
      · exact g1 j (by omega)
    · unfold cg_lA
      rw [cg_beq_f z, h]; rfl
theorem cg_itk {post : Int32 → Prop} {v : Nat} (hv : v < 5) (hp : post 1) : wpX_isTask post (nI 5, pt, a1, a2, a3, a4) (nI v) :=
  br_f (nI_pos (by omega)) (pk_le 5 v (fun z => absurd z (by omega)) (fun _ => hp))
theorem cg_aoX {post : Int32 → St2 → Prop} {f : Nat → Nat} {u v : Nat} (hf : cg_M a1 f) (hl : cg_M a2 l) (bf : ∀ j, j < 5 → f j < 32) (bl : ∀ j, j < 5 → l j < 32) (hu : u < 5) (hv : v < 5) (huv : u ≠ v) (k1 : cg_tb (l v) u = false) (k2 : cg_tb (f u) v = false)
    (H : ∀ b1 b2, cg_M b1 (cg_fA f u v) → cg_M b2 (cg_lA l u v) → post 1 (nI 5, pt, b1, b2, a3, a4)) : wpX_addOrder post (nI 5, pt, a1, a2, a3, a4) (nI u) (nI v) := by
  have b1 := bl v hv
  have b2 := bf u hu
  have z1 : ¬ (1 : Int32) = 0 := by decide
  unfold wpX_addOrder
  dsimp only
  refine cg_itk hu ?_
  refine br_f z1 ?_
  refine cg_itk hv ?_
  refine br_f z1 (pk_eq u v (fun z => absurd z huv) (fun _ => ⟨pk_in v 9 (by omega), br_t ?_ ⟨pk_in u 9 (by omega), br_t ?_ ⟨pk_in u 9 (by omega), pk_in u 9 (by omega), nm_e ⟨pk_in v 9 (by omega), nm_r (e' := nI (Nat.lor (l v) (Nat.pow 2 v))) ?_ ⟨6, cg_aoW hu bl (fun c2 h2 => H _ c2 ?_ h2) 5 0 a2 rfl (fun j hj => absurd hj (by omega)) (fun j _ hj => hl j hj)⟩⟩⟩⟩⟩))
  · rw [cg_at hl hv]
    exact (cg_b0 (by omega) (by omega)).mpr k1
  · rw [cg_at hf hu]
    exact (cg_b0 (by omega) (by omega)).mpr k2
  · rw [cg_at hl hv, cg_sh v (by omega)]
    exact cg_or _ _
  · intro j hj
    rw [nI_clamp (by omega)]
    unfold cg_fA
    by_cases e : j = u
    · rw [cg_beq_t e, e, pk_us, hf u hu, cg_sh v (by omega)]
      exact cg_or _ _
    · rw [cg_beq_f e, pk_un e]
      exact hf j hj
theorem cg_fA_lt {f : Nat → Nat} {u v : Nat} (bf : ∀ j, j < 5 → f j < 32) (hv : v < 5) : ∀ j, j < 5 → cg_fA f u v j < 32 := by
  intro j hj
  unfold cg_fA
  cases Nat.beq j u
  · exact bf j hj
  · exact cg_lor_lt (bf j hj) (cg_p2 v hv)
theorem cg_lA_lt {u v : Nat} (bl : ∀ j, j < 5 → l j < 32) (hv : v < 5) : ∀ j, j < 5 → cg_lA l u v j < 32 := by
  intro j hj
  unfold cg_lA
  cases cond (Nat.beq j u) true (cg_tb (l j) u)
  · exact bl j hj
  · exact cg_lor_lt (bl j hj) (cg_lor_lt (bl v hv) (cg_p2 v hv))
end
end
section
/-! the law's own functions: before, slot, length, good, leads -/
section
variable {x : Int32} {w p m : Nat}
/-- the ten low bits of the word -/
def cg_wd (x : Int32) (w : Nat) : Prop := ∀ i, i < 10 → (((x >>> (nI i &&& 31)) &&& 1) = 1 ↔ cg_tb w i = true)
theorem cg_tbT (a i : Nat) : cg_tb a i = a.testBit i := by
  rw [Nat.testBit_eq_decide_div_mod_eq, Bool.eq_iff_iff, decide_eq_true_iff, cg_tb_iff]
theorem cg_wdE (x : Int32) : cg_wd x (x.toBitVec.toNat % 1024) := by
  intro i hi
  have hb : (x >>> (nI i &&& 31)).toBitVec.getLsbD 0 = x.toBitVec.getLsbD i := by
    rw [Int32.toBitVec_shiftRight]
    show (x.toBitVec.sshiftRight ((nI i &&& 31).toBitVec.smod 32).toNat).getLsbD 0 = _
    rw [cg_sm i (by omega), BitVec.getLsbD_sshiftRight]
    simp
    intro h
    omega
  have h1 : (x >>> (nI i &&& 31)) &&& 1 = nI ((x >>> (nI i &&& 31)).toBitVec.toNat % 2) := pk_and _ 1 (by decide)
  have h2 : (x >>> (nI i &&& 31)).toBitVec.toNat % 2 = 1 ↔ (x >>> (nI i &&& 31)).toBitVec.getLsbD 0 = true := by
    show _ ↔ (x >>> (nI i &&& 31)).toBitVec.toNat.testBit 0 = true
    rw [Nat.testBit_zero, decide_eq_true_iff]
  have h3 : cg_tb (x.toBitVec.toNat % 1024) i = x.toBitVec.getLsbD i := by
    rw [cg_tbT]
    show (x.toBitVec.toNat % 2 ^ 10).testBit i = x.toBitVec.toNat.testBit i
    rw [Nat.testBit_mod_two_pow, decide_eq_true hi, Bool.true_and]
  rw [h1, h3, ← hb, ← h2]
  exact nI_eq (b := 1) (by omega) (by omega)
def cg_bf (w u v : Nat) : Bool := cond (Nat.ble v u) false (cg_tb w (Nat.add (Nat.div (Nat.mul v (Nat.pred v)) 2) u))
theorem cg_ix : ∀ u, u < 5 → ∀ v, v < 5 → u < v → (((nI v * (nI v - 1)) / 2) + nI u) = nI (Nat.add (Nat.div (Nat.mul v (Nat.pred v)) 2) u) ∧ (Nat.add (Nat.div (Nat.mul v (Nat.pred v)) 2) u) < 10 := by decide +kernel
theorem cg_ble_t {a b : Nat} (h : a ≤ b) : Nat.ble a b = true := Nat.ble_eq ▸ h
theorem cg_ble_f {a b : Nat} (h : b < a) : Nat.ble a b = false := by
  cases hh : Nat.ble a b
  · rfl
  · exact absurd (Nat.le_of_ble_eq_true hh) (by omega)
theorem cg_bfX {post : Int32 → Prop} {u v : Nat} (hw : cg_wd x w) (hu : u < 5) (hv : v < 5) (H1 : cg_bf w u v = true → post 1) (H0 : cg_bf w u v = false → post 0) : wpL_before post () x (nI u) (nI v) := by
  refine pk_le v u (fun z => H0 ?_) (fun z => ⟨by decide, ?_⟩)
  · unfold cg_bf
    rw [cg_ble_t z]; rfl
  · have e : cg_bf w u v = cg_tb w (Nat.add (Nat.div (Nat.mul v (Nat.pred v)) 2) u) := by
      unfold cg_bf
      rw [cg_ble_f z]; rfl
    have t := cg_ix u hu v hv z
    rw [t.1]
    exact cg_bt (hw _ t.2) (fun h => H1 (e.trans h)) (fun h => H0 (e.trans h))
/-- the slot of task v in a plan -/
def cg_dg (p v : Nat) : Nat := Nat.mod (Nat.div p (Nat.pow 5 v)) 5
theorem cg_dg_lt (p v : Nat) : cg_dg p v < 5 := Nat.mod_lt _ (by omega)
theorem cg_dgX {post : Int32 → Prop} {v : Nat} (hp : p < 3125) (hv : v < 5) (H : post (nI (cg_dg p v))) : wpL_slot post () (nI p) (nI v) := by
  revert H
  revert v
  have n5 : ¬ (5 : Int32) = 0 := by decide
  refine cg_5 ?_ ?_ ?_ ?_ ?_
  · intro H
    have e : cg_dg p 0 = p % 5 := by show p / 1 % 5 = p % 5; rw [Nat.div_one]
    rw [e] at H
    exact br_t rfl ⟨n5, ek_v (P := post) (pk_rem (d := 5) (by omega) (by omega) (by omega)) H⟩
  · intro H
    have d1 : nI p / 5 = nI (p / 5) := pk_div (d := 5) (by omega) (by omega) (by omega)
    refine br_f (by decide) (br_t rfl ⟨n5, n5, ?_⟩)
    rw [d1]
    exact ek_v (P := post) (pk_rem (d := 5) (by omega) (by omega) (by omega)) H
  · intro H
    have d1 : nI p / 25 = nI (p / 25) := pk_div (d := 25) (by omega) (by omega) (by omega)
    refine br_f (by decide) (br_f (by decide) (br_t rfl ⟨by decide, n5, ?_⟩))
    rw [d1]
    exact ek_v (P := post) (pk_rem (d := 5) (by omega) (by omega) (by omega)) H
  · intro H
    have d1 : nI p / 125 = nI (p / 125) := pk_div (d := 125) (by omega) (by omega) (by omega)
    refine br_f (by decide) (br_f (by decide) (br_f (by decide) (br_t rfl ⟨by decide, n5, ?_⟩)))
    rw [d1]
    exact ek_v (P := post) (pk_rem (d := 5) (by omega) (by omega) (by omega)) H
  · intro H
    have d1 : nI p / 625 = nI (p / 625) := pk_div (d := 625) (by omega) (by omega) (by omega)
    have e : cg_dg p 4 = p / 625 := by show p / 625 % 5 = p / 625; omega
    rw [e] at H
    refine br_f (by decide) (br_f (by decide) (br_f (by decide) (br_f (by decide) ⟨by decide, ?_⟩)))
    rw [d1]
    exact H
noncomputable def cg_lnR (d : Nat → Nat) (r : Nat) : Nat → Nat → Nat :=
  Nat.rec (motive := fun _ => Nat → Nat → Nat) (fun _ t => t) (fun _ ih i t => ih (Nat.succ i) (cond (Nat.ble (Nat.succ (d i)) t) t (Nat.succ (d i)))) r
theorem cg_lnS (d : Nat → Nat) (r i t : Nat) : cg_lnR d (r + 1) i t = cg_lnR d r (i + 1) (cond (Nat.ble (d i + 1) t) t (d i + 1)) := rfl
noncomputable def cg_ln (p : Nat) : Nat := cg_lnR (cg_dg p) 5 0 0
theorem cg_lnR_ge (d : Nat → Nat) : ∀ r i t, t ≤ cg_lnR d r i t ∧ ∀ v, i ≤ v → v < i + r → d v < cg_lnR d r i t := by
  intro r
  induction r with
  | zero => intro i t; exact ⟨Nat.le_refl t, fun v h1 h2 => absurd h2 (by omega)⟩
  | succ r ih =>
    intro i t
    rw [cg_lnS]
    have g := ih (i + 1) (cond (Nat.ble (d i + 1) t) t (d i + 1))
    have b : t ≤ cond (Nat.ble (d i + 1) t) t (d i + 1) ∧ d i < cond (Nat.ble (d i + 1) t) t (d i + 1) := by
      rcases Nat.lt_or_ge (d i) t with z | z
      · rw [cg_ble_t z]; exact ⟨Nat.le_refl t, z⟩
      · rw [cg_ble_f (by omega : t < d i + 1)]; exact ⟨Nat.le_succ_of_le z, Nat.lt_succ_self _⟩
    refine ⟨Nat.le_trans b.1 g.1, fun v h1 h2 => ?_⟩
    by_cases e : v = i
    · rw [e]; exact Nat.lt_of_lt_of_le b.2 g.1
    · exact g.2 v (by omega) (by omega)
theorem cg_lnR_le (d : Nat → Nat) (T : Nat) : ∀ r i t, i + r = 5 → (∀ v, v < 5 → d v < T) → t ≤ T → cg_lnR d r i t ≤ T := by
  intro r
  induction r with
  | zero => intro i t _ _ h; exact h
  | succ r ih =>
    intro i t hi hd ht
    rw [cg_lnS]
    refine ih _ _ (by omega) hd ?_
    cases Nat.ble (d i + 1) t
    · exact hd i (by omega)
    · exact ht
theorem cg_ln_lt (p : Nat) {v : Nat} (hv : v < 5) : cg_dg p v < cg_ln p := (cg_lnR_ge (cg_dg p) 5 0 0).2 v (by omega) (by omega)
theorem cg_ln_le {p T : Nat} (h : ∀ v, v < 5 → cg_dg p v < T) : cg_ln p ≤ T := cg_lnR_le (cg_dg p) T 5 0 0 rfl h (by omega)
theorem cg_ln_5 (p : Nat) : cg_ln p ≤ 5 := cg_ln_le (fun v _ => cg_dg_lt p v)
theorem cg_lnW {post : Int32 → Prop} (hp : p < 3125) : ∀ r i t, i + r = 5 → t ≤ 5 → post (nI (cg_lnR (cg_dg p) r i t)) → wL_length_4 post (nI p) (r + 1) (nI t) (nI i) := by
  intro r
  induction r with
  | zero =>
    intro i t hi ht H
    exact pk_le 5 i (fun _ => H) (fun z => absurd z (by omega))
  | succ r ih =>
    intro i t hi ht H
    rw [cg_lnS] at H
    have b := cg_dg_lt p i
    refine pk_le 5 i (fun z => absurd z (by omega)) (fun _ => cg_dgX hp (by omega) (pk_le (cg_dg p i + 1) t (fun z => ?_) (fun z => cg_dgX hp (by omega) ?_) (nI_1 _)))
    · rw [cg_ble_t z] at H
      exact nm_r (nI_1 i) (ih (i + 1) _ (by omega) ht H)
    · rw [cg_ble_f z] at H
      exact nm_r (nI_1 _) (nm_r (nI_1 i) (ih (i + 1) _ (by omega) b H))
theorem cg_lnX {post : Int32 → Prop} (hp : p < 3125) (H : post (nI (cg_ln p))) : wpL_length post () (nI p) :=
  ⟨6, cg_lnW hp 5 0 0 rfl (by omega) H⟩
/-- how many tasks share task u's slot -/
noncomputable def cg_cnR (d : Nat → Nat) (u : Nat) (r : Nat) : Nat → Nat → Nat :=
  Nat.rec (motive := fun _ => Nat → Nat → Nat) (fun _ c => c) (fun _ ih i c => ih (Nat.succ i) (cond (Nat.beq (d u) (d i)) (Nat.succ c) c)) r
theorem cg_cnS (d : Nat → Nat) (u r i c : Nat) : cg_cnR d u (r + 1) i c = cg_cnR d u r (i + 1) (cond (Nat.beq (d u) (d i)) (c + 1) c) := rfl
noncomputable def cg_cn (d : Nat → Nat) (u : Nat) : Nat := cg_cnR d u 5 0 0
def cg_G (w m : Nat) (d : Nat → Nat) (u : Nat) : Prop := (∀ v, v < 5 → cg_bf w u v = true → d u < d v) ∧ cg_cn d u ≤ m
theorem cg_g45 {post : Int32 → Prop} {J2 : Int32 → Prop} {J : Int32 → Int32 → Prop} {x0 x2 : Int32} {u i c : Nat} (hp : p < 3125) (hu : u < 5) (hi : i < 5) (H : J (nI (cond (Nat.beq (cg_dg p u) (cg_dg p i)) (c + 1) c)) (nI (i + 1))) : wL_good_45 post J2 J x0 (nI p) x2 (nI u) (nI c) (nI i) := by
  have b1 := cg_dg_lt p u
  have b2 := cg_dg_lt p i
  unfold wL_good_45
  refine cg_dgX hp hu ?_
  refine cg_dgX hp hi ?_
  refine pk_eq (cg_dg p u) (cg_dg p i) (fun z => ?_) (fun z => ?_)
  · rw [cg_beq_t z] at H
    exact nm_r (nI_1 c) (nm_r (nI_1 i) H)
  · rw [cg_beq_f z] at H
    exact nm_r (nI_1 i) H
theorem cg_g13 {post J2 : Int32 → Prop} {u : Nat} (hw : cg_wd x w) (hp : p < 3125) (hm : m < 10) (hu : u < 5) : ∀ r i c, i + r = 5 → c ≤ i → (∀ v, v < i → cg_bf w u v = true → cg_dg p u < cg_dg p v) → ((∀ v, v < 5 → cg_bf w u v = true → cg_dg p u < cg_dg p v) ∧ cg_cnR (cg_dg p) u r i c ≤ m → J2 (nI (u + 1))) → (¬ ((∀ v, v < 5 → cg_bf w u v = true → cg_dg p u < cg_dg p v) ∧ cg_cnR (cg_dg p) u r i c ≤ m) → post 0) → wL_good_13 post J2 x (nI p) (nI m) (nI u) (r + 1) (nI c) (nI i) := by
  intro r
  induction r with
  | zero =>
    intro i c hi hc h H1 H0
    refine pk_le 5 i (fun _ => pk_le c m (fun z => nm_r (nI_1 u) (H1 ⟨fun v hv => h v (by omega), z⟩)) (fun z => H0 (fun t => absurd t.2 (Nat.not_le.mpr z)))) (fun z => absurd z (by omega))
  | succ r ih =>
    intro i c hi hc h H1 H0
    rw [cg_cnS] at H1 H0
    have b1 := cg_dg_lt p u
    have b2 := cg_dg_lt p i
    have bc : cond (Nat.beq (cg_dg p u) (cg_dg p i)) (c + 1) c ≤ i + 1 := by
      cases Nat.beq (cg_dg p u) (cg_dg p i)
      · exact Nat.le_succ_of_le hc
      · exact Nat.succ_le_succ hc
    refine pk_le 5 i (fun z => absurd z (by omega)) (fun _ => cg_bfX hw hu (by omega) (fun hb => br_f (by decide) ?_) (fun hb => br_t rfl (cg_g45 hp hu (by omega) (ih (i + 1) _ (by omega) bc ?_ H1 H0))))
    · refine cg_dgX hp hu ?_
      refine cg_dgX hp (show i < 5 by omega) ?_
      refine pk_lt (cg_dg p u) (cg_dg p i) (fun z => cg_g45 hp hu (by omega) (ih (i + 1) _ (by omega) bc (fun v hv hb2 => ?_) H1 H0)) (fun z => H0 (fun t => absurd (t.1 i (by omega) hb) (Nat.not_lt.mpr z)))
      by_cases e : v = i
      · rw [e]; exact z
      · exact h v (by omega) hb2
    · intro v hv hb2
      by_cases e : v = i
      · rw [e, hb] at hb2
        exact absurd hb2 (by decide)
      · exact h v (by omega) hb2
theorem cg_g2 {post : Int32 → Prop} (hw : cg_wd x w) (hp : p < 3125) (hm : m < 10) (H1 : (∀ u, u < 5 → cg_G w m (cg_dg p) u) → post 1) (H0 : ¬ (∀ u, u < 5 → cg_G w m (cg_dg p) u) → post 0) : ∀ r u, u + r = 5 → (∀ a, a < u → cg_G w m (cg_dg p) a) → wL_good_2 post x (nI p) (nI m) (r + 1) (nI u) := by
  intro r
  induction r with
  | zero =>
    intro u hu h
    exact pk_le 5 u (fun _ => H1 (fun a ha => h a (by omega))) (fun z => absurd z (by omega))
  | succ r ih =>
    intro u hu h
    refine pk_le 5 u (fun z => absurd z (by omega)) (fun _ => ⟨6, cg_g13 hw hp hm (by omega) 5 0 0 rfl (by omega) (fun v hv => absurd hv (by omega)) (fun t => ih (u + 1) (by omega) (lt_s h t)) (fun t => H0 (fun g => t (g u (by omega))))⟩)
theorem cg_gX {post : Int32 → Prop} (hw : cg_wd x w) (hp : p < 3125) (hm : m < 10) (H1 : (∀ u, u < 5 → cg_G w m (cg_dg p) u) → post 1) (H0 : ¬ (∀ u, u < 5 → cg_G w m (cg_dg p) u) → post 0) : wpL_good post () x (nI p) (nI m) :=
  ⟨6, cg_g2 hw hp hm H1 H0 5 0 rfl (fun a ha => absurd ha (by omega))⟩
/-! leads -/
noncomputable def cg_ldI (w a : Nat) (r : Nat) : Nat → Nat → Nat :=
  Nat.rec (motive := fun _ => Nat → Nat → Nat) (fun _ s => s) (fun _ ih b s => ih (Nat.succ b) (cond (cg_tb s a) (cond (cg_bf w a b) (Nat.lor s (Nat.pow 2 b)) s) s)) r
theorem cg_ldIS (w a r b s : Nat) : cg_ldI w a (r + 1) b s = cg_ldI w a r (b + 1) (cond (cg_tb s a) (cond (cg_bf w a b) (Nat.lor s (Nat.pow 2 b)) s) s) := rfl
theorem cg_ldI_lt (w a : Nat) : ∀ r b s, b + r = 5 → s < 32 → cg_ldI w a r b s < 32 := by
  intro r
  induction r with
  | zero => intro b s _ hs; exact hs
  | succ r ih =>
    intro b s hb hs
    rw [cg_ldIS]
    refine ih _ _ (by omega) ?_
    cases cg_tb s a
    · exact hs
    · cases cg_bf w a b
      · exact hs
      · exact cg_lor_lt hs (cg_p2 b (by omega))
theorem cg_ldIW {post : Int32 → Prop} {J : Int32 → Int32 → Prop} {x1 x2 : Int32} {a : Nat} (hw : cg_wd x w) (ha : a < 5) : ∀ r b s, b + r = 5 → s < 32 → J (nI (cg_ldI w a r b s)) (nI (a + 1)) → wL_leads_19 post J x x1 x2 (nI a) (r + 1) (nI s) (nI b) := by
  intro r
  induction r with
  | zero =>
    intro b s hb hs H
    exact pk_le 5 b (fun _ => nm_r (nI_1 a) H) (fun z => absurd z (by omega))
  | succ r ih =>
    intro b s hb hs H
    rw [cg_ldIS] at H
    refine pk_le 5 b (fun z => absurd z (by omega)) (fun _ => cg_bt (cg_b1 (by omega) (by omega)) (fun h1 => cg_bfX hw ha (by omega) (fun h2 => br_f (by decide) ?_) (fun h2 => br_t rfl ?_)) (fun h1 => ?_))
    · rw [h1, h2] at H
      refine nm_r ?_ (nm_r (nI_1 b) (ih (b + 1) _ (by omega) (cg_lor_lt hs (cg_p2 b (by omega))) H))
      rw [cg_sh b (by omega)]
      exact cg_or _ _
    · rw [h1, h2] at H
      exact nm_r (nI_1 b) (ih (b + 1) _ (by omega) hs H)
    · rw [h1] at H
      exact nm_r (nI_1 b) (ih (b + 1) _ (by omega) hs H)
noncomputable def cg_ldO (w : Nat) (r : Nat) : Nat → Nat → Nat :=
  Nat.rec (motive := fun _ => Nat → Nat → Nat) (fun _ s => s) (fun r ih a s => cg_fc (cg_ldI w a r (Nat.succ a) s) (fun s' => ih (Nat.succ a) s')) r
theorem cg_ldOS (w r a s : Nat) : cg_ldO w (r + 1) a s = cg_ldO w r (a + 1) (cg_ldI w a r (a + 1) s) := by
  show cg_fc (cg_ldI w a r (Nat.succ a) s) (fun s' => cg_ldO w r (Nat.succ a) s') = _
  rw [cg_fcE]
noncomputable def cg_ld (w u v : Nat) : Bool := cond (Nat.ble v u) false (cg_tb (cg_ldO w (Nat.sub 5 u) u (Nat.pow 2 u)) v)
theorem cg_ldOW {post : Int32 → Prop} {u v : Nat} (hw : cg_wd x w) (hu : u < 5) (hv : v < 5) : ∀ r a s, a + r = 5 → s < 32 → (cond (Nat.ble v u) false (cg_tb (cg_ldO w r a s) v) = true → post 1) → (cond (Nat.ble v u) false (cg_tb (cg_ldO w r a s) v) = false → post 0) → wL_leads_7 post x (nI u) (nI v) (r + 1) (nI s) (nI a) := by
  intro r
  induction r with
  | zero =>
    intro a s ha hs H1 H0
    refine pk_le 5 a (fun _ => pk_le v u (fun z => H0 ?_) (fun z => ?_)) (fun z => absurd z (by omega))
    · rw [cg_ble_t z]; rfl
    · rw [cg_ble_f z] at H1 H0
      exact cg_bt (cg_b1 (by omega) (by omega)) H1 H0
  | succ r ih =>
    intro a s ha hs H1 H0
    rw [cg_ldOS] at H1 H0
    exact pk_le 5 a (fun z => absurd z (by omega)) (fun _ => nm_r (nI_1 a) ⟨r + 1, cg_ldIW hw (by omega) r (a + 1) s (by omega) hs (ih (a + 1) _ (by omega) (cg_ldI_lt w a r (a + 1) s (by omega) hs) H1 H0)⟩)
theorem cg_ldX {post : Int32 → Prop} {u v : Nat} (hw : cg_wd x w) (hu : u < 5) (hv : v < 5) (H1 : cg_ld w u v = true → post 1) (H0 : cg_ld w u v = false → post 0) : wpL_leads post () x (nI u) (nI v) :=
  nm_r (cg_sh u (by omega)) ⟨5 - u + 1, cg_ldOW hw hu hv (5 - u) u (Nat.pow 2 u) (by omega) (cg_p2 u hu) H1 H0⟩
end
end
section
/-! best: the least length of a good plan, found by a search over the five slots -/
section
variable {x : Int32} {w m : Nat}
noncomputable def cg_any (P : Nat → Bool) (t : Nat) : Bool := Nat.rec (motive := fun _ => Bool) false (fun k ih => cond (P k) true ih) t
theorem cg_anyS (P : Nat → Bool) (t : Nat) : cg_any P (t + 1) = cond (P t) true (cg_any P t) := rfl
theorem cg_anyE (P : Nat → Bool) : ∀ t, cg_any P t = true ↔ ∃ k, k < t ∧ P k = true := by
  intro t
  induction t with
  | zero => exact ⟨fun (h : false = true) => absurd h (by decide), fun ⟨k, h, _⟩ => absurd h (by omega)⟩
  | succ t ih =>
    rw [cg_anyS]
    cases h : P t
    · show cg_any P t = true ↔ _
      rw [ih]
      exact ⟨fun ⟨k, h1, h2⟩ => ⟨k, by omega, h2⟩, fun ⟨k, h1, h2⟩ => ⟨k, by
        rcases Nat.lt_or_ge k t with z | z
        · exact z
        · have e : k = t := by omega
          rw [e, h] at h2
          exact absurd h2 (by decide), h2⟩⟩
    · exact ⟨fun _ => ⟨t, by omega, h⟩, fun _ => rfl⟩
theorem cg_cd (a b : Bool) : cond a b false = true ↔ a = true ∧ b = true := by cases a <;> cases b <;> decide
def cg_ok (w u v a b : Nat) : Bool := cond (cg_bf w u v) (Nat.ble (Nat.succ a) b) true
theorem cg_okE (w u v a b : Nat) : cg_ok w u v a b = true ↔ (cg_bf w u v = true → a < b) := by
  unfold cg_ok
  cases cg_bf w u v
  · exact ⟨fun _ h => absurd h (by decide), fun _ => rfl⟩
  · show Nat.ble (a + 1) b = true ↔ _
    rw [Nat.ble_eq]
    exact ⟨fun h _ => h, fun h => h rfl⟩
def cg_d5 (s0 s1 s2 s3 s4 j : Nat) : Nat := cond (Nat.beq j 0) s0 (cond (Nat.beq j 1) s1 (cond (Nat.beq j 2) s2 (cond (Nat.beq j 3) s3 s4)))
noncomputable def cg_cp (m : Nat) (d : Nat → Nat) : Bool := cond (Nat.ble (cg_cn d 0) m) (cond (Nat.ble (cg_cn d 1) m) (cond (Nat.ble (cg_cn d 2) m) (cond (Nat.ble (cg_cn d 3) m) (Nat.ble (cg_cn d 4) m) false) false) false) false
theorem cg_cpE (m : Nat) (d : Nat → Nat) : cg_cp m d = true ↔ ∀ u, u < 5 → cg_cn d u ≤ m := by
  unfold cg_cp
  rw [cg_cd, cg_cd, cg_cd, cg_cd, Nat.ble_eq, Nat.ble_eq, Nat.ble_eq, Nat.ble_eq, Nat.ble_eq]
  constructor
  · rintro ⟨h0, h1, h2, h3, h4⟩
    exact cg_5 h0 h1 h2 h3 h4
  · intro h
    exact ⟨h 0 (by omega), h 1 (by omega), h 2 (by omega), h 3 (by omega), h 4 (by omega)⟩
noncomputable def cg_ex (w m t : Nat) : Bool :=
  cg_any (fun s0 => cg_any (fun s1 => cond (cg_ok w 0 1 s0 s1) (cg_any (fun s2 => cond (cg_ok w 0 2 s0 s2) (cond (cg_ok w 1 2 s1 s2) (cg_any (fun s3 => cond (cg_ok w 0 3 s0 s3) (cond (cg_ok w 1 3 s1 s3) (cond (cg_ok w 2 3 s2 s3) (cg_any (fun s4 => cond (cg_ok w 0 4 s0 s4) (cond (cg_ok w 1 4 s1 s4) (cond (cg_ok w 2 4 s2 s4) (cond (cg_ok w 3 4 s3 s4) (cg_cp m (cg_d5 s0 s1 s2 s3 s4)) false) false) false) false) t) false) false) false) t) false) false) t) false) t) t
def cg_Q (w m s0 s1 s2 s3 s4 : Nat) : Prop := cg_ok w 0 1 s0 s1 = true ∧ (cg_ok w 0 2 s0 s2 = true ∧ cg_ok w 1 2 s1 s2 = true) ∧ (cg_ok w 0 3 s0 s3 = true ∧ cg_ok w 1 3 s1 s3 = true ∧ cg_ok w 2 3 s2 s3 = true) ∧ (cg_ok w 0 4 s0 s4 = true ∧ cg_ok w 1 4 s1 s4 = true ∧ cg_ok w 2 4 s2 s4 = true ∧ cg_ok w 3 4 s3 s4 = true) ∧ cg_cp m (cg_d5 s0 s1 s2 s3 s4) = true
theorem cg_exE (w m t : Nat) : cg_ex w m t = true ↔ ∃ s0 s1 s2 s3 s4, s0 < t ∧ s1 < t ∧ s2 < t ∧ s3 < t ∧ s4 < t ∧ cg_Q w m s0 s1 s2 s3 s4 := by
  unfold cg_ex
  constructor
  · intro h
    obtain ⟨s0, t0, h⟩ := (cg_anyE _ _).mp h
    obtain ⟨s1, t1, h⟩ := (cg_anyE _ _).mp h
    obtain ⟨k1, h⟩ := (cg_cd _ _).mp h
    obtain ⟨s2, t2, h⟩ := (cg_anyE _ _).mp h
    obtain ⟨k2, h⟩ := (cg_cd _ _).mp h
    obtain ⟨k3, h⟩ := (cg_cd _ _).mp h
    obtain ⟨s3, t3, h⟩ := (cg_anyE _ _).mp h
    obtain ⟨k4, h⟩ := (cg_cd _ _).mp h
    obtain ⟨k5, h⟩ := (cg_cd _ _).mp h
    obtain ⟨k6, h⟩ := (cg_cd _ _).mp h
    obtain ⟨s4, t4, h⟩ := (cg_anyE _ _).mp h
    obtain ⟨k7, h⟩ := (cg_cd _ _).mp h
    obtain ⟨k8, h⟩ := (cg_cd _ _).mp h
    obtain ⟨k9, h⟩ := (cg_cd _ _).mp h
    obtain ⟨k10, h⟩ := (cg_cd _ _).mp h
    exact ⟨s0, s1, s2, s3, s4, t0, t1, t2, t3, t4, k1, ⟨k2, k3⟩, ⟨k4, k5, k6⟩, ⟨k7, k8, k9, k10⟩, h⟩
  · rintro ⟨s0, s1, s2, s3, s4, t0, t1, t2, t3, t4, k1, ⟨k2, k3⟩, ⟨k4, k5, k6⟩, ⟨k7, k8, k9, k10⟩, h⟩
    refine (cg_anyE _ _).mpr ⟨s0, t0, (cg_anyE _ _).mpr ⟨s1, t1, (cg_cd _ _).mpr ⟨k1, (cg_anyE _ _).mpr ⟨s2, t2, (cg_cd _ _).mpr ⟨k2, (cg_cd _ _).mpr ⟨k3, (cg_anyE _ _).mpr ⟨s3, t3, (cg_cd _ _).mpr ⟨k4, (cg_cd _ _).mpr ⟨k5, (cg_cd _ _).mpr ⟨k6, (cg_anyE _ _).mpr ⟨s4, t4, (cg_cd _ _).mpr ⟨k7, (cg_cd _ _).mpr ⟨k8, (cg_cd _ _).mpr ⟨k9, (cg_cd _ _).mpr ⟨k10, h⟩⟩⟩⟩⟩⟩⟩⟩⟩⟩⟩⟩⟩⟩⟩
/-- the search and the plans' digits -/
theorem cg_QG {d : Nat → Nat} : cg_Q w m (d 0) (d 1) (d 2) (d 3) (d 4) ↔ ∀ u, u < 5 → cg_G w m d u := by
  have ed : ∀ u, u < 5 → cg_d5 (d 0) (d 1) (d 2) (d 3) (d 4) u = d u := cg_5 rfl rfl rfl rfl rfl
  have ec : ∀ u, u < 5 → cg_cn (cg_d5 (d 0) (d 1) (d 2) (d 3) (d 4)) u = cg_cn d u := cg_5 rfl rfl rfl rfl rfl
  unfold cg_Q
  rw [cg_cpE]
  rw [cg_okE, cg_okE, cg_okE, cg_okE, cg_okE, cg_okE, cg_okE, cg_okE, cg_okE, cg_okE]
  constructor
  · rintro ⟨k1, ⟨k2, k3⟩, ⟨k4, k5, k6⟩, ⟨k7, k8, k9, k10⟩, h⟩ u hu
    refine ⟨?_, (ec u hu) ▸ h u hu⟩
    have nf : ¬ (false = true) := by decide
    revert u
    refine cg_5 ?_ ?_ ?_ ?_ ?_
    · exact cg_5 (fun z => absurd z nf) k1 k2 k4 k7
    · exact cg_5 (fun z => absurd z nf) (fun z => absurd z nf) k3 k5 k8
    · exact cg_5 (fun z => absurd z nf) (fun z => absurd z nf) (fun z => absurd z nf) k6 k9
    · exact cg_5 (fun z => absurd z nf) (fun z => absurd z nf) (fun z => absurd z nf) (fun z => absurd z nf) k10
    · exact cg_5 (fun z => absurd z nf) (fun z => absurd z nf) (fun z => absurd z nf) (fun z => absurd z nf) (fun z => absurd z nf)
  · intro h
    have g0 := (h 0 (by omega)).1
    have g1 := (h 1 (by omega)).1
    have g2 := (h 2 (by omega)).1
    have g3 := (h 3 (by omega)).1
    exact ⟨g0 1 (by omega), ⟨g0 2 (by omega), g1 2 (by omega)⟩, ⟨g0 3 (by omega), g1 3 (by omega), g2 3 (by omega)⟩, ⟨g0 4 (by omega), g1 4 (by omega), g2 4 (by omega), g3 4 (by omega)⟩, fun u hu => (ec u hu).symm ▸ (h u hu).2⟩
theorem cg_ex_of {p t : Nat} (hg : ∀ u, u < 5 → cg_G w m (cg_dg p) u) (hl : cg_ln p ≤ t) : cg_ex w m t = true :=
  (cg_exE w m t).mpr ⟨cg_dg p 0, cg_dg p 1, cg_dg p 2, cg_dg p 3, cg_dg p 4, Nat.lt_of_lt_of_le (cg_ln_lt p (by omega)) hl, Nat.lt_of_lt_of_le (cg_ln_lt p (by omega)) hl, Nat.lt_of_lt_of_le (cg_ln_lt p (by omega)) hl, Nat.lt_of_lt_of_le (cg_ln_lt p (by omega)) hl, Nat.lt_of_lt_of_le (cg_ln_lt p (by omega)) hl, cg_QG.mpr hg⟩
theorem cg_of_ex {t : Nat} (h5 : t ≤ 5) (h : cg_ex w m t = true) : ∃ p, p < 3125 ∧ (∀ u, u < 5 → cg_G w m (cg_dg p) u) ∧ cg_ln p ≤ t := by
  obtain ⟨s0, s1, s2, s3, s4, t0, t1, t2, t3, t4, hq⟩ := (cg_exE w m t).mp h
  have e0 : cg_dg (s0 + 5 * s1 + 25 * s2 + 125 * s3 + 625 * s4) 0 = s0 := by
    show (s0 + 5 * s1 + 25 * s2 + 125 * s3 + 625 * s4) / 1 % 5 = s0
    omega
  have e1 : cg_dg (s0 + 5 * s1 + 25 * s2 + 125 * s3 + 625 * s4) 1 = s1 := by
    show (s0 + 5 * s1 + 25 * s2 + 125 * s3 + 625 * s4) / 5 % 5 = s1
    omega
  have e2 : cg_dg (s0 + 5 * s1 + 25 * s2 + 125 * s3 + 625 * s4) 2 = s2 := by
    show (s0 + 5 * s1 + 25 * s2 + 125 * s3 + 625 * s4) / 25 % 5 = s2
    omega
  have e3 : cg_dg (s0 + 5 * s1 + 25 * s2 + 125 * s3 + 625 * s4) 3 = s3 := by
    show (s0 + 5 * s1 + 25 * s2 + 125 * s3 + 625 * s4) / 125 % 5 = s3
    omega
  have e4 : cg_dg (s0 + 5 * s1 + 25 * s2 + 125 * s3 + 625 * s4) 4 = s4 := by
    show (s0 + 5 * s1 + 25 * s2 + 125 * s3 + 625 * s4) / 625 % 5 = s4
    omega
  refine ⟨s0 + 5 * s1 + 25 * s2 + 125 * s3 + 625 * s4, by omega, cg_QG.mp ?_, cg_ln_le (cg_5 ?_ ?_ ?_ ?_ ?_)⟩
  · rw [e0, e1, e2, e3, e4]; exact hq
  · rw [e0]; exact t0
  · rw [e1]; exact t1
  · rw [e2]; exact t2
  · rw [e3]; exact t3
  · rw [e4]; exact t4
theorem cg_beW {post : Int32 → Prop} (hw : cg_wd x w) (hm : m < 10) (H : ∀ b, b ≤ 5 → (b = 5 ∨ ∃ p, p < 3125 ∧ (∀ u, u < 5 → cg_G w m (cg_dg p) u) ∧ cg_ln p = b) → (∀ p, p < 3125 → (∀ u, u < 5 → cg_G w m (cg_dg p) u) → b ≤ cg_ln p) → post (nI b)) :
    ∀ r i b, i + r = 3125 → b ≤ 5 → (b = 5 ∨ ∃ p, p < i ∧ (∀ u, u < 5 → cg_G w m (cg_dg p) u) ∧ cg_ln p = b) → (∀ p, p < i → (∀ u, u < 5 → cg_G w m (cg_dg p) u) → b ≤ cg_ln p) → wL_best_4 post x (nI m) (r + 1) (nI b) (nI i) := by
  intro r
  induction r with
  | zero =>
    intro i b hi hb h1 h2
    have e : i = 3125 := by omega
    subst e
    exact pk_le 3125 3125 (fun _ => H b hb h1 h2) (fun z => absurd z (by omega))
  | succ r ih =>
    intro i b hi hb h1 h2
    have hi2 : i < 3125 := by omega
    have l5 := cg_ln_5 i
    have k1 : b = 5 ∨ ∃ p, p < i + 1 ∧ (∀ u, u < 5 → cg_G w m (cg_dg p) u) ∧ cg_ln p = b := by
      rcases h1 with z | ⟨p, z1, z2, z3⟩
      · exact Or.inl z
      · exact Or.inr ⟨p, by omega, z2, z3⟩
    refine pk_le 3125 i (fun z => absurd z (by omega)) (fun _ => cg_lnX hi2 (pk_le b (cg_ln i) (fun z => nm_r (nI_1 i) (ih (i + 1) b (by omega) hb k1 (lt_s h2 (fun _ => z)))) (fun z => cg_gX hw hi2 hm (fun g => br_f (by decide) (cg_lnX hi2 (nm_r (nI_1 i) (ih (i + 1) (cg_ln i) (by omega) l5 (Or.inr ⟨i, by omega, g, rfl⟩) ?_)))) (fun g => br_t rfl (nm_r (nI_1 i) (ih (i + 1) b (by omega) hb k1 (lt_s h2 (fun t => absurd t g))))))))
    exact lt_s (fun p hp gp => Nat.le_trans (Nat.le_of_lt z) (h2 p hp gp)) (fun _ => Nat.le_refl _)
/-- s is the best length -/
noncomputable def cg_bk (w m s : Nat) : Bool := cond (Nat.ble s 5) (cond (cond (Nat.beq s 5) true (cg_ex w m s)) (cond (cg_ex w m (Nat.pred s)) false true) false) false
theorem cg_beX {post : Int32 → Prop} {s : Nat} (hw : cg_wd x w) (hm : m < 10) (hk : cg_bk w m s = true) (hp : post (nI s)) : wpL_best post () x (nI m) := by
  unfold cg_bk at hk
  rw [cg_cd, cg_cd, Nat.ble_eq] at hk
  obtain ⟨q1, q2, q3⟩ := hk
  have q4 : cg_ex w m (s - 1) = false := by
    cases h : cg_ex w m (s - 1)
    · rfl
    · have h' : cg_ex w m (Nat.pred s) = true := h
      rw [h'] at q3
      exact absurd q3 (by decide)
  have q5 : s = 5 ∨ cg_ex w m s = true := by
    cases h : Nat.beq s 5
    · rw [h] at q2
      exact Or.inr q2
    · exact Or.inl (Nat.eq_of_beq_eq_true h)
  refine ⟨3126, cg_beW hw hm (fun b hb h1 h2 => ?_) 3125 0 5 rfl (Nat.le_refl 5) (Or.inl rfl) (fun p hp => absurd hp (by omega))⟩
  have e : b = s := by
    apply Nat.le_antisymm
    · rcases q5 with z | z
      · omega
      · obtain ⟨p, p1, p2, p3⟩ := cg_of_ex q1 z
        exact Nat.le_trans (h2 p p1 p2) p3
    · rcases h1 with z | ⟨p, p1, p2, p3⟩
      · omega
      · rcases Nat.lt_or_ge b s with z | z
        · have t := cg_ex_of p2 (t := s - 1) (by omega)
          rw [q4] at t
          exact absurd t (by decide)
        · exact z
  rw [e]
  exact hp
end
end
section
/-! the law as a number's answer: what the kernel computes -/
noncomputable def cg_thR (w u v : Nat) (r : Nat) : Nat → Bool → Bool :=
  Nat.rec (motive := fun _ => Nat → Bool → Bool) (fun _ b => b) (fun _ ih i b => ih (Nat.succ i) (cond (cg_ld w u i) (cond (cg_ld w i v) true b) b)) r
theorem cg_thS (w u v r i : Nat) (b : Bool) : cg_thR w u v (r + 1) i b = cg_thR w u v r (i + 1) (cond (cg_ld w u i) (cond (cg_ld w i v) true b) b) := rfl
noncomputable def cg_th (w u v : Nat) : Bool := cg_thR w u v (Nat.sub v (Nat.succ u)) (Nat.succ u) false
def cg_ao (F L u v : Nat) : Bool := cond (cg_tb (cg_pk L v) u) false (cond (cg_tb (cg_pk F u) v) false true)
noncomputable def cg_co (w u : Nat) (K : Nat → Nat → Nat → Nat → Bool) (r : Nat) : Nat → Nat → Nat → Nat → Nat → Bool :=
  Nat.rec (motive := fun _ => Nat → Nat → Nat → Nat → Nat → Bool) (fun _ F L ex nd => K F L ex nd) (fun _ ih v F L ex nd => cond (cg_bf w u v) (cond (cg_ao F L u v) (cg_fc (cg_pa (cg_fA (cg_pk F) u v)) (fun F' => cg_fc (cg_pa (cg_lA (cg_pk L) u v)) (fun L' => cond (cg_th w u v) (ih (Nat.succ v) F' L' (Nat.succ ex) nd) (ih (Nat.succ v) F' L' ex (Nat.succ nd))))) false) (ih (Nat.succ v) F L ex nd)) r
theorem cg_coS (w u : Nat) (K : Nat → Nat → Nat → Nat → Bool) (r v F L ex nd : Nat) : cg_co w u K (r + 1) v F L ex nd = cond (cg_bf w u v) (cond (cg_ao F L u v) (cond (cg_th w u v) (cg_co w u K r (v + 1) (cg_pa (cg_fA (cg_pk F) u v)) (cg_pa (cg_lA (cg_pk L) u v)) (ex + 1) nd) (cg_co w u K r (v + 1) (cg_pa (cg_fA (cg_pk F) u v)) (cg_pa (cg_lA (cg_pk L) u v)) ex (nd + 1))) false) (cg_co w u K r (v + 1) F L ex nd) := by
  show cond (cg_bf w u v) (cond (cg_ao F L u v) (cg_fc (cg_pa (cg_fA (cg_pk F) u v)) (fun F' => cg_fc (cg_pa (cg_lA (cg_pk L) u v)) (fun L' => cond (cg_th w u v) (cg_co w u K r (Nat.succ v) F' L' (Nat.succ ex) nd) (cg_co w u K r (Nat.succ v) F' L' ex (Nat.succ nd))))) false) (cg_co w u K r (Nat.succ v) F L ex nd) = _
  rw [cg_fcE, cg_fcE]
noncomputable def cg_rw (w : Nat) (E : Nat → Nat → Nat → Bool → Bool) (r : Nat) : Nat → Nat → Nat → Nat → Bool → Bool :=
  Nat.rec (motive := fun _ => Nat → Nat → Nat → Nat → Bool → Bool) (fun _ F L ex tr => E F L ex tr) (fun r ih u F L ex tr => cg_co w u (fun F' L' ex' nd => ih (Nat.succ u) F' L' ex' (cond (Nat.ble nd 1) tr false)) r (Nat.succ u) F L ex 0) r
theorem cg_rwS (w : Nat) (E : Nat → Nat → Nat → Bool → Bool) (r u F L ex : Nat) (tr : Bool) : cg_rw w E (r + 1) u F L ex tr = cg_co w u (fun F' L' ex' nd => cg_rw w E r (u + 1) F' L' ex' (cond (Nat.ble nd 1) tr false)) r (u + 1) F L ex 0 := rfl
def cg_be (a b : Bool) : Bool := cond a b (cond b false true)
theorem cg_beE {a b : Bool} (h : cg_be a b = true) : a = b := by revert h; cases a <;> cases b <;> decide
noncomputable def cg_fin (w F L ex : Nat) (tr : Bool) : Bool :=
  cond (Nat.beq (cg_su (cg_pk L) (cg_pk F)) ex) (cond (cg_be (cg_it (cg_pk L)) tr) (cond (cg_fc (cg_s2 (cg_pk L)) (cg_bk w 2)) (cond tr (cond (cg_fc (cg_sM (cg_pk L) 3) (cg_bk w 3)) (cg_fc (cg_sM (cg_pk L) 4) (cg_bk w 4)) false) true) false) false) false
noncomputable def cg_lw (w : Nat) : Bool := cg_rw w (cg_fin w) 5 0 0 0 0 true
noncomputable def cg_all (a n : Nat) : Bool := Nat.rec (motive := fun _ => Bool) true (fun k ih => cond (cg_fc (Nat.add a k) cg_lw) ih false) n
theorem cg_allE (a : Nat) : ∀ n, cg_all a n = true → ∀ w, a ≤ w → w < a + n → cg_lw w = true := by
  intro n
  induction n with
  | zero => intro _ w h1 h2; exact absurd h2 (by omega)
  | succ n ih =>
    intro h w h1 h2
    have h' : cond (cg_fc (a + n) cg_lw) (cg_all a n) false = true := h
    rw [cg_fcE, cg_cd] at h'
    by_cases e : w = a + n
    · rw [e]; exact h'.1
    · exact ih h'.2 w h1 (by omega)
end
section
/-! the ten bits of the word, all 1024 of them, by the kernel -/
theorem cg_c0 : cg_all 0 64 = true := by decide +kernel
theorem cg_c1 : cg_all 64 64 = true := by decide +kernel
theorem cg_c2 : cg_all 128 64 = true := by decide +kernel
theorem cg_c3 : cg_all 192 64 = true := by decide +kernel
theorem cg_c4 : cg_all 256 64 = true := by decide +kernel
theorem cg_c5 : cg_all 320 64 = true := by decide +kernel
theorem cg_c6 : cg_all 384 64 = true := by decide +kernel
theorem cg_c7 : cg_all 448 64 = true := by decide +kernel
theorem cg_c8 : cg_all 512 64 = true := by decide +kernel
theorem cg_c9 : cg_all 576 64 = true := by decide +kernel
theorem cg_c10 : cg_all 640 64 = true := by decide +kernel
theorem cg_c11 : cg_all 704 64 = true := by decide +kernel
theorem cg_c12 : cg_all 768 64 = true := by decide +kernel
theorem cg_c13 : cg_all 832 64 = true := by decide +kernel
theorem cg_c14 : cg_all 896 64 = true := by decide +kernel
theorem cg_c15 : cg_all 960 64 = true := by decide +kernel
theorem cg_lwT (w : Nat) (h : w < 1024) : cg_lw w = true := by
  rcases Nat.lt_or_ge w 64 with z0 | z0
  · exact cg_allE 0 64 cg_c0 w (Nat.zero_le w) z0
  rcases Nat.lt_or_ge w 128 with z1 | z1
  · exact cg_allE 64 64 cg_c1 w z0 z1
  rcases Nat.lt_or_ge w 192 with z2 | z2
  · exact cg_allE 128 64 cg_c2 w z1 z2
  rcases Nat.lt_or_ge w 256 with z3 | z3
  · exact cg_allE 192 64 cg_c3 w z2 z3
  rcases Nat.lt_or_ge w 320 with z4 | z4
  · exact cg_allE 256 64 cg_c4 w z3 z4
  rcases Nat.lt_or_ge w 384 with z5 | z5
  · exact cg_allE 320 64 cg_c5 w z4 z5
  rcases Nat.lt_or_ge w 448 with z6 | z6
  · exact cg_allE 384 64 cg_c6 w z5 z6
  rcases Nat.lt_or_ge w 512 with z7 | z7
  · exact cg_allE 448 64 cg_c7 w z6 z7
  rcases Nat.lt_or_ge w 576 with z8 | z8
  · exact cg_allE 512 64 cg_c8 w z7 z8
  rcases Nat.lt_or_ge w 640 with z9 | z9
  · exact cg_allE 576 64 cg_c9 w z8 z9
  rcases Nat.lt_or_ge w 704 with z10 | z10
  · exact cg_allE 640 64 cg_c10 w z9 z10
  rcases Nat.lt_or_ge w 768 with z11 | z11
  · exact cg_allE 704 64 cg_c11 w z10 z11
  rcases Nat.lt_or_ge w 832 with z12 | z12
  · exact cg_allE 768 64 cg_c12 w z11 z12
  rcases Nat.lt_or_ge w 896 with z13 | z13
  · exact cg_allE 832 64 cg_c13 w z12 z13
  rcases Nat.lt_or_ge w 960 with z14 | z14
  · exact cg_allE 896 64 cg_c14 w z13 z14
  exact cg_allE 960 64 cg_c15 w z14 h
end
section
/-! lawOf and the law -/
abbrev cg_J : Type := Int32 → Int32 → Int32 → Int32 → Int32 → (Nat → Int32) → (Nat → Int32) → (Nat → Int32) → (Nat → Int32) → Prop
section
variable {post : Int32 → St0 → Prop} {mc ms kc ks : Nat} {J17 J32 : cg_J} {x x1 x4 tc pt : Int32} {a1 a2 a3 a4 : Nat → Int32} {w u v ex nd : Nat}
theorem cg_thW (hw : cg_wd x w) (hu : u < 5) (hv : v < 5) : ∀ r i b, i + r = v → J32 (nI (cond (cg_thR w u v r i b) (ex + 1) ex)) (nI (cond (cg_thR w u v r i b) nd (nd + 1))) (nI (v + 1)) tc pt a1 a2 a3 a4 → wL_lawOf_72 post mc ms J17 J32 x x1 (nI ex) x4 (nI u) (nI nd) (nI v) kc ks tc pt a1 a2 a3 a4 (r + 1) (cg_bI b) (nI i) := by
  intro r
  induction r with
  | zero =>
    intro i b hi H
    refine pk_le v i (fun _ => cg_br (cg_bI0 b) (fun h => ?_) (fun h => ?_)) (fun z => absurd z (by omega))
    · subst h
      exact nm_r (nI_1 nd) (nm_r (nI_1 v) H)
    · subst h
      exact nm_r (nI_1 ex) (nm_r (nI_1 v) H)
  | succ r ih =>
    intro i b hi H
    rw [cg_thS] at H
    refine pk_le v i (fun z => absurd z (by omega)) (fun _ => cg_ldX hw hu (by omega) (fun h1 => br_f (by decide) (cg_ldX hw (by omega) hv (fun h2 => br_f (by decide) ?_) (fun h2 => br_t rfl ?_))) (fun h1 => br_t rfl ?_))
    · rw [h1, h2] at H
      exact nm_r (nI_1 i) (ih (i + 1) true (by omega) H)
    · rw [h1, h2] at H
      exact nm_r (nI_1 i) (ih (i + 1) b (by omega) H)
    · rw [h1] at H
      exact nm_r (nI_1 i) (ih (i + 1) b (by omega) H)
theorem cg_coW {tr : Bool} {K : Nat → Nat → Nat → Nat → Bool} (hw : cg_wd x w) (hu : u < 5) (HK : ∀ F L ex nd a1 a2, cg_M a1 (cg_pk F) → cg_M a2 (cg_pk L) → K F L ex nd = true → J17 (nI ex) (cg_bI (cond (Nat.ble nd 1) tr false)) (nI (u + 1)) (nI 5) pt a1 a2 a3 a4) :
    ∀ r v F L ex nd a1 a2, v + r = 5 → u < v → nd ≤ v → cg_M a1 (cg_pk F) → cg_M a2 (cg_pk L) → cg_co w u K r v F L ex nd = true → wL_lawOf_32 post mc ms J17 x x1 (cg_bI tr) (nI u) kc ks (r + 1) (nI ex) (nI nd) (nI v) (nI 5) pt a1 a2 a3 a4 := by
  intro r
  induction r with
  | zero =>
    intro v F L ex nd a1 a2 hv huv hn hf hl H
    have H' := HK F L ex nd a1 a2 hf hl H
    refine pk_le 5 v (fun _ => pk_le nd 1 (fun z => ?_) (fun z => ?_)) (fun z => absurd z (by omega))
    · rw [cg_ble_t z] at H'
      exact nm_r (nI_1 u) H'
    · rw [cg_ble_f z] at H'
      exact nm_r (nI_1 u) H'
  | succ r ih =>
    intro v F L ex nd a1 a2 hv huv hn hf hl H
    rw [cg_coS] at H
    have hv5 : v < 5 := by omega
    refine pk_le 5 v (fun z => absurd z (by omega)) (fun _ => cg_bfX hw hu hv5 (fun hb => br_f (by decide) ?_) (fun hb => br_t rfl ?_))
    · rw [hb] at H
      have H2 := (cg_cd _ _).mp H
      have k1 : cg_tb (cg_pk L v) u = false := by
        cases h : cg_tb (cg_pk L v) u
        · rfl
        · have t := H2.1
          unfold cg_ao at t
          rw [h] at t
          exact absurd (show false = true from t) (by decide)
      have k2 : cg_tb (cg_pk F u) v = false := by
        cases h : cg_tb (cg_pk F u) v
        · rfl
        · have t := H2.1
          unfold cg_ao at t
          rw [h, k1] at t
          exact absurd (show false = true from t) (by decide)
      have H3 := H2.2
      refine cg_aoX hf hl (fun j _ => cg_pk_lt F j) (fun j _ => cg_pk_lt L j) hu hv5 (by omega) k1 k2 (fun b1 b2 g1 g2 => br_t rfl (nm_r (nI_1 u) ⟨v - (u + 1) + 1, cg_thW hw hu hv5 (v - (u + 1)) (u + 1) false (by omega) ?_⟩))
      have m1 : cg_M b1 (cg_pk (cg_pa (cg_fA (cg_pk F) u v))) := fun j hj => by
        rw [cg_pk_pa _ (cg_fA_lt (fun j _ => cg_pk_lt F j) hv5) j hj]; exact g1 j hj
      have m2 : cg_M b2 (cg_pk (cg_pa (cg_lA (cg_pk L) u v))) := fun j hj => by
        rw [cg_pk_pa _ (cg_lA_lt (fun j _ => cg_pk_lt L j) hv5) j hj]; exact g2 j hj
      have e : cg_th w u v = cg_thR w u v (v - (u + 1)) (u + 1) false := rfl
      rw [← e]
      cases ht : cg_th w u v
      · rw [ht] at H3
        exact ih (v + 1) _ _ ex (nd + 1) b1 b2 (by omega) (by omega) (by omega) m1 m2 H3
      · rw [ht] at H3
        exact ih (v + 1) _ _ (ex + 1) nd b1 b2 (by omega) (by omega) (by omega) m1 m2 H3
    · rw [hb] at H
      exact nm_r (nI_1 v) (ih (v + 1) F L ex nd a1 a2 (by omega) (by omega) (by omega) hf hl H)
theorem cg_finW {F L ex : Nat} {tr : Bool} (n : Nat) (hw : cg_wd x w) (hq : post 1 ()) (hf : cg_M a1 (cg_pk F)) (hl : cg_M a2 (cg_pk L)) (H : cg_fin w F L ex tr = true) : wL_lawOf_17 post mc ms x x1 kc ks (n + 1) (nI ex) (cg_bI tr) (nI 5) (nI 5) pt a1 a2 a3 a4 := by
  unfold cg_fin at H
  rw [cg_fcE, cg_fcE, cg_fcE] at H
  obtain ⟨h1, H⟩ := (cg_cd _ _).mp H
  obtain ⟨h2, H⟩ := (cg_cd _ _).mp H
  obtain ⟨h3, H⟩ := (cg_cd _ _).mp H
  have bl : ∀ j, j < 5 → cg_pk L j < 32 := fun j _ => cg_pk_lt L j
  have e1 : cg_su (cg_pk L) (cg_pk F) = ex := Nat.eq_of_beq_eq_true h1
  have e2 : cg_it (cg_pk L) = tr := cg_beE h2
  obtain ⟨k, hk2, hk⟩ : ∃ k : Nat, k < 2 ∧ x1 &&& 1 = nI k := pk_andE x1 1 (by decide)
  have em : 3 + (x1 &&& 1) = nI (3 + k) := by
    rw [hk]
    exact nI_add 3 k
  refine pk_le 5 5 (fun _ => cg_suX hf hl (fun j _ => cg_pk_lt F j) bl (br_t (by rw [e1]) (cg_itX hl bl (br_t (by rw [e2]) (nm_r em (cg_s2X hl bl (fun b3 b4 => ?_))))))) (fun z => absurd z (by omega))
  refine cg_beX (m := 2) hw (by omega) h3 (br_t rfl ?_)
  refine cg_sMX (m := 3 + k) hl bl (by omega) (by omega) (fun h => ?_) (fun h b5 b6 => ?_)
  · rw [h] at e2
    subst e2
    exact br_t rfl (br_t rfl hq)
  · rw [h] at e2
    subst e2
    have H' := (cg_cd _ _).mp H
    have hb : cg_bk w (3 + k) (cg_sM (cg_pk L) (3 + k)) = true := by
      rcases (by omega : k = 0 ∨ k = 1) with z | z
      · rw [z]; exact H'.1
      · rw [z]; exact H'.2
    exact br_f (by decide) (cg_beX hw (by omega) hb (br_t rfl hq))
theorem cg_rwW (hw : cg_wd x w) (hq : post 1 ()) : ∀ r u F L ex tr a1 a2, u + r = 5 → cg_M a1 (cg_pk F) → cg_M a2 (cg_pk L) → cg_rw w (cg_fin w) r u F L ex tr = true → wL_lawOf_17 post mc ms x x1 kc ks (r + 1) (nI ex) (cg_bI tr) (nI u) (nI 5) pt a1 a2 a3 a4 := by
  intro r
  induction r with
  | zero =>
    intro u F L ex tr a1 a2 hu hf hl H
    have e : u = 5 := by omega
    subst e
    exact cg_finW 0 hw hq hf hl H
  | succ r ih =>
    intro u F L ex tr a1 a2 hu hf hl H
    rw [cg_rwS] at H
    refine pk_le 5 u (fun z => absurd z (by omega)) (fun _ => nm_r (nI_1 u) ⟨r + 1, cg_coW hw (by omega) (fun F L ex nd a1 a2 g1 g2 g3 => ?_) r (u + 1) F L ex 0 a1 a2 (by omega) (by omega) (by omega) hf hl H⟩)
    exact ih (u + 1) F L ex _ a1 a2 (by omega) g1 g2 g3
theorem cg_ini {post : St2 → Prop} (H : post (nI 5, 0, (fun _ => 0), (fun _ => 0), (fun _ => 0), (fun _ => 0))) : wpX_init post 4 36 (0, 0) 5 :=
  ⟨by omega, by omega, by omega, by omega, by omega, by omega, by omega, by omega, br_t (by decide) (br_t (by decide) H)⟩
theorem cg_lawOf (p0 p1 : Int32) (hq : post 1 ()) : wpL_lawOf post 30 480 () p0 p1 := by
  refine ⟨by omega, by omega, 4, 36, by omega, by omega, cg_ini ⟨6, ?_⟩⟩
  have hz : cg_M (fun _ => 0) (cg_pk 0) := fun j _ => by rw [cg_pk0]; rfl
  exact cg_rwW (cg_wdE p0) hq 5 0 0 0 0 true _ _ rfl hz hz (cg_lwT _ (Nat.mod_lt _ (by omega)))
theorem cg_cell {post : Int32 → Prop} {L : Nat} {xs : Nat → Int32} (i : Nat) (hi : i < 2 ^ 31) (hL : L ≤ 2) (H : ∀ z, post z) : wpL_cellAt post L xs () (nI i) :=
  pk_le L i (fun _ => H _) (fun z => ⟨pk_in i L z, H _⟩)
end
theorem i_vc (xs : Nat → Int32) (L : Nat) (hL : L ≤ 2) : wpL_law (fun r => r = 1) L xs := by
  unfold wpL_law
  refine cg_cell 0 (by omega) hL (fun z0 => ?_)
  refine cg_cell 1 (by omega) hL (fun z1 => ?_)
  exact ⟨30, 480, by omega, by omega, cg_lawOf z0 z1 rfl⟩
end
