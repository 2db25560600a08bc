section
/-- a bit as the int that the machine keeps -/
def bm_b (b : Bool) : Int32 := if b then 1 else 0
theorem bm_nar (b : Bool) : vp_nar .boolean (bm_b b) = bm_b b := by cases b <;> rfl
theorem bm_narrow (b : Bool) : narrow .boolean (.int (bm_b b)) = .int (bm_b b) := by cases b <;> rfl
theorem bm_fits (b : Bool) : fits .boolean (.int (bm_b b)) = true := by cases b <;> rfl
theorem bm_br {x : Int32} {A B : Prop} (b : Bool) (hx : x = bm_b b) (f : b = false → A) (h : b = true → B) : (x = 0 → A) ∧ (¬ x = 0 → B) := by
  subst hx
  cases b
  · exact ⟨fun _ => f rfl, fun z => absurd rfl z⟩
  · exact ⟨fun z => absurd z (by decide), fun _ => h rfl⟩
theorem bm_br2 {A B : Prop} (p q : Bool) (f : p = q → A) (h : p ≠ q → B) : (bm_b p = bm_b q → A) ∧ (¬ bm_b p = bm_b q → B) := by
  cases p <;> cases q
  · exact ⟨fun _ => f rfl, fun z => absurd rfl z⟩
  · exact ⟨fun z => absurd z (by decide), fun _ => h (by decide)⟩
  · exact ⟨fun z => absurd z (by decide), fun _ => h (by decide)⟩
  · exact ⟨fun _ => f rfl, fun z => absurd rfl z⟩
theorem bm_ix (r i : Nat) : (32 : Int32) * nI r + nI i = nI (32 * r + i) := by
  rw [show (32 : Int32) = nI 32 from rfl, pk_mul, nI_add]
theorem bm_in {r i : Nat} (hr : r < 14) (hi : i < 32) : vp_in ((32 : Int32) * nI r + nI i) 448 := by
  rw [bm_ix]
  exact vp_in_nI (by omega) (by omega)
theorem bm_cl {r i : Nat} (hr : r < 14) (hi : i < 32) : ((32 : Int32) * nI r + nI i).toNatClampNeg = 32 * r + i := by
  rw [bm_ix]
  exact nI_clamp (by omega)
/-- the bit array holds 14 registers of 32 bits each -/
def bm_ok (a : Nat → Int32) (g : Nat → BitVec 32) : Prop := ∀ r i, r < 14 → i < 32 → a (32 * r + i) = bm_b ((g r).getLsbD i)
def bm_up (g : Nat → BitVec 32) (r : Nat) (v : BitVec 32) : Nat → BitVec 32 := fun j => if j = r then v else g j
theorem bm_us {g : Nat → BitVec 32} {r : Nat} {v : BitVec 32} : bm_up g r v r = v := if_pos rfl
theorem bm_un {g : Nat → BitVec 32} {r q : Nat} {v : BitVec 32} (h : q ≠ r) : bm_up g r v q = g q := if_neg h
/-- register r is written up to its bit i -/
def bm_part (a : Nat → Int32) (g : Nat → BitVec 32) (r : Nat) (v : BitVec 32) (i : Nat) : Prop := ∀ q j, q < 14 → j < 32 → a (32 * q + j) = bm_b (if q = r ∧ j < i then v.getLsbD j else (g q).getLsbD j)
theorem bm_part0 {a : Nat → Int32} {g : Nat → BitVec 32} {r : Nat} {v : BitVec 32} (h : bm_ok a g) : bm_part a g r v 0 := by
  intro q j hq hj
  rw [if_neg (by omega)]
  exact h q j hq hj
theorem bm_partS {a : Nat → Int32} {g : Nat → BitVec 32} {r i k : Nat} {v : BitVec 32} {x : Int32} (hk : k = 32 * r + i) (hi : i < 32) (hx : x = bm_b (v.getLsbD i)) (h : bm_part a g r v i) : bm_part (upd a k x) g r v (i + 1) := by
  intro q j hq hj
  subst hk
  by_cases e : 32 * q + j = 32 * r + i
  · have e1 : q = r := by omega
    have e2 : j = i := by omega
    subst e1 e2
    rw [pk_us, hx, if_pos ⟨rfl, by omega⟩]
  · rw [pk_un e, h q j hq hj]
    by_cases c : q = r ∧ j < i
    · rw [if_pos c, if_pos ⟨c.1, by omega⟩]
    · rw [if_neg c, if_neg (fun z => c ⟨z.1, by omega⟩)]
theorem bm_partE {a : Nat → Int32} {g : Nat → BitVec 32} {r : Nat} {v : BitVec 32} (h : bm_part a g r v 32) : bm_ok a (bm_up g r v) := by
  intro q j hq hj
  rw [h q j hq hj]
  unfold bm_up
  by_cases c : q = r
  · rw [if_pos ⟨c, hj⟩, if_pos c]
  · rw [if_neg (fun z => c z.1), if_neg c]
/-- the fresh bits, up to the bit i -/
def bm_fr (a : Nat → Int32) (v : BitVec 32) (i : Nat) : Prop := ∀ j, j < i → a j = bm_b (v.getLsbD j)
theorem bm_fr0 {a : Nat → Int32} {v : BitVec 32} : bm_fr a v 0 := fun j hj => absurd hj (by omega)
theorem bm_frS {a : Nat → Int32} {v : BitVec 32} {i k : Nat} {x : Int32} (hk : k = i) (hx : x = bm_b (v.getLsbD i)) (h : bm_fr a v i) : bm_fr (upd a k x) v (i + 1) := by
  intro j hj
  subst hk
  by_cases e : j = k
  · rw [e, pk_us, hx]
  · rw [pk_un e]
    exact h j (by omega)
theorem bm_su : ∀ n, n < 32 → (((nI n).toUInt32 &&& Int32.toUInt32 31).toBitVec % 32).toNat = n := by decide +kernel
theorem bm_tb (v : BitVec 32) (i : Nat) : bm_b (v.getLsbD i) = nI (v.toNat / 2 ^ i % 2) := by
  rw [← BitVec.testBit_toNat, Nat.testBit_eq_decide_div_mod_eq]
  rcases Nat.mod_two_eq_zero_or_one (v.toNat / 2 ^ i) with e | e
  · rw [e]; rfl
  · rw [e]; rfl
theorem bm_bit (x : Int32) {i : Nat} (hi : i < 32) : ((x.toUInt32 >>> ((nI i).toUInt32 &&& Int32.toUInt32 31)).toInt32 &&& 1) = bm_b (x.toBitVec.getLsbD i) := by
  rw [bm_tb, pk_and _ (m := 1) 1 (by decide), pk_ushr x (nI i) i (bm_su i hi)]
/-- a register's low half, its sign repeated -/
def bm_w (v : BitVec 32) : BitVec 32 := (v.setWidth 16).signExtend 32
theorem bm_wl (v : BitVec 32) {i : Nat} (hi : i < 16) : (bm_w v).getLsbD i = v.getLsbD i := by
  unfold bm_w
  rw [BitVec.getLsbD_signExtend, decide_eq_true (show i < 32 by omega), if_pos hi, BitVec.getLsbD_setWidth, decide_eq_true hi]
  rfl
theorem bm_wh (v : BitVec 32) {i : Nat} (hi : 16 ≤ i) (h2 : i < 32) : (bm_w v).getLsbD i = v.getLsbD 15 := by
  unfold bm_w
  rw [BitVec.getLsbD_signExtend, decide_eq_true h2, if_neg (by omega), BitVec.msb_eq_getLsbD_last, BitVec.getLsbD_setWidth]
  rfl
/-- what the adder makes: y inverted and a carry of one, if it is a difference -/
def bm_inv (y : BitVec 32) (c : Bool) : BitVec 32 := if c then ~~~ y else y
def bm_sum (x y : BitVec 32) (c : Bool) : BitVec 32 := x + bm_inv y c + (BitVec.ofBool c).setWidth 32
theorem bm_invb (y : BitVec 32) (c : Bool) {i : Nat} (hi : i < 32) : (bm_inv y c).getLsbD i = (y.getLsbD i ^^ c) := by
  unfold bm_inv
  cases c
  · simp
  · simp [hi]
theorem bm_sumF (x y : BitVec 32) : bm_sum x y false = x + y := by
  unfold bm_sum bm_inv
  simp
theorem bm_sumT (x y : BitVec 32) : bm_sum x y true = x - y := by
  unfold bm_sum bm_inv
  rw [BitVec.sub_eq_add_neg, BitVec.neg_eq_not_add, ← BitVec.add_assoc]
  rfl
theorem bm_sumb (x y : BitVec 32) (c : Bool) {i : Nat} (hi : i < 32) : (bm_sum x y c).getLsbD i = (x.getLsbD i ^^ ((bm_inv y c).getLsbD i ^^ BitVec.carry i x (bm_inv y c) c)) := BitVec.getLsbD_add_add_bool hi x (bm_inv y c) c
theorem bm_rd {a : Nat → Int32} {g : Nat → BitVec 32} {r i : Nat} (hr : r < 14) (hi : i < 32) (h : bm_ok a g) : vp_nar .boolean (a ((32 : Int32) * nI r + nI i).toNatClampNeg) = bm_b ((g r).getLsbD i) := by
  rw [bm_cl hr hi, h r i hr hi, bm_nar]
section
variable {post : St2 → Prop} {l nx lt st : Int32} {a1 a2 a3 a4 a5 a6 a7 a8 a9 a10 a11 : Nat → Int32} {g : Nat → BitVec 32}
theorem bm_load {r : Nat} {x : Int32} (hr : r < 14) (h5 : bm_ok a5 g)
    (H : ∀ b5, bm_ok b5 (bm_up g r x.toBitVec) → post (l, nx, lt, st, a1, a2, a3, a4, b5, a6, a7, a8, a9, a10, a11)) :
    wpX_loadConstant post (l, nx, lt, st, a1, a2, a3, a4, a5, a6, a7, a8, a9, a10, a11) (nI r) x :=
  pk_loop (fun n i s => wX_loadConstant_2 post (nI r) x l nx lt st n (nI i) a1 a2 a3 a4 s a6 a7 a8 a9 a10 a11) (fun i s => bm_part s g r x.toBitVec i) 32 0 a5 (by omega) (bm_part0 h5)
    (fun n s h => pk_le 32 32 (fun _ => H s (bm_partE h)) (fun z => absurd z (by omega)))
    (fun n i s hi h hw => pk_le 32 i (fun z => absurd z (by omega)) (fun _ =>
      bm_br (x.toBitVec.getLsbD i) (bm_bit x hi)
        (fun z => ⟨bm_in hr hi, nm_e (nm_r (nI_1 i) (hw _ (bm_partS (bm_cl hr hi) hi (by rw [z]; rfl) h)))⟩)
        (fun z => ⟨bm_in hr hi, nm_e (nm_r (nI_1 i) (hw _ (bm_partS (bm_cl hr hi) hi (by rw [z]; rfl) h)))⟩)))
theorem bm_keep {r : Nat} {v : BitVec 32} (hr : r < 14) (h5 : bm_ok a5 g) (h6 : bm_fr a6 v 32)
    (H : ∀ b5, bm_ok b5 (bm_up g r v) → post (l, nx, lt, st, a1, a2, a3, a4, b5, a6, a7, a8, a9, a10, a11)) :
    wpX_keepFresh post (l, nx, lt, st, a1, a2, a3, a4, a5, a6, a7, a8, a9, a10, a11) (nI r) :=
  pk_loop (fun n i s => wX_keepFresh_2 post (nI r) l nx lt st n (nI i) a1 a2 a3 a4 s a6 a7 a8 a9 a10 a11) (fun i s => bm_part s g r v i) 32 0 a5 (by omega) (bm_part0 h5)
    (fun n s h => pk_le 32 32 (fun _ => H s (bm_partE h)) (fun z => absurd z (by omega)))
    (fun n i s hi h hw => pk_le 32 i (fun z => absurd z (by omega)) (fun _ =>
      ⟨pk_in i 32 hi, bm_in hr hi, nm_e (nm_r (nI_1 i) (hw _ (bm_partS (bm_cl hr hi) hi (by rw [nI_clamp (by omega), h6 i hi, bm_nar]) h)))⟩))
theorem bm_widen {d s : Nat} (hd : d < 14) (hs : s < 14) (h5 : bm_ok a5 g)
    (H : ∀ b5 b6, bm_ok b5 (bm_up g d (bm_w (g s))) → post (l, nx, lt, st, a1, a2, a3, a4, b5, b6, a7, a8, a9, a10, a11)) :
    wpX_widen post (l, nx, lt, st, a1, a2, a3, a4, a5, a6, a7, a8, a9, a10, a11) (nI d) (nI s) :=
  pk_loop (fun n i b => wX_widen_2 post (nI d) (nI s) l nx lt st n (nI i) a1 a2 a3 a4 a5 b a7 a8 a9 a10 a11) (fun i b => bm_fr b (bm_w (g s)) i) 32 0 a6 (by omega) bm_fr0
    (fun n b h => pk_le 32 32 (fun _ => bm_keep hd h5 h (fun b5 hb => H b5 b hb)) (fun z => absurd z (by omega)))
    (fun n i b hi h hw => pk_le 32 i (fun z => absurd z (by omega)) (fun _ =>
      pk_le 16 i
        (fun z => ⟨bm_in (i := 15) hs (by omega), pk_in i 32 hi, nm_e (nm_r (nI_1 i) (hw _ (bm_frS (nI_clamp (by omega)) ((bm_rd (i := 15) hs (by omega) h5).trans (by rw [bm_wh _ z hi])) h)))⟩)
        (fun z => ⟨bm_in hs hi, pk_in i 32 hi, nm_e (nm_r (nI_1 i) (hw _ (bm_frS (nI_clamp (by omega)) ((bm_rd hs hi h5).trans (by rw [bm_wl _ z])) h)))⟩)))
/-- the bits of v are those of x, moved up by y places -/
def bm_mv (x v : BitVec 32) (y : Int32) : Prop := ∀ i, i < 32 → (nI i - y < 0 ∧ v.getLsbD i = false) ∨ (¬ nI i - y < 0 ∧ 32 ≤ nI i - y ∧ v.getLsbD i = false) ∨ ∃ j : Nat, j < 32 ∧ nI i - y = nI j ∧ v.getLsbD i = x.getLsbD j
theorem bm_mvU (x : BitVec 32) {k : Nat} (hk : k < 32) : bm_mv x (x <<< k) (nI k) := by
  intro i hi
  rcases Nat.lt_or_ge i k with h | h
  · exact Or.inl ⟨pk_sneg (by omega) h, by rw [BitVec.getLsbD_shiftLeft]; simp [h]⟩
  · exact Or.inr (Or.inr ⟨i - k, by omega, pk_sub h, by rw [BitVec.getLsbD_shiftLeft]; simp [hi]; omega⟩)
theorem bm_mvD (x : BitVec 32) : bm_mv x (x >>> 16) (-16) := by
  intro i hi
  have e : nI i - (-16) = nI (i + 16) := by
    rw [← nI_add]
    show nI i - (-16) = nI i + 16
    grind
  rw [e]
  rcases Nat.lt_or_ge i 16 with h | h
  · exact Or.inr (Or.inr ⟨i + 16, by omega, rfl, by rw [BitVec.getLsbD_ushiftRight, Nat.add_comm]⟩)
  · exact Or.inr (Or.inl ⟨nI_pos (by omega), nI_le (a := 32) (by omega) (by omega), by rw [BitVec.getLsbD_ushiftRight]; exact BitVec.getLsbD_of_ge _ _ (by omega)⟩)
theorem bm_shift {d s : Nat} {y : Int32} {v : BitVec 32} (hd : d < 14) (hs : s < 14) (hv : bm_mv (g s) v y) (h5 : bm_ok a5 g)
    (H : ∀ b5 b6, bm_ok b5 (bm_up g d v) → post (l, nx, lt, st, a1, a2, a3, a4, b5, b6, a7, a8, a9, a10, a11)) :
    wpX_shift post (l, nx, lt, st, a1, a2, a3, a4, a5, a6, a7, a8, a9, a10, a11) (nI d) (nI s) y := by
  refine pk_loop (fun n i b => wX_shift_3 post (nI d) (nI s) y l nx lt st n (nI i) a1 a2 a3 a4 a5 b a7 a8 a9 a10 a11) (fun i b => bm_fr b v i) 32 0 a6 (by omega) bm_fr0
    (fun n b h => pk_le 32 32 (fun _ => bm_keep hd h5 h (fun b5 hb => H b5 b hb)) (fun z => absurd z (by omega)))
    (fun n i b hi h hw => pk_le 32 i (fun z => absurd z (by omega)) (fun _ => ?_))
  rcases hv i hi with ⟨h1, h2⟩ | ⟨h1, h2, h3⟩ | ⟨j, hj, h1, h2⟩
  · exact nm_e (br_t h1 ⟨pk_in i 32 hi, nm_e (nm_r (nI_1 i) (hw _ (bm_frS (nI_clamp (by omega)) (by rw [h2]; rfl) h)))⟩)
  · exact nm_e (br_f h1 (br_t h2 ⟨pk_in i 32 hi, nm_e (nm_r (nI_1 i) (hw _ (bm_frS (nI_clamp (by omega)) (by rw [h3]; rfl) h)))⟩))
  · exact nm_r h1 (br_f (nI_pos (by omega)) (pk_le 32 j (fun z => absurd z (by omega)) (fun _ => ⟨bm_in hs hj,
      bm_br ((g s).getLsbD j) (by rw [bm_cl hs hj, h5 s j hs hj])
        (fun z => ⟨pk_in i 32 hi, nm_e (nm_r (nI_1 i) (hw _ (bm_frS (nI_clamp (by omega)) (by rw [h2, z]; rfl) h)))⟩)
        (fun z => ⟨pk_in i 32 hi, nm_e (nm_r (nI_1 i) (hw _ (bm_frS (nI_clamp (by omega)) (by rw [h2, z]; rfl) h)))⟩)⟩)))
end
end
section
section
variable {post : St2 → Prop} {l nx lt st : Int32} {a1 a2 a3 a4 a5 a6 a7 a8 a9 a10 a11 : Nat → Int32} {g : Nat → BitVec 32}
variable {J : Int32 → Int32 → (Nat → Int32) → (Nat → Int32) → (Nat → Int32) → (Nat → Int32) → (Nat → Int32) → (Nat → Int32) → (Nat → Int32) → (Nat → Int32) → (Nat → Int32) → (Nat → Int32) → (Nat → Int32) → Prop} {x1 x2 x3 x4 : Int32} {i : Nat}
theorem bm_95 (h c : Bool) (H : J (bm_b (h && c)) (nI (i + 1)) a1 a2 a3 a4 a5 a6 a7 a8 a9 a10 a11) :
    wX_addSerially_95 post J x1 x2 x3 x4 (bm_b c) (nI i) (bm_b h) l nx lt st a1 a2 a3 a4 a5 a6 a7 a8 a9 a10 a11 :=
  bm_br h rfl (fun z => nm_r (nI_1 i) (by subst z; exact H))
    (fun z => bm_br c rfl (fun w => nm_r (nI_1 i) (by subst z w; exact H)) (fun w => nm_r (nI_1 i) (by subst z w; exact H)))
theorem bm_84 (hi : i < 32) (p q h c f : Bool) (H : J (bm_b (p && q || h && c)) (nI (i + 1)) a1 a2 a3 a4 a5 (upd a6 i (bm_b f)) a7 a8 a9 a10 a11) :
    wX_addSerially_84 post J x1 x2 x3 x4 (bm_b c) (nI i) (bm_b p) (bm_b q) (bm_b h) (bm_b f) (nI i) l nx lt st a1 a2 a3 a4 a5 a6 a7 a8 a9 a10 a11 :=
  ⟨pk_in i 32 hi, nm_r (e' := upd a6 i (bm_b f)) (by rw [nI_clamp (by omega), bm_nar]) (bm_br p rfl (fun z => bm_95 h c (by subst z; exact H))
    (fun z => bm_br q rfl (fun w => bm_95 h c (by subst z w; exact H)) (fun w => nm_r (nI_1 i) (by subst z w; exact H))))⟩
theorem bm_64 (hi : i < 32) (p q h c : Bool) (H : J (bm_b (p && q || h && c)) (nI (i + 1)) a1 a2 a3 a4 a5 (upd a6 i (bm_b (h ^^ c))) a7 a8 a9 a10 a11) :
    wX_addSerially_64 post J x1 x2 x3 x4 (bm_b c) (nI i) (bm_b p) (bm_b q) (bm_b h) l nx lt st a1 a2 a3 a4 a5 a6 a7 a8 a9 a10 a11 :=
  bm_br2 h c (fun z => bm_84 hi p q h c false (by subst z; cases h <;> exact H))
    (fun z => bm_84 hi p q h c true (by rw [show (h ^^ c) = true from by cases h <;> cases c <;> first | rfl | exact absurd rfl z] at H; exact H))
theorem bm_50 (hi : i < 32) (p q c : Bool) (H : J (bm_b (Bool.atLeastTwo p q c)) (nI (i + 1)) a1 a2 a3 a4 a5 (upd a6 i (bm_b (p ^^ (q ^^ c)))) a7 a8 a9 a10 a11) :
    wX_addSerially_50 post J x1 x2 x3 x4 (bm_b c) (nI i) (bm_b p) (bm_b q) l nx lt st a1 a2 a3 a4 a5 a6 a7 a8 a9 a10 a11 :=
  bm_br2 p q (fun z => bm_64 hi p q false c (by subst z; cases p <;> cases c <;> exact H))
    (fun z => bm_64 hi p q true c (by cases p <;> cases q <;> cases c <;> first | exact H | exact absurd rfl z))
end
section
variable {post : St2 → Prop} {l nx lt st : Int32} {a1 a2 a3 a4 a5 a6 a7 a8 a9 a10 a11 : Nat → Int32} {g : Nat → BitVec 32}
theorem bm_add {d x y : Nat} (c : Bool) (hd : d < 14) (hx : x < 14) (hy : y < 14) (h5 : bm_ok a5 g)
    (H : ∀ lt' b5 b6, bm_ok b5 (bm_up g d (bm_sum (g x) (g y) c)) → post (l, nx, lt', st, a1, a2, a3, a4, b5, b6, a7, a8, a9, a10, a11)) :
    wpX_addSerially post (l, nx, lt, st, a1, a2, a3, a4, a5, a6, a7, a8, a9, a10, a11) (nI d) (nI x) (nI y) (bm_b c) := by
  refine pk_loop (σ := Int32 × (Nat → Int32)) (fun n i s => wX_addSerially_7 post (nI d) (nI x) (nI y) (bm_b c) l nx lt st n s.1 (nI i) a1 a2 a3 a4 a5 s.2 a7 a8 a9 a10 a11)
    (fun i s => s.1 = bm_b (BitVec.carry i (g x) (bm_inv (g y) c) c) ∧ bm_fr s.2 (bm_sum (g x) (g y) c) i) 32 0 (bm_b c, a6) (by omega) ⟨by rw [BitVec.carry_zero], bm_fr0⟩ ?_ ?_
  · intro n s h
    obtain ⟨k, b⟩ := s
    obtain ⟨h1, h2⟩ := h
    have h1' : k = bm_b (BitVec.carry 32 (g x) (bm_inv (g y) c) c) := h1
    subst h1'
    exact pk_le 32 32 (fun _ => ⟨bm_narrow _, bm_fits _, bm_keep hd h5 h2 (fun b5 hb => H _ b5 b hb)⟩) (fun z => absurd z (by omega))
  · intro n i s hi h hw
    obtain ⟨k, b⟩ := s
    obtain ⟨h1, h2⟩ := h
    have h1' : k = bm_b (BitVec.carry i (g x) (bm_inv (g y) c) c) := h1
    subst h1'
    have key : ∀ q, q = ((g y).getLsbD i ^^ c) → wX_addSerially_50 post (wX_addSerially_7 post (nI d) (nI x) (nI y) (bm_b c) l nx lt st n) (nI d) (nI x) (nI y) (bm_b c) (bm_b (BitVec.carry i (g x) (bm_inv (g y) c) c)) (nI i) (bm_b ((g x).getLsbD i)) (bm_b q) l nx lt st a1 a2 a3 a4 a5 b a7 a8 a9 a10 a11 := by
      intro q hq
      have hq' : q = (bm_inv (g y) c).getLsbD i := by rw [hq, bm_invb _ _ hi]
      refine bm_50 hi _ _ _ (hw (_, _) ⟨?_, ?_⟩)
      · show bm_b _ = bm_b _
        rw [BitVec.carry_succ, hq']
      · exact bm_frS rfl (by rw [bm_sumb _ _ _ hi, hq']) h2
    refine pk_le 32 i (fun z => absurd z (by omega)) (fun _ => ⟨bm_in hx hi, nm_r (e' := bm_b ((g x).getLsbD i)) (by rw [bm_cl hx hi]; exact h5 x i hx hi) ⟨bm_in hy hi, ?_⟩⟩)
    rw [bm_cl hy hi, h5 y i hy hi]
    exact bm_br2 _ _ (fun z => key false (by rw [z]; cases c <;> rfl)) (fun z => key true (by revert z; cases (g y).getLsbD i <;> cases c <;> intro z <;> first | rfl | exact absurd rfl z))
end
end
section
/-- the first n micro-steps are those of the table P: kind, to, from, other, skip -/
def bm_pg (a7 a8 a9 a10 a11 : Nat → Int32) (P : Nat → Int32 × Int32 × Int32 × Int32 × Int32) (n : Nat) : Prop := ∀ j, j < n → (a7 j, a8 j, a9 j, a10 j, a11 j) = P j
/-- a sum or a difference -/
def bm_A (k d : Int32) (j : Nat) : Int32 × Int32 × Int32 × Int32 × Int32 := if j = 0 then (k, 8, 3, 4, 0) else (6, d, 8, 0, 0)
/-- a product -/
def bm_P (d s : Int32) (j : Nat) : Int32 × Int32 × Int32 × Int32 × Int32 :=
  if j = 0 then (0, 8, 3, 0, 0) else if j = 1 then (0, 9, 4, 0, 0) else if j = 2 then (11, 10, 0, 0, 0)
  else if j < 99 then (if j % 3 = 0 then (8, 0, 9, nI (j / 3 - 1), 1) else if j % 3 = 1 then (1, 10, 10, 8, 0) else (0, 8, 8, 1, 0))
  else if j = 99 then (0, 10, 10, s, 0) else (6, d, 10, 0, 0)
theorem bm_P0 {d s : Int32} {i : Nat} (hi : i < 32) : ((8, 0, 9, nI i, 1) : Int32 × Int32 × Int32 × Int32 × Int32) = bm_P d s (3 + 3 * i) := by
  unfold bm_P
  rw [if_neg (by omega), if_neg (by omega), if_neg (by omega), if_pos (by omega), if_pos (by omega), show (3 + 3 * i) / 3 - 1 = i by omega]
theorem bm_P1 {d s : Int32} {i : Nat} (hi : i < 32) : ((1, 10, 10, 8, 0) : Int32 × Int32 × Int32 × Int32 × Int32) = bm_P d s (3 + 3 * i + 1) := by
  unfold bm_P
  rw [if_neg (by omega), if_neg (by omega), if_neg (by omega), if_pos (by omega), if_neg (by omega), if_pos (by omega)]
theorem bm_P2 {d s : Int32} {i : Nat} (hi : i < 32) : ((0, 8, 8, 1, 0) : Int32 × Int32 × Int32 × Int32 × Int32) = bm_P d s (3 + 3 * i + 2) := by
  unfold bm_P
  rw [if_neg (by omega), if_neg (by omega), if_neg (by omega), if_pos (by omega), if_neg (by omega), if_neg (by omega)]
theorem bm_pg0 {a7 a8 a9 a10 a11 : Nat → Int32} {P : Nat → Int32 × Int32 × Int32 × Int32 × Int32} : bm_pg a7 a8 a9 a10 a11 P 0 := fun j hj => absurd hj (by omega)
theorem bm_pgS {a7 a8 a9 a10 a11 : Nat → Int32} {P : Nat → Int32 × Int32 × Int32 × Int32 × Int32} {n : Nat} {p0 p1 p2 p3 p4 : Int32} (h : bm_pg a7 a8 a9 a10 a11 P n) (e : (p0, p1, p2, p3, p4) = P n) : bm_pg (upd a7 n p0) (upd a8 n p1) (upd a9 n p2) (upd a10 n p3) (upd a11 n p4) P (n + 1) := by
  intro j hj
  by_cases c : j = n
  · subst c
    rw [pk_us, pk_us, pk_us, pk_us, pk_us]
    exact e
  · rw [pk_un c, pk_un c, pk_un c, pk_un c, pk_un c]
    exact h j (by omega)
section
variable {post : St2 → Prop} {l nx lt st : Int32} {a1 a2 a3 a4 a5 a6 a7 a8 a9 a10 a11 : Nat → Int32}
theorem bm_step {P : Nat → Int32 × Int32 × Int32 × Int32 × Int32} {n : Nat} {p0 p1 p2 p3 p4 : Int32} (hn : n < 160) (h : bm_pg a7 a8 a9 a10 a11 P n) (e : (p0, p1, p2, p3, p4) = P n)
    (H : ∀ b7 b8 b9 b10 b11, bm_pg b7 b8 b9 b10 b11 P (n + 1) → post (l, nx, lt, nI (n + 1), a1, a2, a3, a4, a5, a6, b7, b8, b9, b10, b11)) :
    wpX_step post (l, nx, lt, nI n, a1, a2, a3, a4, a5, a6, a7, a8, a9, a10, a11) p0 p1 p2 p3 p4 :=
  have c : (nI n).toNatClampNeg = n := nI_clamp (by omega)
  ⟨pk_in n 160 hn, nm_r (e' := upd a7 n p0) (by rw [c]) ⟨pk_in n 160 hn, nm_r (e' := upd a8 n p1) (by rw [c]) ⟨pk_in n 160 hn, nm_r (e' := upd a9 n p2) (by rw [c]) ⟨pk_in n 160 hn, nm_r (e' := upd a10 n p3) (by rw [c]) ⟨pk_in n 160 hn, nm_r (e' := upd a11 n p4) (by rw [c]) (nm_r (nI_1 n) (H _ _ _ _ _ (bm_pgS h e)))⟩⟩⟩⟩⟩
theorem bm_prod {d s : Int32}
    (H : ∀ b7 b8 b9 b10 b11, bm_pg b7 b8 b9 b10 b11 (bm_P d s) 99 → post (l, nx, lt, nI 99, a1, a2, a3, a4, a5, a6, b7, b8, b9, b10, b11)) :
    wpX_product post (l, nx, lt, nI 0, a1, a2, a3, a4, a5, a6, a7, a8, a9, a10, a11) 3 4 := by
  unfold wpX_product
  refine bm_step (P := bm_P d s) (n := 0) (by omega) bm_pg0 rfl (fun b7 b8 b9 b10 b11 h1 => ?_)
  refine bm_step (P := bm_P d s) (n := 1) (by omega) h1 rfl (fun c7 c8 c9 c10 c11 h2 => ?_)
  refine bm_step (P := bm_P d s) (n := 2) (by omega) h2 rfl (fun d7 d8 d9 d10 d11 h3 => ?_)
  refine pk_loop (σ := (Nat → Int32) × (Nat → Int32) × (Nat → Int32) × (Nat → Int32) × (Nat → Int32)) (fun n i q => wX_product_33 post n (nI i) l nx lt (nI (3 + 3 * i)) a1 a2 a3 a4 a5 a6 q.1 q.2.1 q.2.2.1 q.2.2.2.1 q.2.2.2.2)
    (fun i q => bm_pg q.1 q.2.1 q.2.2.1 q.2.2.2.1 q.2.2.2.2 (bm_P d s) (3 + 3 * i)) 32 0 (d7, d8, d9, d10, d11) (by omega) h3 ?_ ?_
  · intro n q h
    exact pk_le 32 32 (fun _ => H _ _ _ _ _ h) (fun z => absurd z (by omega))
  · intro n i q hi h hw
    refine pk_le 32 i (fun z => absurd z (by omega)) (fun _ => ?_)
    refine bm_step (n := 3 + 3 * i) (by omega) h (bm_P0 hi) (fun b7 b8 b9 b10 b11 h1 => ?_)
    refine bm_step (n := 3 + 3 * i + 1) (by omega) h1 (bm_P1 hi) (fun c7 c8 c9 c10 c11 h2 => ?_)
    refine bm_step (n := 3 + 3 * i + 2) (by omega) h2 (bm_P2 hi) (fun e7 e8 e9 e10 e11 h3 => ?_)
    exact nm_r (nI_1 i) (hw (e7, e8, e9, e10, e11) h3)
theorem bm_126 {d k : Int32}
    (H : ∀ b7 b8 b9 b10 b11, bm_pg b7 b8 b9 b10 b11 (bm_A k d) 2 → post (l, nx, lt, nI 2, a1, a2, a3, a4, a5, a6, b7, b8, b9, b10, b11)) :
    wX_translate_126 post d 3 4 k l nx lt (nI 0) a1 a2 a3 a4 a5 a6 a7 a8 a9 a10 a11 := by
  unfold wX_translate_126
  refine bm_step (P := bm_A k d) (n := 0) (by omega) bm_pg0 rfl (fun b7 b8 b9 b10 b11 h1 => ?_)
  refine bm_step (P := bm_A k d) (n := 1) (by omega) h1 rfl (fun c7 c8 c9 c10 c11 h2 => ?_)
  exact H _ _ _ _ _ h2
theorem bm_185 {d s : Int32} (h : bm_pg a7 a8 a9 a10 a11 (bm_P d s) 99)
    (H : ∀ b7 b8 b9 b10 b11, bm_pg b7 b8 b9 b10 b11 (bm_P d s) 101 → post (l, nx, lt, nI 101, a1, a2, a3, a4, a5, a6, b7, b8, b9, b10, b11)) :
    wX_translate_185 post d s 10 10 0 l nx lt (nI 99) a1 a2 a3 a4 a5 a6 a7 a8 a9 a10 a11 := by
  unfold wX_translate_185
  refine bm_step (P := bm_P d s) (n := 99) (by omega) h rfl (fun b7 b8 b9 b10 b11 h1 => ?_)
  refine bm_step (P := bm_P d s) (n := 100) (by omega) h1 rfl (fun c7 c8 c9 c10 c11 h2 => ?_)
  exact H _ _ _ _ _ h2
theorem bm_trA {op d k : Int32} (h1 : a1 0 = op) (h2 : a2 0 = d) (h3 : a3 0 = 3) (h4 : a4 0 = 12) (hop : op = 2 ∧ k = 1 ∨ op = 3 ∧ k = 2)
    (H : ∀ b7 b8 b9 b10 b11, bm_pg b7 b8 b9 b10 b11 (bm_A k d) 2 → post (l, nx, lt, nI 2, a1, a2, a3, a4, a5, a6, b7, b8, b9, b10, b11)) :
    wpX_translate post (l, nx, lt, st, a1, a2, a3, a4, a5, a6, a7, a8, a9, a10, a11) 0 := by
  rcases hop with ⟨rfl, rfl⟩ | ⟨rfl, rfl⟩
  · exact ⟨pk_in 0 32 (by omega), nm_r (e' := 2) (by rw [sb_cl0]; exact h1) ⟨pk_in 0 32 (by omega), nm_r (e' := d) (by rw [sb_cl0]; exact h2) ⟨pk_in 0 32 (by omega), nm_r (e' := 3) (by rw [sb_cl0, h3]; rfl) ⟨pk_in 0 32 (by omega), nm_r (e' := 4) (by rw [sb_cl0, h4]; rfl) ⟨pk_in 0 32 (by omega), nm_e (br_f (by decide) (br_f (by decide) (br_t rfl (br_t rfl (bm_126 H)))))⟩⟩⟩⟩⟩
  · exact ⟨pk_in 0 32 (by omega), nm_r (e' := 3) (by rw [sb_cl0]; exact h1) ⟨pk_in 0 32 (by omega), nm_r (e' := d) (by rw [sb_cl0]; exact h2) ⟨pk_in 0 32 (by omega), nm_r (e' := 3) (by rw [sb_cl0, h3]; rfl) ⟨pk_in 0 32 (by omega), nm_r (e' := 4) (by rw [sb_cl0, h4]; rfl) ⟨pk_in 0 32 (by omega), nm_e (br_f (by decide) (br_f (by decide) (br_f (by decide) (br_t rfl (br_f (by decide) (bm_126 H))))))⟩⟩⟩⟩⟩
theorem bm_trM {op d s : Int32} (h1 : a1 0 = op) (h2 : a2 0 = d) (h3 : a3 0 = 3) (h4 : a4 0 = 12) (hop : op = 4 ∧ s = 0 ∨ op = 5 ∧ s = -16)
    (H : ∀ b7 b8 b9 b10 b11, bm_pg b7 b8 b9 b10 b11 (bm_P d s) 101 → post (l, nx, lt, nI 101, a1, a2, a3, a4, a5, a6, b7, b8, b9, b10, b11)) :
    wpX_translate post (l, nx, lt, st, a1, a2, a3, a4, a5, a6, a7, a8, a9, a10, a11) 0 := by
  rcases hop with ⟨rfl, rfl⟩ | ⟨rfl, rfl⟩
  · have T : wX_translate_160 post 4 d 3 4 l nx lt (nI 0) a1 a2 a3 a4 a5 a6 a7 a8 a9 a10 a11 := by
      unfold wX_translate_160
      exact bm_prod (fun b7 b8 b9 b10 b11 h => br_t rfl (bm_185 h H))
    exact ⟨pk_in 0 32 (by omega), nm_r (e' := 4) (by rw [sb_cl0]; exact h1) ⟨pk_in 0 32 (by omega), nm_r (e' := d) (by rw [sb_cl0]; exact h2) ⟨pk_in 0 32 (by omega), nm_r (e' := 3) (by rw [sb_cl0, h3]; rfl) ⟨pk_in 0 32 (by omega), nm_r (e' := 4) (by rw [sb_cl0, h4]; rfl) ⟨pk_in 0 32 (by omega), nm_e (br_f (by decide) (br_f (by decide) (br_f (by decide) (br_f (by decide) (br_t rfl T)))))⟩⟩⟩⟩⟩
  · have T : wX_translate_160 post 5 d 3 4 l nx lt (nI 0) a1 a2 a3 a4 a5 a6 a7 a8 a9 a10 a11 := by
      unfold wX_translate_160
      exact bm_prod (fun b7 b8 b9 b10 b11 h => br_f (by decide) (bm_185 h H))
    exact ⟨pk_in 0 32 (by omega), nm_r (e' := 5) (by rw [sb_cl0]; exact h1) ⟨pk_in 0 32 (by omega), nm_r (e' := d) (by rw [sb_cl0]; exact h2) ⟨pk_in 0 32 (by omega), nm_r (e' := 3) (by rw [sb_cl0, h3]; rfl) ⟨pk_in 0 32 (by omega), nm_r (e' := 4) (by rw [sb_cl0, h4]; rfl) ⟨pk_in 0 32 (by omega), nm_e (br_f (by decide) (br_f (by decide) (br_f (by decide) (br_f (by decide) (br_f (by decide) (br_t rfl T))))))⟩⟩⟩⟩⟩
end
end
section
/-- what the product has added up behind i bits of y -/
def bm_m (x y : BitVec 32) : Nat → BitVec 32
  | 0 => 0
  | i + 1 => bm_m x y i + if y.getLsbD i then x <<< i else 0
theorem bm_mR (x y : BitVec 32) : ∀ i, bm_m x y (i + 1) = BitVec.mulRec x y i
  | 0 => by
    rw [BitVec.mulRec_zero_eq]
    show (0 : BitVec 32) + (if y.getLsbD 0 then x <<< 0 else 0) = _
    rw [BitVec.shiftLeft_zero]
    exact BitVec.zero_add _
  | i + 1 => by
    rw [BitVec.mulRec_succ_eq, ← bm_mR x y i]
    rfl
theorem bm_mE (x y : BitVec 32) : bm_m x y 32 = x * y := by
  rw [bm_mR x y 31, BitVec.mulRec_eq_mul_signExtend_setWidth, BitVec.setWidth_eq, BitVec.setWidth_eq]
/-- the micro-step at t, with one road on: from the registers g to g' -/
def bm_pf (l nx st : Int32) (a1 a2 a3 a4 a7 a8 a9 a10 a11 : Nat → Int32) (t : Nat) (g g' : Nat → BitVec 32) : Prop := ∀ (Q : Int32 → St2 → Prop) (lt : Int32) (a5 a6 : Nat → Int32), bm_ok a5 g → (∀ lt' b5 b6, bm_ok b5 g' → Q 1 (l, nx, lt', st, a1, a2, a3, a4, b5, b6, a7, a8, a9, a10, a11)) → wpX_perform Q (l, nx, lt, st, a1, a2, a3, a4, a5, a6, a7, a8, a9, a10, a11) (nI t)
/-- the loop over the micro-steps: fuel n, place t, count k, registers g -/
def bm_W (post : St2 → Prop) (l nx st : Int32) (a1 a2 a3 a4 a7 a8 a9 a10 a11 : Nat → Int32) (n t k : Nat) (g : Nat → BitVec 32) : Prop := ∀ (lt : Int32) (a5 a6 : Nat → Int32), bm_ok a5 g → wX_performAll_4 post n (nI t) (nI k) l nx lt st a1 a2 a3 a4 a5 a6 a7 a8 a9 a10 a11
section
variable {post : St2 → Prop} {l nx lt st : Int32} {a1 a2 a3 a4 a5 a6 a7 a8 a9 a10 a11 : Nat → Int32} {g g' : Nat → BitVec 32} {n t k m : Nat}
theorem bm_loadE {r : Nat} {x z : Int32} (hz : z = nI r) (hr : r < 14) (h5 : bm_ok a5 g)
    (H : ∀ b5, bm_ok b5 (bm_up g r x.toBitVec) → post (l, nx, lt, st, a1, a2, a3, a4, b5, a6, a7, a8, a9, a10, a11)) :
    wpX_loadConstant post (l, nx, lt, st, a1, a2, a3, a4, a5, a6, a7, a8, a9, a10, a11) z x := by
  subst hz
  exact bm_load hr h5 H
theorem bm_widenE {d s : Nat} {x z : Int32} (hz : z = nI d) (hx : x = nI s) (hd : d < 14) (hs : s < 14) (h5 : bm_ok a5 g)
    (H : ∀ b5 b6, bm_ok b5 (bm_up g d (bm_w (g s))) → post (l, nx, lt, st, a1, a2, a3, a4, b5, b6, a7, a8, a9, a10, a11)) :
    wpX_widen post (l, nx, lt, st, a1, a2, a3, a4, a5, a6, a7, a8, a9, a10, a11) z x := by
  subst hz hx
  exact bm_widen hd hs h5 H
theorem bm_shiftE {d s : Nat} {x y z : Int32} {v : BitVec 32} (hz : z = nI d) (hx : x = nI s) (hd : d < 14) (hs : s < 14) (hv : bm_mv (g s) v y) (h5 : bm_ok a5 g)
    (H : ∀ b5 b6, bm_ok b5 (bm_up g d v) → post (l, nx, lt, st, a1, a2, a3, a4, b5, b6, a7, a8, a9, a10, a11)) :
    wpX_shift post (l, nx, lt, st, a1, a2, a3, a4, a5, a6, a7, a8, a9, a10, a11) z x y := by
  subst hz hx
  exact bm_shift hd hs hv h5 H
theorem bm_addE {d p q : Nat} {x y z : Int32} (c : Bool) (hz : z = nI d) (hx : x = nI p) (hy : y = nI q) (hd : d < 14) (hp : p < 14) (hq : q < 14) (h5 : bm_ok a5 g)
    (H : ∀ lt' b5 b6, bm_ok b5 (bm_up g d (bm_sum (g p) (g q) c)) → post (l, nx, lt', st, a1, a2, a3, a4, b5, b6, a7, a8, a9, a10, a11)) :
    wpX_addSerially post (l, nx, lt, st, a1, a2, a3, a4, a5, a6, a7, a8, a9, a10, a11) z x y (bm_b c) := by
  subst hz hx hy
  exact bm_add c hd hp hq h5 H
theorem bm_pLoad {r : Nat} {x f s : Int32} (ht : t < 160) (hP : (a7 t, a8 t, a9 t, a10 t, a11 t) = (11, nI r, f, x, s)) (hr : r < 14) :
    bm_pf l nx st a1 a2 a3 a4 a7 a8 a9 a10 a11 t g (bm_up g r x.toBitVec) := by
  intro Q lt a5 a6 h5 H
  have c : (nI t).toNatClampNeg = t := nI_clamp (by omega)
  have e7 : a7 (nI t).toNatClampNeg = 11 := by rw [c]; exact congrArg (fun p => p.1) hP
  have e8 : a8 (nI t).toNatClampNeg = nI r := by rw [c]; exact congrArg (fun p => p.2.1) hP
  have e10 : a10 (nI t).toNatClampNeg = x := by rw [c]; exact congrArg (fun p => p.2.2.2.1) hP
  refine ⟨pk_in t 160 ht, nm_r (e' := 11) e7 (br_f (by decide) (br_f (by decide) (br_f (by decide) (br_f (by decide) (br_t rfl ⟨pk_in t 160 ht, pk_in t 160 ht, ?_⟩)))))⟩
  rw [e10]
  exact bm_loadE e8 hr h5 (fun b5 hb => H lt b5 a6 hb)
theorem bm_pMove {d s : Nat} {y f : Int32} {v : BitVec 32} (ht : t < 160) (hP : (a7 t, a8 t, a9 t, a10 t, a11 t) = (0, nI d, nI s, y, f)) (hd : d < 14) (hs : s < 14) (hv : bm_mv (g s) v y) :
    bm_pf l nx st a1 a2 a3 a4 a7 a8 a9 a10 a11 t g (bm_up g d v) := by
  intro Q lt a5 a6 h5 H
  have c : (nI t).toNatClampNeg = t := nI_clamp (by omega)
  have e7 : a7 (nI t).toNatClampNeg = 0 := by rw [c]; exact congrArg (fun p => p.1) hP
  have e8 : a8 (nI t).toNatClampNeg = nI d := by rw [c]; exact congrArg (fun p => p.2.1) hP
  have e9 : a9 (nI t).toNatClampNeg = nI s := by rw [c]; exact congrArg (fun p => p.2.2.1) hP
  have e10 : a10 (nI t).toNatClampNeg = y := by rw [c]; exact congrArg (fun p => p.2.2.2.1) hP
  refine ⟨pk_in t 160 ht, nm_r (e' := 0) e7 (br_f (by decide) (br_f (by decide) (br_f (by decide) (br_f (by decide) (br_f (by decide) (br_t rfl ⟨pk_in t 160 ht, pk_in t 160 ht, pk_in t 160 ht, ?_⟩))))))⟩
  rw [e10]
  exact bm_shiftE e8 e9 hd hs hv h5 (fun b5 b6 hb => H lt b5 b6 hb)
theorem bm_pWiden {d s : Nat} {y f : Int32} (ht : t < 160) (hP : (a7 t, a8 t, a9 t, a10 t, a11 t) = (6, nI d, nI s, y, f)) (hd : d < 14) (hs : s < 14) :
    bm_pf l nx st a1 a2 a3 a4 a7 a8 a9 a10 a11 t g (bm_up g d (bm_w (g s))) := by
  intro Q lt a5 a6 h5 H
  have c : (nI t).toNatClampNeg = t := nI_clamp (by omega)
  have e7 : a7 (nI t).toNatClampNeg = 6 := by rw [c]; exact congrArg (fun p => p.1) hP
  have e8 : a8 (nI t).toNatClampNeg = nI d := by rw [c]; exact congrArg (fun p => p.2.1) hP
  have e9 : a9 (nI t).toNatClampNeg = nI s := by rw [c]; exact congrArg (fun p => p.2.2.1) hP
  refine ⟨pk_in t 160 ht, nm_r (e' := 6) e7 (br_f (by decide) (br_f (by decide) (br_f (by decide) (br_f (by decide) (br_f (by decide) (br_f (by decide) (br_t rfl ⟨pk_in t 160 ht, pk_in t 160 ht, ?_⟩)))))))⟩
  exact bm_widenE e8 e9 hd hs h5 (fun b5 b6 hb => H lt b5 b6 hb)
theorem bm_pAdd {d p q : Nat} {kk f : Int32} {c : Bool} (hk : kk = 1 ∧ c = false ∨ kk = 2 ∧ c = true) (ht : t < 160) (hP : (a7 t, a8 t, a9 t, a10 t, a11 t) = (kk, nI d, nI p, nI q, f)) (hd : d < 14) (hp : p < 14) (hq : q < 14) :
    bm_pf l nx st a1 a2 a3 a4 a7 a8 a9 a10 a11 t g (bm_up g d (bm_sum (g p) (g q) c)) := by
  intro Q lt a5 a6 h5 H
  have cc : (nI t).toNatClampNeg = t := nI_clamp (by omega)
  have e7 : a7 (nI t).toNatClampNeg = kk := by rw [cc]; exact congrArg (fun p => p.1) hP
  have e8 : a8 (nI t).toNatClampNeg = nI d := by rw [cc]; exact congrArg (fun p => p.2.1) hP
  have e9 : a9 (nI t).toNatClampNeg = nI p := by rw [cc]; exact congrArg (fun p => p.2.2.1) hP
  have e10 : a10 (nI t).toNatClampNeg = nI q := by rw [cc]; exact congrArg (fun p => p.2.2.2.1) hP
  rcases hk with ⟨rfl, rfl⟩ | ⟨rfl, rfl⟩
  · refine ⟨pk_in t 160 ht, nm_r (e' := 1) e7 (br_f (by decide) (br_f (by decide) (br_f (by decide) (br_f (by decide) (br_f (by decide) (br_f (by decide) (br_f (by decide) (br_f (by decide) (br_t rfl ⟨pk_in t 160 ht, pk_in t 160 ht, pk_in t 160 ht, br_f (by decide) ?_⟩)))))))))⟩
    exact bm_addE false e8 e9 e10 hd hp hq h5 (fun lt' b5 b6 hb => H lt' b5 b6 hb)
  · refine ⟨pk_in t 160 ht, nm_r (e' := 2) e7 (br_f (by decide) (br_f (by decide) (br_f (by decide) (br_f (by decide) (br_f (by decide) (br_f (by decide) (br_f (by decide) (br_f (by decide) (br_f (by decide) (br_t rfl ⟨pk_in t 160 ht, pk_in t 160 ht, pk_in t 160 ht, br_t rfl ?_⟩))))))))))⟩
    exact bm_addE true e8 e9 e10 hd hp hq h5 (fun lt' b5 b6 hb => H lt' b5 b6 hb)
theorem bm_turn (hp : bm_pf l nx (nI m) a1 a2 a3 a4 a7 a8 a9 a10 a11 t g g') (hk : k < 160) (ht : t < m) (hm : m ≤ 160)
    (hw : bm_W post l nx (nI m) a1 a2 a3 a4 a7 a8 a9 a10 a11 n (t + 1) (k + 1) g') : bm_W post l nx (nI m) a1 a2 a3 a4 a7 a8 a9 a10 a11 (n + 1) t k g :=
  fun lt a5 a6 h5 => pk_le 160 k (fun z => absurd z (by omega)) (fun _ => pk_le m t (fun z => absurd z (by omega)) (fun _ =>
    hp _ lt a5 a6 h5 (fun lt' b5 b6 hb => br_f (by decide) (nm_r (nI_1 t) (nm_r (nI_1 k) (hw lt' b5 b6 hb))))))
theorem bm_end (hk : k < 160) (hm : m ≤ 160) (H : ∀ lt a5 a6, bm_ok a5 g → post (l, nx, lt, nI m, a1, a2, a3, a4, a5, a6, a7, a8, a9, a10, a11)) :
    bm_W post l nx (nI m) a1 a2 a3 a4 a7 a8 a9 a10 a11 (n + 1) m k g :=
  fun lt a5 a6 h5 => pk_le 160 k (fun z => absurd z (by omega)) (fun _ => pk_le m m (fun _ => H lt a5 a6 h5) (fun z => absurd z (by omega)))
theorem bm_unl {s i : Nat} {f : Int32} (hP : (a7 t, a8 t, a9 t, a10 t, a11 t) = (8, f, nI s, nI i, 1)) (hs : s < 14) (hi : i < 32) (hk : k < 160) (ht : t < m) (hm : m ≤ 160)
    (h1 : (g s).getLsbD i = true → bm_W post l nx (nI m) a1 a2 a3 a4 a7 a8 a9 a10 a11 n (t + 1) (k + 1) g)
    (h0 : (g s).getLsbD i = false → bm_W post l nx (nI m) a1 a2 a3 a4 a7 a8 a9 a10 a11 n (t + 2) (k + 1) g) :
    bm_W post l nx (nI m) a1 a2 a3 a4 a7 a8 a9 a10 a11 (n + 1) t k g := by
  intro lt a5 a6 h5
  have c : (nI t).toNatClampNeg = t := nI_clamp (by omega)
  have e7 : a7 (nI t).toNatClampNeg = 8 := by rw [c]; exact congrArg (fun p => p.1) hP
  have e9 : a9 (nI t).toNatClampNeg = nI s := by rw [c]; exact congrArg (fun p => p.2.2.1) hP
  have e10 : a10 (nI t).toNatClampNeg = nI i := by rw [c]; exact congrArg (fun p => p.2.2.2.1) hP
  have e11 : a11 (nI t).toNatClampNeg = 1 := by rw [c]; exact congrArg (fun p => p.2.2.2.2) hP
  have e5 : a5 ((32 : Int32) * a9 (nI t).toNatClampNeg + a10 (nI t).toNatClampNeg).toNatClampNeg = bm_b ((g s).getLsbD i) := by rw [e9, e10, bm_cl hs hi]; exact h5 s i hs hi
  have ev : vp_in ((32 : Int32) * a9 (nI t).toNatClampNeg + a10 (nI t).toNatClampNeg) 448 := by rw [e9, e10]; exact bm_in hs hi
  have et : nI t + (1 + a11 (nI t).toNatClampNeg) = nI (t + 2) := by rw [e11, ← nI_add]; rfl
  refine pk_le 160 k (fun z => absurd z (by omega)) (fun _ => pk_le m t (fun z => absurd z (by omega)) (fun _ => ?_))
  exact ⟨pk_in t 160 (by omega), nm_r (e' := 8) e7 (br_t rfl ⟨pk_in t 160 (by omega), pk_in t 160 (by omega), ev, (by rw [e5]; exact bm_narrow _), bm_br ((g s).getLsbD i) e5
    (fun z => ⟨pk_in t 160 (by omega), nm_r et (nm_r (nI_1 k) (h0 z lt a5 a6 h5))⟩)
    (fun z => nm_r (nI_1 t) (nm_r (nI_1 k) (h1 z lt a5 a6 h5)))⟩)⟩
theorem bm_mul {d s : Int32} {X Y : BitVec 32} {G : Nat → BitVec 32} (hP : bm_pg a7 a8 a9 a10 a11 (bm_P d s) 101)
    (H : ∀ n k g', n + k = 170 → k ≤ 99 → g' 10 = X * Y → (∀ r, r < 8 → g' r = G r) → bm_W post l nx (nI 101) a1 a2 a3 a4 a7 a8 a9 a10 a11 n 99 k g') :
    ∀ j i n k g, i + j = 32 → n + k = 170 → k ≤ 3 + 3 * i → g 8 = X <<< i → g 9 = Y → g 10 = bm_m X Y i → (∀ r, r < 8 → g r = G r) → bm_W post l nx (nI 101) a1 a2 a3 a4 a7 a8 a9 a10 a11 n (3 + 3 * i) k g := by
  intro j
  induction j with
  | zero =>
    intro i n k g hij hn hk h8 h9 h10 hG
    have e : i = 32 := by omega
    subst e
    exact H n k g hn hk (by rw [h10, bm_mE]) hG
  | succ j ih =>
    intro i n k g hij hn hk h8 h9 h10 hG
    have hi : i < 32 := by omega
    have mv : ∀ q : Nat → BitVec 32, q 8 = X <<< i → bm_mv (q 8) (X <<< (i + 1)) 1 := by
      intro q hq
      rw [hq, BitVec.shiftLeft_add]
      exact bm_mvU (X <<< i) (k := 1) (by omega)
    have tail : ∀ n k q, n + k = 170 → k ≤ 3 + 3 * i + 2 → q 8 = X <<< i → q 9 = Y → q 10 = bm_m X Y (i + 1) → (∀ r, r < 8 → q r = G r) → bm_W post l nx (nI 101) a1 a2 a3 a4 a7 a8 a9 a10 a11 n (3 + 3 * i + 2) k q := by
      intro n k q hn hk h8 h9 h10 hG
      obtain ⟨n', rfl⟩ : ∃ n', n = n' + 1 := ⟨n - 1, by omega⟩
      refine bm_turn (g' := bm_up q 8 (X <<< (i + 1))) (bm_pMove (d := 8) (s := 8) (y := 1) (f := 0) (by omega) ((hP _ (by omega)).trans (bm_P2 hi).symm) (by omega) (by omega) (mv q h8)) (by omega) (by omega) (by omega) ?_
      have w := ih (i + 1) n' (k + 1) (bm_up q 8 (X <<< (i + 1))) (by omega) (by omega) (by omega) bm_us (by rw [bm_un (by omega), h9]) (by rw [bm_un (by omega), h10]) (fun r hr => by rw [bm_un (by omega)]; exact hG r hr)
      rw [show 3 + 3 * (i + 1) = 3 + 3 * i + 2 + 1 by omega] at w
      exact w
    obtain ⟨n', rfl⟩ : ∃ n', n = n' + 1 := ⟨n - 1, by omega⟩
    refine bm_unl (s := 9) (i := i) (f := 0) ((hP _ (by omega)).trans (bm_P0 hi).symm) (by omega) hi (by omega) (by omega) (by omega) (fun z => ?_) (fun z => ?_)
    · obtain ⟨n'', rfl⟩ : ∃ n'', n' = n'' + 1 := ⟨n' - 1, by omega⟩
      refine bm_turn (g' := bm_up g 10 (bm_sum (g 10) (g 8) false)) (bm_pAdd (d := 10) (p := 10) (q := 8) (kk := 1) (f := 0) (Or.inl ⟨rfl, rfl⟩) (by omega) ((hP _ (by omega)).trans (bm_P1 hi).symm) (by omega) (by omega) (by omega)) (by omega) (by omega) (by omega) ?_
      refine tail n'' (k + 1 + 1) _ (by omega) (by omega) (by rw [bm_un (by omega), h8]) (by rw [bm_un (by omega), h9]) ?_ (fun r hr => by rw [bm_un (by omega)]; exact hG r hr)
      rw [bm_us, bm_sumF, h10, h8]
      show _ = bm_m X Y i + (if Y.getLsbD i then X <<< i else 0)
      rw [← h9, if_pos z]
    · refine tail n' (k + 1) g (by omega) (by omega) h8 h9 ?_ hG
      rw [h10]
      show _ = bm_m X Y i + (if Y.getLsbD i then X <<< i else 0)
      rw [← h9, if_neg (by rw [z]; exact Bool.false_ne_true)]
      exact (BitVec.add_zero _).symm
end
end
section
/-- what a line of operation op makes of two registers, ahead of the widening -/
def bm_R (op : Nat) (x y : BitVec 32) : BitVec 32 := if op = 2 then x + y else if op = 3 then x - y else if op = 4 then x * y else (x * y) >>> 16
section
variable {post : St2 → Prop} {l nx lt st : Int32} {a1 a2 a3 a4 a5 a6 a7 a8 a9 a10 a11 : Nat → Int32} {g : Nat → BitVec 32}
theorem bm_runA {kk : Int32} {c : Bool} {d : Nat} (hk : kk = 1 ∧ c = false ∨ kk = 2 ∧ c = true) (hd : d < 8) (hP : bm_pg a7 a8 a9 a10 a11 (bm_A kk (nI d)) 2) (h5 : bm_ok a5 g)
    (H : ∀ lt' b5 b6 g', bm_ok b5 g' → (∀ r, r < 8 → g' r = if r = d then bm_w (bm_sum (g 3) (g 4) c) else g r) → post (l, nx, lt', nI 2, a1, a2, a3, a4, b5, b6, a7, a8, a9, a10, a11)) :
    wpX_performAll post (l, nx, lt, nI 2, a1, a2, a3, a4, a5, a6, a7, a8, a9, a10, a11) := by
  have w : bm_W post l nx (nI 2) a1 a2 a3 a4 a7 a8 a9 a10 a11 170 0 0 g := by
    refine bm_turn (n := 169) (g' := bm_up g 8 (bm_sum (g 3) (g 4) c)) (bm_pAdd (d := 8) (p := 3) (q := 4) (kk := kk) (f := 0) hk (by omega) (hP 0 (by omega)) (by omega) (by omega) (by omega)) (by omega) (by omega) (by omega) ?_
    refine bm_turn (n := 168) (bm_pWiden (d := d) (s := 8) (y := 0) (f := 0) (by omega) (hP 1 (by omega)) (by omega) (by omega)) (by omega) (by omega) (by omega) ?_
    refine bm_end (n := 167) (by omega) (by omega) (fun lt' b5 b6 hb => H lt' b5 b6 _ hb (fun r hr => ?_))
    by_cases e : r = d
    · rw [e, bm_us, bm_us, if_pos rfl]
    · rw [bm_un e, bm_un (by omega), if_neg e]
  exact ⟨170, w lt a5 a6 h5⟩
theorem bm_runM {s : Int32} {v : BitVec 32} {d : Nat} (hv : bm_mv (g 3 * g 4) v s) (hd : d < 8) (hP : bm_pg a7 a8 a9 a10 a11 (bm_P (nI d) s) 101) (h5 : bm_ok a5 g)
    (H : ∀ lt' b5 b6 g', bm_ok b5 g' → (∀ r, r < 8 → g' r = if r = d then bm_w v else g r) → post (l, nx, lt', nI 101, a1, a2, a3, a4, b5, b6, a7, a8, a9, a10, a11)) :
    wpX_performAll post (l, nx, lt, nI 101, a1, a2, a3, a4, a5, a6, a7, a8, a9, a10, a11) := by
  have tail : ∀ n k g', n + k = 170 → k ≤ 99 → g' 10 = g 3 * g 4 → (∀ r, r < 8 → g' r = g r) → bm_W post l nx (nI 101) a1 a2 a3 a4 a7 a8 a9 a10 a11 n 99 k g' := by
    intro n k q hn hk h10 hG
    obtain ⟨n', rfl⟩ : ∃ n', n = n' + 1 + 1 + 1 := ⟨n - 3, by omega⟩
    refine bm_turn (g' := bm_up q 10 v) (bm_pMove (d := 10) (s := 10) (y := s) (f := 0) (by omega) (hP 99 (by omega)) (by omega) (by omega) (by rw [h10]; exact hv)) (by omega) (by omega) (by omega) ?_
    refine bm_turn (bm_pWiden (d := d) (s := 10) (y := 0) (f := 0) (by omega) (hP 100 (by omega)) (by omega) (by omega)) (by omega) (by omega) (by omega) ?_
    refine bm_end (by omega) (by omega) (fun lt' b5 b6 hb => H lt' b5 b6 _ hb (fun r hr => ?_))
    by_cases e : r = d
    · rw [e, bm_us, bm_us, if_pos rfl]
    · rw [bm_un e, bm_un (by omega), if_neg e]
      exact hG r hr
  have w : bm_W post l nx (nI 101) a1 a2 a3 a4 a7 a8 a9 a10 a11 170 0 0 g := by
    refine bm_turn (n := 169) (g' := bm_up g 8 (g 3 <<< 0)) (bm_pMove (d := 8) (s := 3) (y := nI 0) (f := 0) (by omega) (hP 0 (by omega)) (by omega) (by omega) (bm_mvU _ (by omega))) (by omega) (by omega) (by omega) ?_
    refine bm_turn (n := 168) (g' := bm_up (bm_up g 8 (g 3 <<< 0)) 9 (bm_up g 8 (g 3 <<< 0) 4 <<< 0)) (bm_pMove (d := 9) (s := 4) (y := nI 0) (f := 0) (by omega) (hP 1 (by omega)) (by omega) (by omega) (bm_mvU _ (by omega))) (by omega) (by omega) (by omega) ?_
    refine bm_turn (n := 167) (bm_pLoad (r := 10) (x := 0) (f := 0) (s := 0) (by omega) (hP 2 (by omega)) (by omega)) (by omega) (by omega) (by omega) ?_
    refine bm_mul (X := g 3) (Y := g 4) (G := g) hP tail 32 0 167 3 _ (by omega) (by omega) (by omega) ?_ ?_ ?_ ?_
    · rw [bm_un (by omega), bm_un (by omega), bm_us]
    · rw [bm_un (by omega), bm_us, BitVec.shiftLeft_zero, bm_un (by omega)]
    · rw [bm_us]; rfl
    · intro r hr
      rw [bm_un (by omega), bm_un (by omega), bm_un (by omega)]
  exact ⟨170, w lt a5 a6 h5⟩
theorem bm_carry {op d : Nat} (ho : 2 ≤ op) (hp : op ≤ 5) (hd : d < 8) (h1 : a1 0 = nI op) (h2 : a2 0 = nI d) (h3 : a3 0 = 3) (h4 : a4 0 = 12) (h5 : bm_ok a5 g)
    (H : ∀ lt' st' b5 b6 b7 b8 b9 b10 b11 g', bm_ok b5 g' → (∀ r, r < 8 → g' r = if r = d then bm_w (bm_R op (g 3) (g 4)) else g r) → post (l, 1, lt', st', a1, a2, a3, a4, b5, b6, b7, b8, b9, b10, b11)) :
    wpX_carryOut post (l, nx, lt, st, a1, a2, a3, a4, a5, a6, a7, a8, a9, a10, a11) 0 := by
  have add : ∀ (kk : Int32) (c : Bool), (kk = 1 ∧ c = false ∨ kk = 2 ∧ c = true) → (nI op = 2 ∧ kk = 1 ∨ nI op = 3 ∧ kk = 2) → bm_R op (g 3) (g 4) = bm_sum (g 3) (g 4) c → wpX_carryOut post (l, nx, lt, st, a1, a2, a3, a4, a5, a6, a7, a8, a9, a10, a11) 0 := by
    intro kk c e1 e2 e3
    refine ⟨pk_in 0 32 (by omega), nm_r (e' := nI op) (by rw [sb_cl0]; exact h1) (br_t (nI_lt (b := 17) (by omega) (by omega)) ?_)⟩
    refine bm_trA h1 h2 h3 h4 e2 (fun b7 b8 b9 b10 b11 hP => ?_)
    refine bm_runA e1 hd hP h5 (fun lt' b5 b6 g' hb hg => ?_)
    exact nm_r (e' := 1) rfl (H lt' _ b5 b6 b7 b8 b9 b10 b11 g' hb (by rw [e3]; exact hg))
  have mul : ∀ (s : Int32) (v : BitVec 32), (nI op = 4 ∧ s = 0 ∨ nI op = 5 ∧ s = -16) → bm_mv (g 3 * g 4) v s → bm_R op (g 3) (g 4) = v → wpX_carryOut post (l, nx, lt, st, a1, a2, a3, a4, a5, a6, a7, a8, a9, a10, a11) 0 := by
    intro s v e1 e2 e3
    refine ⟨pk_in 0 32 (by omega), nm_r (e' := nI op) (by rw [sb_cl0]; exact h1) (br_t (nI_lt (b := 17) (by omega) (by omega)) ?_)⟩
    refine bm_trM h1 h2 h3 h4 e1 (fun b7 b8 b9 b10 b11 hP => ?_)
    refine bm_runM e2 hd hP h5 (fun lt' b5 b6 g' hb hg => ?_)
    exact nm_r (e' := 1) rfl (H lt' _ b5 b6 b7 b8 b9 b10 b11 g' hb (by rw [e3]; exact hg))
  have hc : op = 2 ∨ op = 3 ∨ op = 4 ∨ op = 5 := by omega
  rcases hc with e | e | e | e
  · exact add 1 false (Or.inl ⟨rfl, rfl⟩) (Or.inl ⟨by rw [e]; rfl, rfl⟩) (by rw [e, bm_sumF]; rfl)
  · exact add 2 true (Or.inr ⟨rfl, rfl⟩) (Or.inr ⟨by rw [e]; rfl, rfl⟩) (by rw [e, bm_sumT]; rfl)
  · exact mul 0 (g 3 * g 4) (Or.inl ⟨by rw [e]; rfl, rfl⟩) (by have w := bm_mvU (g 3 * g 4) (k := 0) (by omega); rw [BitVec.shiftLeft_zero] at w; exact w) (by rw [e]; rfl)
  · exact mul (-16) ((g 3 * g 4) >>> 16) (Or.inr ⟨by rw [e]; rfl, rfl⟩) (bm_mvD _) (by rw [e]; rfl)
end
section
variable {post : Int32 → St2 → Prop} {l nx lt st b : Int32} {a1 a2 a3 a4 a5 a6 a7 a8 a9 a10 a11 : Nat → Int32} {g : Nat → BitVec 32}
theorem bm_run0 (hb : b < 1) (H : post 0 (l, nx, lt, st, a1, a2, a3, a4, a5, a6, a7, a8, a9, a10, a11)) :
    wpX_run post (l, nx, lt, st, a1, a2, a3, a4, a5, a6, a7, a8, a9, a10, a11) b := by
  have hb' : b ≤ 0 := by
    rw [Int32.lt_iff_toInt_lt] at hb
    rw [Int32.le_iff_toInt_le]
    have e1 : (1 : Int32).toInt = 1 := rfl
    have e0 : (0 : Int32).toInt = 0 := rfl
    omega
  refine br_c (fun h0 => br_t ?_ ⟨1, br_t hb' H⟩) (fun h0 => ⟨1, br_t (by decide) H⟩)
  rw [Int32.le_iff_toInt_le] at hb' ⊢
  have e6 : (60 : Int32).toInt = 60 := rfl
  have e0 : (0 : Int32).toInt = 0 := rfl
  omega
theorem bm_run1 {op d : Nat} (hb : ¬ b < 1) (ho : 2 ≤ op) (hp : op ≤ 5) (hd : d < 8) (h1 : a1 0 = nI op) (h2 : a2 0 = nI d) (h3 : a3 0 = 3) (h4 : a4 0 = 12) (h5 : bm_ok a5 g)
    (H : ∀ lt' st' b5 b6 b7 b8 b9 b10 b11 g', bm_ok b5 g' → (∀ r, r < 8 → g' r = if r = d then bm_w (bm_R op (g 3) (g 4)) else g r) → post 1 (1, 1, lt', st', a1, a2, a3, a4, b5, b6, b7, b8, b9, b10, b11)) :
    wpX_run post (1, 0, lt, st, a1, a2, a3, a4, a5, a6, a7, a8, a9, a10, a11) b := by
  have e1 : (1 : Int32).toInt = 1 := rfl
  have e0 : (0 : Int32).toInt = 0 := rfl
  have hb' : ¬ b ≤ 0 := by
    rw [Int32.lt_iff_toInt_lt] at hb
    rw [Int32.le_iff_toInt_le]
    omega
  have key : ∀ x : Int32, ¬ x ≤ 0 → ∃ fu, wX_run_26 post x fu 0 0 1 0 lt st a1 a2 a3 a4 a5 a6 a7 a8 a9 a10 a11 := by
    intro x hx
    refine ⟨2, br_f hx (br_f (by decide) ?_)⟩
    refine bm_carry ho hp hd h1 h2 h3 h4 h5 (fun lt' st' b5 b6 b7 b8 b9 b10 b11 g' hb hg => ?_)
    have w := H lt' st' b5 b6 b7 b8 b9 b10 b11 g' hb hg
    exact nm_r (e' := 1) rfl (nm_r (e' := 1) rfl (br_c (fun _ => w) (fun _ => br_t (by decide) w)))
  refine br_t ?_ (br_c (fun _ => key b hb') (fun _ => key 60 (by decide)))
  rw [Int32.le_iff_toInt_le] at hb' ⊢
  omega
end
end
section
theorem bm_nb (v : BitVec 32) {i : Nat} (hi : i < 16) : nI 2 * nI (v.toNat % 65536 / 2 ^ (i + 1)) + bm_b (v.getLsbD i) = nI (v.toNat % 65536 / 2 ^ i) := by
  have hb : bm_b (v.getLsbD i) = nI (v.toNat % 65536 / 2 ^ i % 2) := by
    have e : v.getLsbD i = (v.toNat % 65536).testBit i := by
      rw [show (65536 : Nat) = 2 ^ 16 from rfl, Nat.testBit_mod_two_pow, decide_eq_true hi, ← BitVec.testBit_toNat]
      rfl
    rw [e, Nat.testBit_eq_decide_div_mod_eq]
    rcases Nat.mod_two_eq_zero_or_one (v.toNat % 65536 / 2 ^ i) with e | e
    · rw [e]; rfl
    · rw [e]; rfl
  rw [hb, pk_mul, nI_add, Nat.pow_succ, ← Nat.div_div_eq_div_mul]
  congr 1
  omega
theorem bm_wN (v : BitVec 32) : (v.toNat % 65536 < 32768 → Int32.ofBitVec (bm_w v) = nI (v.toNat % 65536)) ∧ (32768 ≤ v.toNat % 65536 → Int32.ofBitVec (bm_w v) = nI (v.toNat % 65536) - 65536) := by
  have e : (Int32.ofBitVec (bm_w v)).toInt = Int.bmod v.toNat 65536 := by
    show (bm_w v).toInt = _
    unfold bm_w
    rw [BitVec.toInt_signExtend_of_le (by omega), BitVec.toInt_setWidth]
  have e1 : (nI (v.toNat % 65536)).toInt = ((v.toNat % 65536 : Nat) : Int) := nI_toInt (by omega)
  have e2 : (nI (v.toNat % 65536) - 65536).toInt = ((v.toNat % 65536 : Nat) : Int) - (65536 : Nat) := pk_sub_toInt (a := v.toNat % 65536) (b := 65536) (by omega) (by omega)
  rw [Int.bmod_def] at e
  constructor
  · intro h
    apply Int32.toInt_inj.mp
    rw [e, e1]
    split <;> omega
  · intro h
    apply Int32.toInt_inj.mp
    rw [e, e2]
    split <;> omega
theorem bm_ww (v : BitVec 32) : bm_w (bm_w v) = bm_w v := by
  apply BitVec.eq_of_getLsbD_eq
  intro i hi
  rcases Nat.lt_or_ge i 16 with h | h
  · rw [bm_wl _ h]
  · rw [bm_wh _ h hi, bm_wh _ h hi, bm_wl _ (by omega)]
theorem bm_wlow {x y : BitVec 32} (h : ∀ i, i < 16 → x.getLsbD i = y.getLsbD i) : bm_w x = bm_w y := by
  apply BitVec.eq_of_getLsbD_eq
  intro i hi
  rcases Nat.lt_or_ge i 16 with z | z
  · rw [bm_wl _ z, bm_wl _ z, h i z]
  · rw [bm_wh _ z hi, bm_wh _ z hi, h 15 (by omega)]
/-- the law's own result, as it computes it -/
def bm_RI (op : Nat) (x y : Int32) : Int32 := if op = 2 then x + y else if op = 3 then x - y else if op = 4 then x * y else (x * y) >>> ((16 : Int32) &&& 31)
theorem bm_Req (op : Nat) (x y : BitVec 32) : bm_w (bm_R op x y) = bm_w (bm_RI op (Int32.ofBitVec x) (Int32.ofBitVec y)).toBitVec := by
  unfold bm_R bm_RI
  by_cases e2 : op = 2
  · rw [if_pos e2, if_pos e2]; rfl
  · rw [if_neg e2, if_neg e2]
    by_cases e3 : op = 3
    · rw [if_pos e3, if_pos e3]; rfl
    · rw [if_neg e3, if_neg e3]
      by_cases e4 : op = 4
      · rw [if_pos e4, if_pos e4]; rfl
      · rw [if_neg e4, if_neg e4]
        apply bm_wlow
        intro i hi
        rw [Int32.toBitVec_shiftRight, BitVec.getLsbD_ushiftRight]
        show _ = ((x * y).sshiftRight 16).getLsbD i
        rw [BitVec.getLsbD_sshiftRight, decide_eq_false (by omega), if_pos (by omega)]
        rfl
theorem bm_wrap {post : Int32 → Prop} {u : St0} {x : Int32} (H : post (Int32.ofBitVec (bm_w x.toBitVec))) : wpL_wrapped post u x := by
  refine nm_r (e' := nI (x.toBitVec.toNat % 65536)) (pk_and x 16 (by decide)) ?_
  refine pk_le (x.toBitVec.toNat % 65536) 32767 (fun h => ?_) (fun h => ?_)
  · rw [(bm_wN _).1 (by omega)] at H
    exact H
  · rw [(bm_wN _).2 (by omega)] at H
    exact H
section
variable {post : Int32 → Prop} {l nx lt st : Int32} {a1 a2 a3 a4 a5 a6 a7 a8 a9 a10 a11 : Nat → Int32} {g : Nat → BitVec 32}
theorem bm_uns {r : Nat} {z : Int32} (hz : z = nI r) (hr : r < 14) (h5 : bm_ok a5 g) (H : post (nI ((g r).toNat % 65536))) :
    wpX_unsigned post (l, nx, lt, st, a1, a2, a3, a4, a5, a6, a7, a8, a9, a10, a11) z := by
  subst hz
  refine ⟨17, pk_loopD (fun n i s => wX_unsigned_5 post (nI r) l nx lt st a1 a2 a3 a4 a5 a6 a7 a8 a9 a10 a11 n s (nI i + (-1))) (fun i s => i ≤ 16 ∧ s = nI ((g r).toNat % 65536 / 2 ^ i)) ?_ ?_ 16 0 ⟨by omega, ?_⟩⟩
  · intro n s h
    obtain ⟨_, rfl⟩ := h
    refine br_t (by decide) ?_
    rw [Nat.pow_zero, Nat.div_one]
    exact H
  · intro n i s h hw
    obtain ⟨hi, rfl⟩ := h
    show wX_unsigned_5 post (nI r) l nx lt st a1 a2 a3 a4 a5 a6 a7 a8 a9 a10 a11 (n + 1) _ (nI (i + 1) + (-1))
    rw [pk_m1]
    have nb := bm_nb (g r) (i := i) (by omega)
    refine br_f (nI_pos (by omega)) ⟨bm_in hr (by omega), bm_br ((g r).getLsbD i) (by rw [bm_cl hr (by omega), h5 r i hr (by omega)]) (fun z => ?_) (fun z => ?_)⟩
    · rw [z] at nb
      exact nm_r nb (nm_e (hw _ ⟨by omega, rfl⟩))
    · rw [z] at nb
      exact nm_r nb (nm_e (hw _ ⟨by omega, rfl⟩))
  · rw [Nat.div_eq_of_lt (by omega)]
    rfl
theorem bm_get {r : Nat} {z : Int32} (hz : z &&& 7 = nI r) (hr : r < 14) (h5 : bm_ok a5 g) (H : post (Int32.ofBitVec (bm_w (g r)))) :
    wpX_get post (l, nx, lt, st, a1, a2, a3, a4, a5, a6, a7, a8, a9, a10, a11) z := by
  refine bm_uns hz hr h5 (pk_lt ((g r).toNat % 65536) 32768 (fun h => ?_) (fun h => ?_))
  · rw [(bm_wN _).1 h] at H
    exact H
  · rw [(bm_wN _).2 h] at H
    exact H
end
section
variable {post : St2 → Prop} {l nx lt st : Int32} {a1 a2 a3 a4 a5 a6 a7 a8 a9 a10 a11 : Nat → Int32} {g : Nat → BitVec 32}
theorem bm_set {r : Nat} {z x : Int32} (hz : z &&& 7 = nI r) (hr : r < 8) (h5 : bm_ok a5 g)
    (H : ∀ b5 b6 g', bm_ok b5 g' → (∀ q, q < 8 → g' q = if q = r then bm_w x.toBitVec else g q) → post (l, nx, lt, st, a1, a2, a3, a4, b5, b6, a7, a8, a9, a10, a11)) :
    wpX_set post (l, nx, lt, st, a1, a2, a3, a4, a5, a6, a7, a8, a9, a10, a11) z x := by
  unfold wpX_set
  refine bm_loadE (r := 8) rfl (by omega) h5 (fun b5 hb => ?_)
  refine bm_widenE (d := r) (s := 8) hz rfl (by omega) (by omega) hb (fun c5 c6 hc => H c5 c6 _ hc (fun q hq => ?_))
  by_cases e : q = r
  · rw [e, bm_us, bm_us, if_pos rfl]
  · rw [bm_un e, bm_un (by omega), if_neg e]
end
section
variable {post : Int32 → St2 → Prop} {l nx lt st : Int32} {a1 a2 a3 a4 a5 a6 a7 a8 a9 a10 a11 : Nat → Int32}
theorem bm_emit {op : Nat} {p1 p2 p3 : Int32} (hp : op ≤ 5) (H : post 1 (1, nx, lt, st, upd a1 0 (nI op), upd a2 0 (p1 &&& 7), upd a3 0 p2, upd a4 0 p3, a5, a6, a7, a8, a9, a10, a11)) :
    wpX_emit post (0, nx, lt, st, a1, a2, a3, a4, a5, a6, a7, a8, a9, a10, a11) (nI op) p1 p2 p3 :=
  br_f (nI_pos (by omega)) (br_f (nI_nlt (a := 18) (by omega) (by omega)) (br_t (by decide) ⟨pk_in 0 32 (by omega), nm_r (e' := upd a1 0 (nI op)) (by rw [sb_cl0]) ⟨pk_in 0 32 (by omega), nm_r (e' := upd a2 0 (p1 &&& 7)) (by rw [sb_cl0]) ⟨pk_in 0 32 (by omega), nm_r (e' := upd a3 0 p2) (by rw [sb_cl0]) ⟨pk_in 0 32 (by omega), nm_r (e' := upd a4 0 p3) (by rw [sb_cl0]) (nm_r (e' := 1) rfl H)⟩⟩⟩⟩))
end
end
section
section
variable {post : Int32 → St0 → Prop} {mc ms kc ks : Nat} {l nx lt st : Int32} {a1 a2 a3 a4 a5 a6 a7 a8 a9 a10 a11 : Nat → Int32} {g : Nat → BitVec 32} {dn : Bool} {d : Nat} {x1 X Y V z0 z1 : Int32}
theorem bm_249 (hd : d < 8) (h5 : bm_ok a5 g) (e4 : Int32.ofBitVec (bm_w (g 4)) = if dn = true ∧ d = 4 then V else Y) (H : post 1 ()) (hz : z1 = z0) :
    wL_lawOf_249 post mc ms Y (bm_b dn) (nI d) V z0 z1 kc ks l nx lt st a1 a2 a3 a4 a5 a6 a7 a8 a9 a10 a11 := by
  unfold wL_lawOf_249
  refine br_t hz (bm_get (r := 4) rfl (by omega) h5 ?_)
  refine bm_br dn rfl (fun z => ?_) (fun z => pk_eq d 4 (fun w => ?_) (fun w => ?_))
  · exact br_t (by rw [e4, if_neg (fun t => absurd (z.symm.trans t.1) Bool.false_ne_true)]) H
  · exact br_t (by rw [e4, if_pos ⟨z, w⟩]) H
  · exact br_t (by rw [e4, if_neg (fun t => w t.2)]) H
theorem bm_247 (hd : d < 8) (h5 : bm_ok a5 g) (e4 : Int32.ofBitVec (bm_w (g 4)) = if dn = true ∧ d = 4 then V else Y) (H : post 1 ()) (hz : z0 = X) :
    wL_lawOf_247 post mc ms X Y (bm_b dn) (nI d) V z0 kc ks l nx lt st a1 a2 a3 a4 a5 a6 a7 a8 a9 a10 a11 := by
  unfold wL_lawOf_247
  exact bm_249 hd h5 e4 H hz
theorem bm_220 (hd : d < 8) (h5 : bm_ok a5 g) (e3 : Int32.ofBitVec (bm_w (g 3)) = if dn = true ∧ d = 3 then V else X) (e4 : Int32.ofBitVec (bm_w (g 4)) = if dn = true ∧ d = 4 then V else Y) (H : post 1 ()) (hz : z1 = z0) :
    wL_lawOf_220 post mc ms X Y (bm_b dn) (nI d) V z0 z1 kc ks l nx lt st a1 a2 a3 a4 a5 a6 a7 a8 a9 a10 a11 := by
  unfold wL_lawOf_220
  refine br_t hz (bm_get (r := 3) rfl (by omega) h5 ?_)
  refine bm_br dn rfl (fun z => ?_) (fun z => pk_eq d 3 (fun w => ?_) (fun w => ?_))
  · exact bm_247 hd h5 e4 H (by rw [e3, if_neg (fun t => absurd (z.symm.trans t.1) Bool.false_ne_true)])
  · exact bm_249 hd h5 e4 H (by rw [e3, if_pos ⟨z, w⟩])
  · exact bm_247 hd h5 e4 H (by rw [e3, if_neg (fun t => w t.2)])
theorem bm_193 {R B : Int32} (hx : x1 &&& 7 = nI d) (hd : d < 8) (h5 : bm_ok a5 g) (hV : V = Int32.ofBitVec (bm_w R.toBitVec)) (e1 : Int32.ofBitVec (bm_w (g d)) = if dn = true then V else B) (e3 : Int32.ofBitVec (bm_w (g 3)) = if dn = true ∧ d = 3 then V else X) (e4 : Int32.ofBitVec (bm_w (g 4)) = if dn = true ∧ d = 4 then V else Y) (H : post 1 ()) :
    wL_lawOf_193 post mc ms x1 X Y (bm_b dn) R (nI d) B kc ks l nx lt st a1 a2 a3 a4 a5 a6 a7 a8 a9 a10 a11 := by
  unfold wL_lawOf_193
  refine bm_wrap (bm_get (r := d) hx (by omega) h5 ?_)
  rw [← hV]
  refine bm_br dn rfl (fun z => ?_) (fun z => ?_)
  · exact bm_220 hd h5 e3 e4 H (by rw [e1, if_neg (by rw [z]; exact Bool.false_ne_true)])
  · exact bm_220 hd h5 e3 e4 H (by rw [e1, if_pos z])
theorem bm_162 {R : Int32} (hx : x1 &&& 7 = nI d) (hd : d < 8) (h5 : bm_ok a5 g) (hV : V = Int32.ofBitVec (bm_w R.toBitVec)) (e1 : Int32.ofBitVec (bm_w (g d)) = if dn = true then V else if d = 3 then X else if d = 4 then Y else 0) (e3 : Int32.ofBitVec (bm_w (g 3)) = if dn = true ∧ d = 3 then V else X) (e4 : Int32.ofBitVec (bm_w (g 4)) = if dn = true ∧ d = 4 then V else Y) (H : post 1 ()) :
    wL_lawOf_162 post mc ms x1 X Y (bm_b dn) R kc ks l nx lt st a1 a2 a3 a4 a5 a6 a7 a8 a9 a10 a11 := by
  unfold wL_lawOf_162
  refine nm_r (e' := nI d) hx (pk_eq d 3 (fun w => ?_) (fun w => pk_eq d 4 (fun w4 => ?_) (fun w4 => ?_)))
  · exact bm_193 hx hd h5 hV (by rw [e1, if_pos w]) e3 e4 H
  · exact bm_193 hx hd h5 hV (by rw [e1, if_neg w, if_pos w4]) e3 e4 H
  · exact bm_193 hx hd h5 hV (by rw [e1, if_neg w, if_neg w4]) e3 e4 H
theorem bm_107 {op : Nat} (ho : 2 ≤ op) (hp : op ≤ 5) (hx : x1 &&& 7 = nI d) (hd : d < 8) (h5 : bm_ok a5 g) (hV : V = Int32.ofBitVec (bm_w (bm_RI op X Y).toBitVec)) (e1 : Int32.ofBitVec (bm_w (g d)) = if dn = true then V else if d = 3 then X else if d = 4 then Y else 0) (e3 : Int32.ofBitVec (bm_w (g 3)) = if dn = true ∧ d = 3 then V else X) (e4 : Int32.ofBitVec (bm_w (g 4)) = if dn = true ∧ d = 4 then V else Y) (H : post 1 ()) (hz : z1 = z0) :
    wL_lawOf_107 post mc ms x1 (nI op) X Y (bm_b dn) z0 z1 kc ks l nx lt st a1 a2 a3 a4 a5 a6 a7 a8 a9 a10 a11 := by
  unfold wL_lawOf_107
  refine br_t hz (pk_eq op 2 (fun w => ?_) (fun w => pk_eq op 3 (fun w3 => ?_) (fun w3 => pk_eq op 4 (fun w4 => ?_) (fun w4 => ?_))))
  · exact bm_162 hx hd h5 (by rw [hV]; unfold bm_RI; rw [if_pos w]) e1 e3 e4 H
  · exact bm_162 hx hd h5 (by rw [hV]; unfold bm_RI; rw [if_neg w, if_pos w3]) e1 e3 e4 H
  · exact bm_162 hx hd h5 (by rw [hV]; unfold bm_RI; rw [if_neg w, if_neg w3, if_pos w4]) e1 e3 e4 H
  · exact bm_162 hx hd h5 (by rw [hV]; unfold bm_RI; rw [if_neg w, if_neg w3, if_neg w4]) e1 e3 e4 H
theorem bm_89 {op : Nat} {G : Nat → BitVec 32} {x y : BitVec 32} (ho : 2 ≤ op) (hp : op ≤ 5) (hx : x1 &&& 7 = nI d) (hd : d < 8) (h5 : bm_ok a5 g)
    (hg : ∀ r, r < 8 → g r = if dn = true ∧ r = d then bm_w (bm_R op (G 3) (G 4)) else G r) (G3 : G 3 = bm_w x) (G4 : G 4 = bm_w y) (G0 : ∀ r, r < 8 → r ≠ 3 → r ≠ 4 → G r = 0) (H : post 1 ()) :
    wL_lawOf_89 post mc ms x1 (nI op) (Int32.ofBitVec (bm_w x)) (Int32.ofBitVec (bm_w y)) (bm_b dn) (bm_b dn) (bm_b dn) kc ks l (bm_b dn) lt st a1 a2 a3 a4 a5 a6 a7 a8 a9 a10 a11 := by
  have hV : Int32.ofBitVec (bm_w (bm_R op (G 3) (G 4))) = Int32.ofBitVec (bm_w (bm_RI op (Int32.ofBitVec (bm_w x)) (Int32.ofBitVec (bm_w y))).toBitVec) := by
    rw [G3, G4, bm_Req]
  have e1 : Int32.ofBitVec (bm_w (g d)) = if dn = true then Int32.ofBitVec (bm_w (bm_R op (G 3) (G 4))) else if d = 3 then Int32.ofBitVec (bm_w x) else if d = 4 then Int32.ofBitVec (bm_w y) else 0 := by
    rw [hg d hd]
    by_cases c : dn = true
    · rw [if_pos ⟨c, rfl⟩, if_pos c, bm_ww]
    · rw [if_neg (fun t => c t.1), if_neg c]
      by_cases c3 : d = 3
      · rw [if_pos c3, c3, G3, bm_ww]
      · rw [if_neg c3]
        by_cases c4 : d = 4
        · rw [if_pos c4, c4, G4, bm_ww]
        · rw [if_neg c4, G0 d hd c3 c4]
          decide
  have e3 : Int32.ofBitVec (bm_w (g 3)) = if dn = true ∧ d = 3 then Int32.ofBitVec (bm_w (bm_R op (G 3) (G 4))) else Int32.ofBitVec (bm_w x) := by
    rw [hg 3 (by omega)]
    by_cases c : dn = true ∧ d = 3
    · rw [if_pos ⟨c.1, c.2.symm⟩, if_pos c, bm_ww]
    · rw [if_neg (fun t => c ⟨t.1, t.2.symm⟩), if_neg c, G3, bm_ww]
  have e4 : Int32.ofBitVec (bm_w (g 4)) = if dn = true ∧ d = 4 then Int32.ofBitVec (bm_w (bm_R op (G 3) (G 4))) else Int32.ofBitVec (bm_w y) := by
    rw [hg 4 (by omega)]
    by_cases c : dn = true ∧ d = 4
    · rw [if_pos ⟨c.1, c.2.symm⟩, if_pos c, bm_ww]
    · rw [if_neg (fun t => c ⟨t.1, t.2.symm⟩), if_neg c, G4, bm_ww]
  unfold wL_lawOf_89
  refine br_t rfl (bm_br dn rfl (fun z => ?_) (fun z => ?_))
  · exact bm_107 ho hp hx hd h5 hV e1 e3 e4 H (by rw [z]; rfl)
  · exact bm_107 ho hp hx hd h5 hV e1 e3 e4 H (by rw [z]; rfl)
end
end
section
theorem bm_ok0 : bm_ok (fun _ => 0) (fun _ => 0) := by
  intro r i _ _
  show (0 : Int32) = bm_b ((0#32).getLsbD i)
  rw [BitVec.getLsbD_zero]
  rfl
theorem bm_lawOf {post : Int32 → St0 → Prop} {p0 p1 p2 p3 p4 : Int32} (H : post 1 ()) : wpL_lawOf post 12 1423 () p0 p1 p2 p3 p4 := by
  obtain ⟨j, hj, ej⟩ := pk_andE p0 (m := 3) 2 (by decide)
  obtain ⟨d, hd, ed⟩ := pk_andE p1 (m := 7) 3 (by decide)
  unfold wpL_lawOf
  refine ⟨by omega, by omega, 11, 1408, by omega, by omega, ?_⟩
  refine ⟨by omega, by omega, by omega, by omega, by omega, by omega, by omega, by omega, by omega, by omega, by omega, by omega, by omega, by omega, by omega, by omega, by omega, by omega, by omega, by omega, by omega, by omega, ?_⟩
  refine nm_r (e' := nI (2 + j)) (by rw [ej]; exact nI_add 2 j) ?_
  refine bm_set (r := 3) rfl (by omega) bm_ok0 (fun b5 b6 g1 h1 e1 => ?_)
  refine bm_set (r := 4) rfl (by omega) h1 (fun c5 c6 g2 h2 e2 => ?_)
  refine bm_emit (op := 2 + j) (by omega) ?_
  refine br_t rfl (bm_wrap (bm_wrap ?_))
  have G3 : g2 3 = bm_w p2.toBitVec := by rw [e2 3 (by omega), if_neg (by omega), e1 3 (by omega), if_pos rfl]
  have G4 : g2 4 = bm_w p3.toBitVec := by rw [e2 4 (by omega), if_pos rfl]
  have G0 : ∀ r, r < 8 → r ≠ 3 → r ≠ 4 → g2 r = 0 := by
    intro r hr r3 r4
    rw [e2 r hr, if_neg r4, e1 r hr, if_neg r3]
  refine br_c (fun hb => ?_) (fun hb => ?_)
  · unfold wL_lawOf_70
    refine bm_run0 hb (br_t rfl ?_)
    exact bm_89 (dn := false) (d := d) (op := 2 + j) (g := g2) (G := g2) (by omega) (by omega) ed hd h2 (fun r hr => by rw [if_neg (fun t => absurd t.1 Bool.false_ne_true)]) G3 G4 G0 H
  · unfold wL_lawOf_70
    refine bm_run1 (op := 2 + j) (d := d) (g := g2) hb (by omega) (by omega) hd pk_us (by rw [pk_us]; exact ed) pk_us pk_us h2 (fun lt' st' d5 d6 d7 d8 d9 d10 d11 g3 h3 hg => br_f (by decide) ?_)
    refine bm_89 (dn := true) (d := d) (op := 2 + j) (g := g3) (G := g2) (by omega) (by omega) ed hd h3 (fun r hr => ?_) G3 G4 G0 H
    rw [hg r hr]
    by_cases e : r = d
    · rw [if_pos e, if_pos ⟨rfl, e⟩]
    · rw [if_neg e, if_neg (fun t => e t.2)]
theorem bm_cell {post : Int32 → Prop} {L : Nat} {xs : Nat → Int32} {u : St0} {p : Int32} (j : Nat) (hp : p = nI j) (hj : j < 5) (hL : L ≤ 5) (H : ∀ v, post v) : wpL_cellAt post L xs u p :=
  pk_le L j (fun _ => H _) (fun z => ⟨pk_in j L z hp, H _⟩) rfl hp
theorem i_vc (xs : Nat → Int32) (L : Nat) (hL : L ≤ 5) : wpL_law (fun r => r = 1) L xs := by
  unfold wpL_law
  refine bm_cell 0 rfl (by omega) hL (fun v1 => ?_)
  refine bm_cell 1 rfl (by omega) hL (fun v2 => ?_)
  refine bm_cell 2 rfl (by omega) hL (fun v3 => ?_)
  refine bm_cell 3 rfl (by omega) hL (fun v4 => ?_)
  refine bm_cell 4 rfl (by omega) hL (fun v5 => ?_)
  exact ⟨12, 1423, by omega, by omega, bm_lawOf rfl⟩
end
