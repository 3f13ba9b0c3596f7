section
theorem pk_us {f : Nat → Int32} {k : Nat} {x : Int32} : upd f k x k = x := if_pos rfl
theorem pk_un {f : Nat → Int32} {k j : Nat} {x : Int32} (h : j ≠ k) : upd f k x j = f j := if_neg h
theorem pk_sub {a b : Nat} (h : b ≤ a) : nI a - nI b = nI (a - b) := by
  obtain ⟨c, rfl⟩ : ∃ c, a = c + b := ⟨a - b, by omega⟩
  rw [← nI_add, Int32.add_sub_cancel, Nat.add_sub_cancel]
theorem pk_m1 (n : Nat) : nI (n + 1) + (-1) = nI n := by
  rw [← nI_1, Int32.add_assoc, show (1 : Int32) + (-1) = 0 from rfl, Int32.add_zero]
theorem pk_mul (a b : Nat) : nI a * nI b = nI (a * b) := (Int32.ofNat_mul a b).symm
theorem pk_div {a d : Nat} (ha : a < 2 ^ 31) (h0 : 0 < d) (hd : d < 2 ^ 31) : nI a / nI d = nI (a / d) := by
  apply Int32.toInt_inj.mp
  rw [lg_idiv_nonneg (by rw [nI_toInt ha]; omega) (by rw [nI_toInt hd]; omega), nI_toInt ha, nI_toInt hd, nI_toInt (Nat.lt_of_le_of_lt (Nat.div_le_self a d) ha)]
  first | rfl | exact (Int.natCast_ediv _ _).symm
theorem pk_rem {a d : Nat} (ha : a < 2 ^ 31) (h0 : 0 < d) (hd : d < 2 ^ 31) : nI a - nI a / nI d * nI d = nI (a % d) := by
  rw [pk_div ha h0 hd, pk_mul, pk_sub (Nat.div_mul_le_self a d)]
  exact congrArg nI (by have := Nat.div_add_mod' a d; omega)
theorem pk_tn {n : Nat} (h : n < 2 ^ 32) : (nI n).toBitVec.toNat = n := Nat.mod_eq_of_lt h
theorem pk_and (x : Int32) {m : Int32} (k : Nat) (hm : m.toBitVec.toNat = 2 ^ k - 1) : x &&& m = nI (x.toBitVec.toNat % 2 ^ k) := by
  apply Int32.toBitVec_inj.mp
  apply BitVec.eq_of_toNat_eq
  rw [Int32.toBitVec_and, BitVec.toNat_and, hm, Nat.and_two_pow_sub_one_eq_mod]
  show _ = (BitVec.ofNat 32 _).toNat
  rw [BitVec.toNat_ofNat]
  exact (Nat.mod_eq_of_lt (Nat.lt_of_le_of_lt (Nat.mod_le _ _) x.toBitVec.isLt)).symm
theorem pk_andE (x : Int32) {m : Int32} (k : Nat) (hm : m.toBitVec.toNat = 2 ^ k - 1) : ∃ j : Nat, j < 2 ^ k ∧ x &&& m = nI j := ⟨_, Nat.mod_lt _ (Nat.two_pow_pos k), pk_and x k hm⟩
theorem pk_vb (z : Int32) : vp_nar .byte z.toInt8.toInt32 = z.toInt8.toInt32 := by rw [vp_nar_byte]; simp
def bt (x : Int32) (i : Nat) : Bool := x.toBitVec.getLsbD i
theorem b_ext {x y : Int32} (h : ∀ i, i < 32 → bt x i = bt y i) : x = y := Int32.toBitVec_inj.mp (BitVec.eq_of_getLsbD_eq (fun i hi => h i hi))
theorem b_or (x y : Int32) (i : Nat) : bt (x ||| y) i = (bt x i || bt y i) := by unfold bt; rw [Int32.toBitVec_or, BitVec.getLsbD_or]
theorem b_and (x y : Int32) (i : Nat) : bt (x &&& y) i = (bt x i && bt y i) := by unfold bt; rw [Int32.toBitVec_and, BitVec.getLsbD_and]
theorem b_big {x : Int32} {i : Nat} (h : 32 ≤ i) : bt x i = false := BitVec.getLsbD_of_ge _ _ h
theorem b_0 (i : Nat) : bt 0 i = false := BitVec.getLsbD_zero
theorem s_l : ∀ n, n < 32 → ((nI n &&& 31).toBitVec.smod 32).toNat = n := by decide +kernel
theorem b_shl (n : Nat) (hn : n < 32) (x : Int32) {i : Nat} (hi : i < 32) : bt (x <<< (nI n &&& 31)) i = (decide (n ≤ i) && bt x (i - n)) := by
  unfold bt
  rw [Int32.toBitVec_shiftLeft]
  show (x.toBitVec <<< ((nI n &&& 31).toBitVec.smod 32).toNat).getLsbD i = _
  rw [s_l n hn, BitVec.getLsbD_shiftLeft]
  rcases Nat.lt_or_ge i n with h | h
  · simp [h, Nat.not_le.mpr h]
  · simp [hi, h, Nat.not_lt.mpr h]
theorem b_sshr (n : Nat) (hn : n < 32) (x : Int32) {i : Nat} (hi : i < 32) : bt (x >>> (nI n &&& 31)) i = if n + i < 32 then bt x (n + i) else bt x 31 := by
  unfold bt
  rw [Int32.toBitVec_shiftRight]
  show (x.toBitVec.sshiftRight ((nI n &&& 31).toBitVec.smod 32).toNat).getLsbD i = _
  rw [s_l n hn, BitVec.getLsbD_sshiftRight, BitVec.msb_eq_getLsbD_last]
  simp [hi]
/-! ===== own rows: small types, the bit test ===== -/
theorem lq_byte {x : Int32} (h1 : -128 ≤ x.toInt) (h2 : x.toInt < 128) : vp_nar .byte x.toInt8.toInt32 = x := by
  rw [pk_vb]
  exact lg_i2b_small h1 h2
theorem lq_byteN {n : Nat} (h : n < 128) : vp_nar .byte (nI n).toInt8.toInt32 = nI n :=
  lq_byte (by rw [nI_toInt (by omega)]; omega) (by rw [nI_toInt (by omega)]; omega)
theorem lq_byteM {n : Nat} (h : n < 128) : vp_nar .byte (nI n) = nI n := by
  rw [vp_nar_byte]
  exact lg_i2b_small (by rw [nI_toInt (by omega)]; omega) (by rw [nI_toInt (by omega)]; omega)
theorem lq_b0 : vp_nar .byte 0 = 0 := by rw [vp_nar_byte]; decide
theorem lq_b1 : vp_nar .byte 1 = 1 := by rw [vp_nar_byte]; decide
theorem lq_b2 : vp_nar .byte 2 = 2 := by rw [vp_nar_byte]; decide
theorem lq_bm : vp_nar .byte (-1) = -1 := by rw [vp_nar_byte]; decide
theorem lq_bmm : vp_nar .byte (-1 : Int32).toInt8.toInt32 = -1 := by rw [vp_nar_byte]; decide
theorem lq_m1T : (-1 : Int32).toInt = -1 := by decide
theorem lq_0T : (0 : Int32).toInt = 0 := by decide
/-- the answer of a roll -/
theorem lq_rl (y : Int32) {d : Nat} (h0 : 0 < d) (hd : d < 100) : ∃ q, q < d ∧ (y &&& 1023) - (y &&& 1023) / nI d * nI d = nI q := by
  obtain ⟨j, hj, e⟩ := pk_andE y (m := 1023) 10 (by decide)
  rw [e]
  exact ⟨j % d, Nat.mod_lt _ h0, pk_rem (Nat.lt_trans hj (by decide)) h0 (by omega)⟩
/-- an address -/
theorem lq_a15 (y : Int32) : ∃ c, c < 16 ∧ y &&& 15 = nI c := pk_andE y (m := 15) 4 (by decide)
theorem lq_b1i : ∀ i, i < 32 → bt 1 i = decide (i = 0) := by decide +kernel
theorem lq_btt {x : Int32} {c : Nat} (hc : c < 16) : (x >>> (nI c &&& 31)) &&& 1 = if bt x c = true then 1 else 0 := by
  apply b_ext
  intro i hi
  rw [b_and, b_sshr c (by omega) x hi, lq_b1i i hi]
  by_cases e : i = 0
  · subst e
    rw [if_pos (by omega)]
    cases hb : bt x c
    · simp [hb]; exact (b_0 0).symm
    · simp [hb]; exact (lq_b1i 0 (by decide)).symm
  · cases hb : bt x c
    · simp [e]; exact b_0 i
    · simp [e]; rw [lq_b1i i hi]; simp [e]
theorem lq_or {x : Int32} {c j : Nat} (hc : c < 16) (hj : j < 16) : ((x ||| ((1 : Int32) <<< (nI c &&& 31))) >>> (nI j &&& 31)) &&& 1 = if j = c then 1 else (x >>> (nI j &&& 31)) &&& 1 := by
  rw [lq_btt hj, lq_btt hj, b_or, b_shl c (by omega) 1 (by omega)]
  by_cases e : j = c
  · subst e
    rw [if_pos rfl, Nat.sub_self, lq_b1i 0 (by decide)]
    simp
  · rw [if_neg e]
    have hz : (decide (c ≤ j) && bt 1 (j - c)) = false := by
      by_cases h : c ≤ j
      · rw [lq_b1i (j - c) (by omega), decide_eq_false (by omega : ¬ j - c = 0), Bool.and_false]
      · rw [decide_eq_false h, Bool.false_and]
    rw [hz, Bool.or_false]
end
section
/-! ===== the pure picture ===== -/
/-- three operands -/
def lq_three (o : Int32) : Prop := o = 6 ∨ (¬ o < 1 ∧ ¬ 3 < o)
/-- a giver is there -/
def lq_th (pr : Nat → Int32) (g : Int32) : Prop := 0 ≤ g → pr g.toNatClampNeg = 2
/-- the value that a giver, or else the register, gives -/
def lq_vl (rg rs : Nat → Int32) (g r : Int32) : Int32 := if 0 ≤ g then rs g.toNatClampNeg else rg r.toNatClampNeg
/-- a giver of instruction i -/
def lq_gv (i : Nat) (g : Int32) : Prop := g = -1 ∨ ∃ k, k < i ∧ g = nI k
/-- the last writer of register r ahead of instruction i -/
def lq_lw (op fx : Nat → Int32) : Nat → Nat → Int32
  | 0, _ => -1
  | i + 1, r => if op i ≠ 5 ∧ (fx i).toNatClampNeg = r then nI i else lq_lw op fx i r
/-- an instruction as emit lets it in -/
def lq_wf (op fx fy fz : Nat → Int32) (i : Nat) : Prop :=
  (op i = 0 ∨ op i = 1 ∨ op i = 2 ∨ op i = 3 ∨ op i = 4 ∨ op i = 5 ∨ op i = 6) ∧ (∃ x, x < 6 ∧ fx i = nI x) ∧
  (op i ≠ 0 → ∃ y, y < 6 ∧ fy i = nI y) ∧ (lq_three (op i) → ∃ z, z < 6 ∧ fz i = nI z)
/-- the givers of instruction i -/
def lq_giv (op fx fy fz gx gy gz : Nat → Int32) (i : Nat) : Prop :=
  gx i = lq_lw op fx i (fx i).toNatClampNeg ∧ (op i = 0 → gy i = -1) ∧ (op i ≠ 0 → gy i = lq_lw op fx i (fy i).toNatClampNeg) ∧
  (lq_three (op i) → gz i = lq_lw op fx i (fz i).toNatClampNeg) ∧ (¬ lq_three (op i) → gz i = -1)
/-- the value of a plain instruction -/
def lq_pl (o y p q x : Int32) : Int32 := if o = 0 then y else if o = 1 then p + q else if o = 2 then p - q else if o = 3 then p * q else if p ≤ 0 then x else q
def lq_need (op gx gy gz pr : Nat → Int32) (i : Nat) : Prop := lq_th pr (gy i) ∧ (op i = 6 → lq_th pr (gx i)) ∧ (lq_three (op i) → lq_th pr (gz i))
def lq_adr (fy fz gy rg rs : Nat → Int32) (i : Nat) : Int32 := (lq_vl rg rs (gy i) (fy i) + fz i) &&& 15
def lq_res (op fx fy fz gx gy gz rg rs : Nat → Int32) (i : Nat) : Int32 :=
  lq_pl (op i) (fy i) (lq_vl rg rs (gy i) (fy i)) (lq_vl rg rs (gz i) (fz i)) (lq_vl rg rs (gx i) (fx i))
/-- a load that is done: no known store between its source and itself writes its cell -/
def lq_ld (op ce pr rs co so : Nat → Int32) (h i : Nat) : Prop :=
  (∀ j, h ≤ j → j < i → op j = 5 → co j = co i → (j : Int) ≤ (so i).toInt) ∧
  ((∃ s, h ≤ s ∧ s < i ∧ so i = nI s ∧ op s = 5 ∧ co s = co i ∧ pr s = 2 ∧ rs i = rs s) ∨ ((so i).toInt < (h : Int) ∧ rs i = ce (co i).toNatClampNeg))
/-- an instruction that hasn't taken effect -/
def lq_ok (op fx fy fz gx gy gz rg ce pr tk rs co so : Nat → Int32) (h i : Nat) : Prop :=
  (pr i = 0 ∧ co i = -1) ∨
  (pr i = 1 ∧ lq_need op gx gy gz pr i ∧ (∃ t, t ≤ 3 ∧ tk i = nI t) ∧ (op i = 5 → co i = -1 ∨ co i = lq_adr fy fz gy rg rs i)) ∨
  (pr i = 2 ∧ lq_need op gx gy gz pr i ∧ (op i = 4 → co i = lq_adr fy fz gy rg rs i ∧ lq_ld op ce pr rs co so h i) ∧
    (op i = 5 → co i = lq_adr fy fz gy rg rs i ∧ lq_th pr (gx i) ∧ rs i = lq_vl rg rs (gx i) (fx i)) ∧
    (op i ≠ 4 → op i ≠ 5 → rs i = lq_res op fx fy fz gx gy gz rg rs i))
/-- the run at head h -/
def lq_inv (L : Nat) (op fx fy fz gx gy gz rg ce pr tk rs co so : Nat → Int32) (h : Nat) : Prop :=
  h ≤ L ∧ (∀ i, i < h → pr i = 2) ∧ (∀ i, h ≤ i → i < L → lq_ok op fx fy fz gx gy gz rg ce pr tk rs co so h i) ∧
  (∀ r, r < 6 → lq_vl rg rs (lq_lw op fx h r) (nI r) = rg r)
/-- what doesn't change in a run -/
def lq_st (L : Nat) (op fx fy fz gx gy gz : Nat → Int32) : Prop :=
  L ≤ 20 ∧ (∀ i, i < L → lq_wf op fx fy fz i) ∧ (∀ i, i < L → lq_giv op fx fy fz gx gy gz i)
/-- set back from a on, below b -/
def lq_sb (a b : Nat) (v : Int32) (f : Nat → Int32) : Nat → Int32 := fun j => if a ≤ j ∧ j < b then v else f j
/-- the written cells -/
def lq_WR (wc : Int32) (wr : Nat → Int32) : Prop := ∀ c, c < 16 → (wc >>> (nI c &&& 31)) &&& 1 = wr c ∧ (wr c = 0 ∨ wr c = 1)
/-- the reference's cell of instruction i -/
def lq_cl (fy fz rg : Nat → Int32) (i : Nat) : Nat := ((rg (fy i).toNatClampNeg + fz i) &&& 15).toNatClampNeg
/-- what instruction i does to the reference's state -/
def lq_nx (op fx fy fz : Nat → Int32) (Q : Int32 → (Nat → Int32) → (Nat → Int32) → (Nat → Int32) → Prop) (i : Nat) (fd : Int32) (rg ce wr : Nat → Int32) : Prop :=
  (op i = 5 → Q fd rg (upd ce (lq_cl fy fz rg i) (rg (fx i).toNatClampNeg)) (upd wr (lq_cl fy fz rg i) 1)) ∧
  (op i = 4 → wr (lq_cl fy fz rg i) = 0 → Q fd (upd rg (fx i).toNatClampNeg (ce (lq_cl fy fz rg i))) ce wr) ∧
  (op i = 4 → ¬ wr (lq_cl fy fz rg i) = 0 → Q (fd + 1) (upd rg (fx i).toNatClampNeg (ce (lq_cl fy fz rg i))) ce wr) ∧
  (op i ≠ 4 → op i ≠ 5 → Q fd (upd rg (fx i).toNatClampNeg (lq_pl (op i) (fy i) (rg (fy i).toNatClampNeg) (rg (fz i).toNatClampNeg) (rg (fx i).toNatClampNeg))) ce wr)
/-- how far the head is from being done -/
def lq_mu (op pr tk co : Nat → Int32) (h : Nat) : Nat :=
  if pr h = 2 then 0 else if pr h = 0 then 6 else min 5 ((tk h).toNatClampNeg + (if op h = 5 ∧ co h < 0 then 2 else 1))
def lq_M (L : Nat) (op pr tk co : Nat → Int32) (h : Nat) : Nat := (L - h) * 7 + lq_mu op pr tk co h
end
section
/-! ===== small facts of the pure picture ===== -/
section
variable {L h i : Nat} {op fx fy fz gx gy gz rg ce pr tk rs co so : Nat → Int32} {pr' tk' rs' co' so' : Nat → Int32}
theorem lq_nm1 : ¬ (0 : Int32) ≤ -1 := by decide
theorem lq_gvm {a b : Nat} {g : Int32} (h : lq_gv a g) (hab : a ≤ b) : lq_gv b g := by
  rcases h with e | ⟨k, hk, e⟩
  · exact Or.inl e
  · exact Or.inr ⟨k, Nat.lt_of_lt_of_le hk hab, e⟩
theorem lq_lwv (r : Nat) : ∀ i : Nat, lq_gv i (lq_lw op fx i r) := by
  intro i
  induction i with
  | zero => exact Or.inl rfl
  | succ i ih =>
    unfold lq_lw
    by_cases c : op i ≠ 5 ∧ (fx i).toNatClampNeg = r
    · rw [if_pos c]
      exact Or.inr ⟨i, Nat.lt_succ_self i, rfl⟩
    · rw [if_neg c]
      exact lq_gvm ih (Nat.le_succ i)
theorem lq_lwn {r : Nat} : ∀ i : Nat, i ≤ 20 → ¬ 0 ≤ lq_lw op fx i r → ∀ j, j < i → op j ≠ 5 → (fx j).toNatClampNeg ≠ r := by
  intro i
  induction i with
  | zero => intro _ _ j hj; omega
  | succ i ih =>
    intro hi hn j hj h5
    unfold lq_lw at hn
    by_cases c : op i ≠ 5 ∧ (fx i).toNatClampNeg = r
    · rw [if_pos c] at hn
      exact absurd (nI_pos' (by omega)) hn
    · rw [if_neg c] at hn
      by_cases e : j = i
      · subst e
        exact fun q => c ⟨h5, q⟩
      · exact ih (by omega) hn j (by omega) h5
theorem lq_gvx (G : lq_giv op fx fy fz gx gy gz i) : lq_gv i (gx i) := by
  rw [G.1]; exact lq_lwv _ i
theorem lq_gvy (G : lq_giv op fx fy fz gx gy gz i) : lq_gv i (gy i) := by
  by_cases e : op i = 0
  · exact Or.inl (G.2.1 e)
  · rw [G.2.2.1 e]; exact lq_lwv _ i
theorem lq_gvz (G : lq_giv op fx fy fz gx gy gz i) : lq_gv i (gz i) := by
  by_cases e : lq_three (op i)
  · rw [G.2.2.2.1 e]; exact lq_lwv _ i
  · exact Or.inl (G.2.2.2.2 e)
/-- the giver's index is below i -/
theorem lq_gvi {g : Int32} (hi : i ≤ 20) (hg : lq_gv i g) (h0 : 0 ≤ g) : g.toNatClampNeg < i := by
  rcases hg with e | ⟨k, hk, e⟩
  · rw [e] at h0; exact absurd h0 lq_nm1
  · rw [e, nI_clamp (by omega)]; exact hk
theorem lq_tho {g : Int32} (hi : i ≤ 20) (hg : lq_gv i g) (e : ∀ j, j < i → pr' j = pr j) (ht : lq_th pr g) : lq_th pr' g := by
  intro h0
  rw [e _ (lq_gvi hi hg h0)]
  exact ht h0
theorem lq_vlo {g r : Int32} (hi : i ≤ 20) (hg : lq_gv i g) (e : ∀ j, j < i → rs' j = rs j) : lq_vl rg rs' g r = lq_vl rg rs g r := by
  unfold lq_vl
  by_cases h0 : 0 ≤ g
  · rw [if_pos h0, if_pos h0, e _ (lq_gvi hi hg h0)]
  · rw [if_neg h0, if_neg h0]
theorem lq_thd {g : Int32} (e : ∀ k, pr k = 2 → pr' k = 2) (ht : lq_th pr g) : lq_th pr' g := fun h0 => e _ (ht h0)
theorem lq_vld {g r : Int32} (e : ∀ k, pr k = 2 → rs' k = rs k) (ht : lq_th pr g) : lq_vl rg rs' g r = lq_vl rg rs g r := by
  unfold lq_vl
  by_cases h0 : 0 ≤ g
  · rw [if_pos h0, if_pos h0, e _ (ht h0)]
  · rw [if_neg h0, if_neg h0]
/-- what is below the head is there -/
theorem lq_thh {g : Int32} (hh : h ≤ 20) (hg : lq_gv h g) (A : ∀ i, i < h → pr i = 2) : lq_th pr g := fun h0 => A _ (lq_gvi hh hg h0)
theorem lq_needd (e : ∀ k, pr k = 2 → pr' k = 2) (b : lq_need op gx gy gz pr i) : lq_need op gx gy gz pr' i :=
  ⟨lq_thd e b.1, fun o => lq_thd e (b.2.1 o), fun o => lq_thd e (b.2.2 o)⟩
theorem lq_needo (hi : i ≤ 20) (G : lq_giv op fx fy fz gx gy gz i) (e : ∀ j, j < i → pr' j = pr j) (b : lq_need op gx gy gz pr i) : lq_need op gx gy gz pr' i :=
  ⟨lq_tho hi (lq_gvy G) e b.1, fun o => lq_tho hi (lq_gvx G) e (b.2.1 o), fun o => lq_tho hi (lq_gvz G) e (b.2.2 o)⟩
theorem lq_plc {o y p q x p' q' x' : Int32} (hp : o ≠ 0 → p = p') (hq : o ≠ 0 → q = q') (hx : o = 6 → x = x') (hr : o = 0 ∨ o = 1 ∨ o = 2 ∨ o = 3 ∨ o = 6) : lq_pl o y p q x = lq_pl o y p' q' x' := by
  unfold lq_pl
  rcases hr with e | e | e | e | e
  · rw [if_pos e, if_pos e]
  · have n0 : o ≠ 0 := by rw [e]; decide
    rw [if_neg n0, if_neg n0, if_pos e, if_pos e, hp n0, hq n0]
  · have n0 : o ≠ 0 := by rw [e]; decide
    have n1 : o ≠ 1 := by rw [e]; decide
    rw [if_neg n0, if_neg n0, if_neg n1, if_neg n1, if_pos e, if_pos e, hp n0, hq n0]
  · have n0 : o ≠ 0 := by rw [e]; decide
    have n1 : o ≠ 1 := by rw [e]; decide
    have n2 : o ≠ 2 := by rw [e]; decide
    rw [if_neg n0, if_neg n0, if_neg n1, if_neg n1, if_neg n2, if_neg n2, if_pos e, if_pos e, hp n0, hq n0]
  · have n0 : o ≠ 0 := by rw [e]; decide
    rw [hp n0, hq n0, hx e]
theorem lq_o5 (W : lq_wf op fx fy fz i) (h4 : op i ≠ 4) (h5 : op i ≠ 5) : op i = 0 ∨ op i = 1 ∨ op i = 2 ∨ op i = 3 ∨ op i = 6 := by
  rcases W.1 with e | e | e | e | e | e | e
  · exact Or.inl e
  · exact Or.inr (Or.inl e)
  · exact Or.inr (Or.inr (Or.inl e))
  · exact Or.inr (Or.inr (Or.inr (Or.inl e)))
  · exact absurd e h4
  · exact absurd e h5
  · exact Or.inr (Or.inr (Or.inr (Or.inr e)))
theorem lq_o3 (W : lq_wf op fx fy fz i) (h0 : op i ≠ 0) (h4 : op i ≠ 4) (h5 : op i ≠ 5) : lq_three (op i) := by
  rcases lq_o5 W h4 h5 with e | e | e | e | e
  · exact absurd e h0
  · rw [e]; exact Or.inr (by decide)
  · rw [e]; exact Or.inr (by decide)
  · rw [e]; exact Or.inr (by decide)
  · exact Or.inl e
theorem lq_resd (W : lq_wf op fx fy fz i) (h4 : op i ≠ 4) (h5 : op i ≠ 5) (e : ∀ k, pr k = 2 → rs' k = rs k) (b : lq_need op gx gy gz pr i) : lq_res op fx fy fz gx gy gz rg rs' i = lq_res op fx fy fz gx gy gz rg rs i :=
  lq_plc (fun _ => lq_vld e b.1) (fun o => lq_vld e (b.2.2 (lq_o3 W o h4 h5))) (fun o => lq_vld e (b.2.1 o)) (lq_o5 W h4 h5)
theorem lq_reso (hi : i ≤ 20) (G : lq_giv op fx fy fz gx gy gz i) (e : ∀ j, j < i → rs' j = rs j) : lq_res op fx fy fz gx gy gz rg rs' i = lq_res op fx fy fz gx gy gz rg rs i := by
  unfold lq_res
  rw [lq_vlo hi (lq_gvx G) e, lq_vlo hi (lq_gvy G) e, lq_vlo hi (lq_gvz G) e]
theorem lq_adrd (e : ∀ k, pr k = 2 → rs' k = rs k) (b : lq_th pr (gy i)) : lq_adr fy fz gy rg rs' i = lq_adr fy fz gy rg rs i := by
  unfold lq_adr
  rw [lq_vld e b]
theorem lq_adro (hi : i ≤ 20) (G : lq_giv op fx fy fz gx gy gz i) (e : ∀ j, j < i → rs' j = rs j) : lq_adr fy fz gy rg rs' i = lq_adr fy fz gy rg rs i := by
  unfold lq_adr
  rw [lq_vlo hi (lq_gvy G) e]
/-- the value at the head is the register's -/
theorem lq_hv {r : Int32} (C : ∀ r, r < 6 → lq_vl rg rs (lq_lw op fx h r) (nI r) = rg r) (hr : ∃ y, y < 6 ∧ r = nI y) : lq_vl rg rs (lq_lw op fx h r.toNatClampNeg) r = rg r.toNatClampNeg := by
  obtain ⟨y, hy, e⟩ := hr
  rw [e, nI_clamp (by omega)]
  exact C y hy
end
/-! ===== one instruction changes ===== -/
section
variable {L h i : Nat} {op fx fy fz gx gy gz rg ce pr tk rs co so : Nat → Int32} {pr' tk' rs' co' so' : Nat → Int32}
theorem lq_u1 (st : lq_st L op fx fy fz gx gy gz) (I : lq_inv L op fx fy fz gx gy gz rg ce pr tk rs co so h) (hi : h ≤ i) (hL : i < L) (hp : pr i ≠ 2)
    (E : ∀ j, j ≠ i → pr' j = pr j ∧ tk' j = tk j ∧ rs' j = rs j ∧ co' j = co j ∧ so' j = so j)
    (ok' : lq_ok op fx fy fz gx gy gz rg ce pr' tk' rs' co' so' h i)
    (hs : op i = 5 → co' i = co i ∨ ∀ l, i < l → l < L → op l = 4 → pr l = 2 → co l = co' i → (i : Int) ≤ (so l).toInt) :
    lq_inv L op fx fy fz gx gy gz rg ce pr' tk' rs' co' so' h := by
  obtain ⟨h0, hA, hB, hC⟩ := I
  obtain ⟨h20, hW, hG⟩ := st
  have D1 : ∀ k, pr k = 2 → pr' k = 2 := fun k hk => by
    have q : k ≠ i := fun e => hp (e ▸ hk)
    rw [(E k q).1]; exact hk
  have D2 : ∀ k, pr k = 2 → rs' k = rs k := fun k hk => by
    have q : k ≠ i := fun e => hp (e ▸ hk)
    exact (E k q).2.2.1
  refine ⟨h0, fun j hj => D1 j (hA j hj), fun j hj hjL => ?_, fun r hr => ?_⟩
  · by_cases e : j = i
    · rw [e]; exact ok'
    · obtain ⟨ep, et, er, ec, es⟩ := E j e
      rcases hB j hj hjL with ⟨a, b⟩ | ⟨a, b, c, d⟩ | ⟨a, b, c, d, f⟩
      · exact Or.inl ⟨ep.trans a, ec.trans b⟩
      · refine Or.inr (Or.inl ⟨ep.trans a, lq_needd D1 b, ?_, fun ho => ?_⟩)
        · rw [et]; exact c
        · rw [ec, lq_adrd D2 b.1]; exact d ho
      · refine Or.inr (Or.inr ⟨ep.trans a, lq_needd D1 b, fun ho => ?_, fun ho => ?_, fun h4 h5 => ?_⟩)
        · obtain ⟨c1, c2, c3⟩ := c ho
          refine ⟨?_, fun k hk hkj hk5 hkc => ?_, ?_⟩
          · rw [ec, lq_adrd D2 b.1]; exact c1
          · rw [es]
            rw [ec] at hkc
            by_cases e2 : k = i
            · subst e2
              rcases hs hk5 with q | q
              · exact c2 k hk hkj hk5 (q.symm.trans hkc)
              · exact q j hkj hjL ho a hkc.symm
            · rw [(E k e2).2.2.2.1] at hkc
              exact c2 k hk hkj hk5 hkc
          · rcases c3 with ⟨s, s1, s2, s3, s4, s5, s6, s7⟩ | ⟨s1, s2⟩
            · have q : s ≠ i := fun e => hp (e ▸ s6)
              obtain ⟨zp, zt, zr, zc, zs⟩ := E s q
              refine Or.inl ⟨s, s1, s2, es.trans s3, s4, ?_, D1 s s6, ?_⟩
              · rw [ec, zc]; exact s5
              · rw [er, zr]; exact s7
            · refine Or.inr ⟨?_, ?_⟩
              · rw [es]; exact s1
              · rw [er, ec]; exact s2
        · obtain ⟨c1, c2, c3⟩ := d ho
          refine ⟨?_, lq_thd D1 c2, ?_⟩
          · rw [ec, lq_adrd D2 b.1]; exact c1
          · rw [er, lq_vld D2 c2]; exact c3
        · rw [er, lq_resd (hW j hjL) h4 h5 D2 b]
          exact f h4 h5
  · rw [lq_vld D2 (lq_thh (by omega) (lq_lwv r h) hA)]
    exact hC r hr
/-! ===== everything from l on is set back ===== -/
theorem lq_sbl {a b j : Nat} {v : Int32} {f : Nat → Int32} (hj : j < a) : lq_sb a b v f j = f j := if_neg (by omega)
theorem lq_sbh {a b j : Nat} {v : Int32} {f : Nat → Int32} (h1 : a ≤ j) (h2 : j < b) : lq_sb a b v f j = v := if_pos ⟨h1, h2⟩
theorem lq_sbo {a b j : Nat} {v : Int32} {f : Nat → Int32} (h2 : b ≤ j) : lq_sb a b v f j = f j := if_neg (by omega)
theorem lq_sbz {a : Nat} {v : Int32} {f : Nat → Int32} : lq_sb a a v f = f := by
  funext j
  exact if_neg (by omega)
theorem lq_sbs {a b : Nat} {v : Int32} {f : Nat → Int32} (h : a < b) : lq_sb (a + 1) b v (upd f a v) = lq_sb a b v f := by
  funext j
  unfold lq_sb upd
  by_cases e : j = a
  · rw [if_neg (by omega), if_pos e, if_pos (by omega)]
  · by_cases q : a ≤ j ∧ j < b
    · rw [if_pos q, if_pos (by omega)]
    · rw [if_neg q, if_neg (by omega), if_neg e]
theorem lq_sbI {l : Nat} (st : lq_st L op fx fy fz gx gy gz) (I : lq_inv L op fx fy fz gx gy gz rg ce pr tk rs co so h) (hl : h < l) : lq_inv L op fx fy fz gx gy gz rg ce (lq_sb l L 0 pr) tk rs (lq_sb l L (-1) co) (lq_sb l L (-1) so) h := by
  obtain ⟨h0, hA, hB, hC⟩ := I
  obtain ⟨h20, hW, hG⟩ := st
  refine ⟨h0, fun j hj => ?_, fun j hj hjL => ?_, hC⟩
  · rw [lq_sbl (by omega)]; exact hA j hj
  · by_cases q : l ≤ j
    · exact Or.inl ⟨lq_sbh q hjL, lq_sbh q hjL⟩
    · have D : ∀ (v : Int32) (f : Nat → Int32) (k : Nat), k ≤ j → lq_sb l L v f k = f k := fun v f k hk => lq_sbl (by omega)
      have Dp : ∀ k, k < j → lq_sb l L 0 pr k = pr k := fun k hk => D 0 pr k (by omega)
      rcases hB j hj hjL with ⟨a, b⟩ | ⟨a, b, c, d⟩ | ⟨a, b, c, d, f⟩
      · exact Or.inl ⟨(D _ _ j (Nat.le_refl j)).trans a, (D _ _ j (Nat.le_refl j)).trans b⟩
      · refine Or.inr (Or.inl ⟨(D _ _ j (Nat.le_refl j)).trans a, lq_needo (by omega) (hG j hjL) Dp b, c, fun ho => ?_⟩)
        rw [D _ _ j (Nat.le_refl j)]; exact d ho
      · refine Or.inr (Or.inr ⟨(D _ _ j (Nat.le_refl j)).trans a, lq_needo (by omega) (hG j hjL) Dp b, fun ho => ?_, fun ho => ?_, f⟩)
        · obtain ⟨c1, c2, c3⟩ := c ho
          refine ⟨?_, fun k hk hkj hk5 hkc => ?_, ?_⟩
          · rw [D _ _ j (Nat.le_refl j)]; exact c1
          · rw [D _ _ j (Nat.le_refl j)]
            rw [D _ _ j (Nat.le_refl j), D _ _ k (by omega)] at hkc
            exact c2 k hk hkj hk5 hkc
          · rcases c3 with ⟨s, s1, s2, s3, s4, s5, s6, s7⟩ | ⟨s1, s2⟩
            · refine Or.inl ⟨s, s1, s2, ?_, s4, ?_, ?_, s7⟩
              · rw [D _ _ j (Nat.le_refl j)]; exact s3
              · rw [D _ _ j (Nat.le_refl j), D _ _ s (by omega)]; exact s5
              · rw [D _ _ s (by omega)]; exact s6
            · refine Or.inr ⟨?_, ?_⟩
              · rw [D _ _ j (Nat.le_refl j)]; exact s1
              · rw [D _ _ j (Nat.le_refl j)]; exact s2
        · obtain ⟨c1, c2, c3⟩ := d ho
          refine ⟨?_, lq_tho (by omega) (lq_gvx (hG j hjL)) Dp c2, c3⟩
          rw [D _ _ j (Nat.le_refl j)]; exact c1
end
end
section
/-! ===== the head takes effect ===== -/
section
variable {L h i : Nat} {op fx fy fz gx gy gz rg ce pr tk rs co so : Nat → Int32}
/-- a register that the head writes is given by it, or later, to what is younger -/
theorem lq_vreg {j : Nat} {r v : Int32} (hj : h < j) (h20 : j ≤ 20) (h5 : op h ≠ 5) : lq_vl (upd rg (fx h).toNatClampNeg v) rs (lq_lw op fx j r.toNatClampNeg) r = lq_vl rg rs (lq_lw op fx j r.toNatClampNeg) r := by
  unfold lq_vl
  by_cases q : 0 ≤ lq_lw op fx j r.toNatClampNeg
  · rw [if_pos q, if_pos q]
  · rw [if_neg q, if_neg q]
    exact pk_un (fun e => lq_lwn j h20 q h hj h5 e.symm)
/-- it isn't a store -/
theorem lq_tR (st : lq_st L op fx fy fz gx gy gz) (I : lq_inv L op fx fy fz gx gy gz rg ce pr tk rs co so h) (hL : h < L) (hp : pr h = 2) (h5 : op h ≠ 5) : lq_inv L op fx fy fz gx gy gz (upd rg (fx h).toNatClampNeg (rs h)) ce pr tk rs co so (h + 1) := by
  obtain ⟨h0, hA, hB, hC⟩ := I
  obtain ⟨h20, hW, hG⟩ := st
  refine ⟨hL, fun j hj => ?_, fun j hj hjL => ?_, fun r hr => ?_⟩
  · by_cases e : j = h
    · rw [e]; exact hp
    · exact hA j (by omega)
  · have vx : lq_vl (upd rg (fx h).toNatClampNeg (rs h)) rs (gx j) (fx j) = lq_vl rg rs (gx j) (fx j) := by
      rw [(hG j hjL).1]; exact lq_vreg (by omega) (by omega) h5
    have vy : op j ≠ 0 → lq_vl (upd rg (fx h).toNatClampNeg (rs h)) rs (gy j) (fy j) = lq_vl rg rs (gy j) (fy j) := fun o => by
      rw [(hG j hjL).2.2.1 o]; exact lq_vreg (by omega) (by omega) h5
    have vz : lq_three (op j) → lq_vl (upd rg (fx h).toNatClampNeg (rs h)) rs (gz j) (fz j) = lq_vl rg rs (gz j) (fz j) := fun o => by
      rw [(hG j hjL).2.2.2.1 o]; exact lq_vreg (by omega) (by omega) h5
    have va : op j ≠ 0 → lq_adr fy fz gy (upd rg (fx h).toNatClampNeg (rs h)) rs j = lq_adr fy fz gy rg rs j := fun o => by
      unfold lq_adr; rw [vy o]
    rcases hB j (by omega) hjL with ⟨a, b⟩ | ⟨a, b, c, d⟩ | ⟨a, b, c, d, f⟩
    · exact Or.inl ⟨a, b⟩
    · refine Or.inr (Or.inl ⟨a, b, c, fun ho => ?_⟩)
      rw [va (by rw [ho]; decide)]; exact d ho
    · refine Or.inr (Or.inr ⟨a, b, fun ho => ?_, fun ho => ?_, fun j4 j5 => ?_⟩)
      · obtain ⟨c1, c2, c3⟩ := c ho
        refine ⟨?_, fun k hk => c2 k (by omega), ?_⟩
        · rw [va (by rw [ho]; decide)]; exact c1
        · rcases c3 with ⟨s, s1, s2, s3, s4, s5⟩ | ⟨s1, s2⟩
          · have q : s ≠ h := fun e => h5 (e ▸ s4)
            exact Or.inl ⟨s, by omega, s2, s3, s4, s5⟩
          · exact Or.inr ⟨by omega, s2⟩
      · obtain ⟨c1, c2, c3⟩ := d ho
        refine ⟨?_, c2, ?_⟩
        · rw [va (by rw [ho]; decide)]; exact c1
        · rw [vx]; exact c3
      · rw [f j4 j5]
        exact (lq_plc vy (fun o => vz (lq_o3 (hW j hjL) o j4 j5)) (fun _ => vx) (lq_o5 (hW j hjL) j4 j5)).symm
  · unfold lq_lw
    by_cases e : (fx h).toNatClampNeg = r
    · rw [if_pos ⟨h5, e⟩]
      unfold lq_vl
      rw [if_pos (nI_pos' (by omega)), nI_clamp (by omega), e]
      exact pk_us.symm
    · rw [if_neg (fun q => e q.2)]
      have q : upd rg (fx h).toNatClampNeg (rs h) r = rg r := pk_un (fun z => e z.symm)
      rw [q]
      refine Eq.trans ?_ (hC r hr)
      unfold lq_vl
      rw [nI_clamp (by omega), q]
/-- it is a store -/
theorem lq_tS (st : lq_st L op fx fy fz gx gy gz) (I : lq_inv L op fx fy fz gx gy gz rg ce pr tk rs co so h) (hL : h < L) (hp : pr h = 2) (h5 : op h = 5) : lq_inv L op fx fy fz gx gy gz rg (upd ce (co h).toNatClampNeg (rs h)) pr tk rs co so (h + 1) := by
  obtain ⟨h0, hA, hB, hC⟩ := I
  obtain ⟨h20, hW, hG⟩ := st
  have hco : ∃ c, c < 16 ∧ co h = nI c := by
    rcases hB h (Nat.le_refl h) hL with ⟨a, b⟩ | ⟨a, b, c, d⟩ | ⟨a, b, c, d, f⟩
    · rw [hp] at a; exact absurd a (by decide)
    · rw [hp] at a; exact absurd a (by decide)
    · rw [(d h5).1]; exact lq_a15 _
  refine ⟨hL, fun j hj => ?_, fun j hj hjL => ?_, fun r hr => ?_⟩
  · by_cases e : j = h
    · rw [e]; exact hp
    · exact hA j (by omega)
  · rcases hB j (by omega) hjL with ⟨a, b⟩ | ⟨a, b, c, d⟩ | ⟨a, b, c, d, f⟩
    · exact Or.inl ⟨a, b⟩
    · exact Or.inr (Or.inl ⟨a, b, c, d⟩)
    · refine Or.inr (Or.inr ⟨a, b, fun ho => ?_, d, f⟩)
      obtain ⟨c1, c2, c3⟩ := c ho
      refine ⟨c1, fun k hk => c2 k (by omega), ?_⟩
      by_cases q : co h = co j
      · have z := c2 h (Nat.le_refl h) (by omega) h5 q
        rcases c3 with ⟨s, s1, s2, s3, s4, s5, s6, s7⟩ | ⟨s1, s2⟩
        · by_cases e : s = h
          · refine Or.inr ⟨?_, ?_⟩
            · rw [s3, nI_toInt (by omega)]; omega
            · rw [s7, e, ← q]; exact pk_us.symm
          · exact Or.inl ⟨s, by omega, s2, s3, s4, s5, s6, s7⟩
        · omega
      · rcases c3 with ⟨s, s1, s2, s3, s4, s5, s6, s7⟩ | ⟨s1, s2⟩
        · have e : s ≠ h := fun e => q (e ▸ s5)
          exact Or.inl ⟨s, by omega, s2, s3, s4, s5, s6, s7⟩
        · refine Or.inr ⟨by omega, ?_⟩
          rw [s2]
          refine (pk_un (fun e => ?_)).symm
          obtain ⟨c, hc, ec⟩ := hco
          obtain ⟨c', hc', ec'⟩ : ∃ c, c < 16 ∧ co j = nI c := by rw [c1]; exact lq_a15 _
          rw [ec, ec', nI_clamp (by omega), nI_clamp (by omega)] at e
          exact q (by rw [ec, ec', e])
  · unfold lq_lw
    rw [if_neg (fun q => q.1 h5)]
    exact hC r hr
/-- what the head holds -/
theorem lq_hS (st : lq_st L op fx fy fz gx gy gz) (I : lq_inv L op fx fy fz gx gy gz rg ce pr tk rs co so h) (hL : h < L) (hp : pr h = 2) (h5 : op h = 5) : co h = (rg (fy h).toNatClampNeg + fz h) &&& 15 ∧ rs h = rg (fx h).toNatClampNeg := by
  obtain ⟨h0, hA, hB, hC⟩ := I
  obtain ⟨h20, hW, hG⟩ := st
  rcases hB h (Nat.le_refl h) hL with ⟨a, b⟩ | ⟨a, b, c, d⟩ | ⟨a, b, c, d, f⟩
  · rw [hp] at a; exact absurd a (by decide)
  · rw [hp] at a; exact absurd a (by decide)
  · obtain ⟨d1, d2, d3⟩ := d h5
    have n0 : op h ≠ 0 := by rw [h5]; decide
    refine ⟨?_, ?_⟩
    · rw [d1]; unfold lq_adr
      rw [(hG h hL).2.2.1 n0, lq_hv hC ((hW h hL).2.2.1 n0)]
    · rw [d3, (hG h hL).1, lq_hv hC ((hW h hL).2.1)]
theorem lq_hL (st : lq_st L op fx fy fz gx gy gz) (I : lq_inv L op fx fy fz gx gy gz rg ce pr tk rs co so h) (hL : h < L) (hp : pr h = 2) (h4 : op h = 4) : co h = (rg (fy h).toNatClampNeg + fz h) &&& 15 ∧ rs h = ce (co h).toNatClampNeg := by
  obtain ⟨h0, hA, hB, hC⟩ := I
  obtain ⟨h20, hW, hG⟩ := st
  rcases hB h (Nat.le_refl h) hL with ⟨a, b⟩ | ⟨a, b, c, d⟩ | ⟨a, b, c, d, f⟩
  · rw [hp] at a; exact absurd a (by decide)
  · rw [hp] at a; exact absurd a (by decide)
  · obtain ⟨d1, d2, d3⟩ := c h4
    have n0 : op h ≠ 0 := by rw [h4]; decide
    refine ⟨?_, ?_⟩
    · rw [d1]; unfold lq_adr
      rw [(hG h hL).2.2.1 n0, lq_hv hC ((hW h hL).2.2.1 n0)]
    · rcases d3 with ⟨s, s1, s2, s3⟩ | ⟨s1, s2⟩
      · omega
      · exact s2
theorem lq_hP (st : lq_st L op fx fy fz gx gy gz) (I : lq_inv L op fx fy fz gx gy gz rg ce pr tk rs co so h) (hL : h < L) (hp : pr h = 2) (h4 : op h ≠ 4) (h5 : op h ≠ 5) : rs h = lq_pl (op h) (fy h) (rg (fy h).toNatClampNeg) (rg (fz h).toNatClampNeg) (rg (fx h).toNatClampNeg) := by
  obtain ⟨h0, hA, hB, hC⟩ := I
  obtain ⟨h20, hW, hG⟩ := st
  rcases hB h (Nat.le_refl h) hL with ⟨a, b⟩ | ⟨a, b, c, d⟩ | ⟨a, b, c, d, f⟩
  · rw [hp] at a; exact absurd a (by decide)
  · rw [hp] at a; exact absurd a (by decide)
  · rw [f h4 h5]
    refine lq_plc (fun o => ?_) (fun o => ?_) (fun o => ?_) (lq_o5 (hW h hL) h4 h5)
    · rw [(hG h hL).2.2.1 o, lq_hv hC ((hW h hL).2.2.1 o)]
    · have t := lq_o3 (hW h hL) o h4 h5
      rw [(hG h hL).2.2.2.1 t, lq_hv hC ((hW h hL).2.2.2 t)]
    · rw [(hG h hL).1, lq_hv hC ((hW h hL).2.1)]
end
end
section
/-! ===== the steps of an instruction keep the invariant ===== -/
section
variable {L h i : Nat} {op fx fy fz gx gy gz rg ce pr tk rs co so : Nat → Int32}
theorem lq_E5 {a b c d e : Nat → Int32} {v1 v2 v3 v4 v5 : Int32} : ∀ j, j ≠ i → upd a i v1 j = a j ∧ upd b i v2 j = b j ∧ upd c i v3 j = c j ∧ upd d i v4 j = d j ∧ upd e i v5 j = e j :=
  fun _ hj => ⟨pk_un hj, pk_un hj, pk_un hj, pk_un hj, pk_un hj⟩
/-- it starts -/
theorem lq_aStart {q : Nat} (st : lq_st L op fx fy fz gx gy gz) (I : lq_inv L op fx fy fz gx gy gz rg ce pr tk rs co so h) (hi : h ≤ i) (hL : i < L) (hp : pr i = 0) (nd : lq_need op gx gy gz pr i) (hq : q < 4) : lq_inv L op fx fy fz gx gy gz rg ce (upd pr i 1) (upd tk i (nI q)) rs co so h := by
  have h20 := st.1
  have hco : co i = -1 := by
    rcases I.2.2.1 i hi hL with ⟨a, b⟩ | ⟨a, _⟩ | ⟨a, _⟩
    · exact b
    · rw [hp] at a; exact absurd a (by decide)
    · rw [hp] at a; exact absurd a (by decide)
  refine lq_u1 st I hi hL (by rw [hp]; decide) (fun j hj => ⟨pk_un hj, pk_un hj, rfl, rfl, rfl⟩) ?_ (fun _ => Or.inl rfl)
  refine Or.inr (Or.inl ⟨pk_us, lq_needo (by omega) (st.2.2 i hL) (fun j hj => pk_un (by omega)) nd, ⟨q, by omega, pk_us⟩, fun _ => Or.inl hco⟩)
/-- it is under way -/
theorem lq_one (I : lq_inv L op fx fy fz gx gy gz rg ce pr tk rs co so h) (hi : h ≤ i) (hL : i < L) (h0 : pr i ≠ 0) (h2 : pr i ≠ 2) : pr i = 1 ∧ lq_need op gx gy gz pr i ∧ (∃ t, t ≤ 3 ∧ tk i = nI t) ∧ (op i = 5 → co i = -1 ∨ co i = lq_adr fy fz gy rg rs i) := by
  rcases I.2.2.1 i hi hL with ⟨a, _⟩ | z | ⟨a, _⟩
  · exact absurd a h0
  · exact z
  · exact absurd a h2
theorem lq_aTick {t : Nat} (st : lq_st L op fx fy fz gx gy gz) (I : lq_inv L op fx fy fz gx gy gz rg ce pr tk rs co so h) (hi : h ≤ i) (hL : i < L) (h0 : pr i ≠ 0) (h2 : pr i ≠ 2) (ht : t ≤ 3) : lq_inv L op fx fy fz gx gy gz rg ce pr (upd tk i (nI t)) rs co so h := by
  obtain ⟨a, b, c, d⟩ := lq_one I hi hL h0 h2
  refine lq_u1 st I hi hL h2 (fun j hj => ⟨rfl, pk_un hj, rfl, rfl, rfl⟩) ?_ (fun _ => Or.inl rfl)
  exact Or.inr (Or.inl ⟨a, b, ⟨t, ht, pk_us⟩, d⟩)
/-- a load waits for a store's data -/
theorem lq_aWait {v : Int32} (st : lq_st L op fx fy fz gx gy gz) (I : lq_inv L op fx fy fz gx gy gz rg ce pr tk rs co so h) (hi : h ≤ i) (hL : i < L) (h0 : pr i ≠ 0) (h2 : pr i ≠ 2) (h4 : op i = 4) : lq_inv L op fx fy fz gx gy gz rg ce pr tk rs (upd co i v) so h := by
  obtain ⟨a, b, c, d⟩ := lq_one I hi hL h0 h2
  have n5 : op i ≠ 5 := by rw [h4]; decide
  refine lq_u1 st I hi hL h2 (fun j hj => ⟨rfl, rfl, rfl, pk_un hj, rfl⟩) ?_ (fun z => absurd z n5)
  exact Or.inr (Or.inl ⟨a, b, c, fun z => absurd z n5⟩)
/-- a load is done -/
theorem lq_aLoad {v w : Int32} (st : lq_st L op fx fy fz gx gy gz) (I : lq_inv L op fx fy fz gx gy gz rg ce pr tk rs co so h) (hi : h ≤ i) (hL : i < L) (h0 : pr i ≠ 0) (h2 : pr i ≠ 2) (h4 : op i = 4)
    (c1 : ∀ j, h ≤ j → j < i → op j = 5 → co j = lq_adr fy fz gy rg rs i → (j : Int) ≤ w.toInt)
    (c2 : (∃ s, h ≤ s ∧ s < i ∧ w = nI s ∧ op s = 5 ∧ co s = lq_adr fy fz gy rg rs i ∧ pr s = 2 ∧ v = rs s) ∨ (w.toInt < (h : Int) ∧ v = ce (lq_adr fy fz gy rg rs i).toNatClampNeg)) :
    lq_inv L op fx fy fz gx gy gz rg ce (upd pr i 2) tk (upd rs i v) (upd co i (lq_adr fy fz gy rg rs i)) (upd so i w) h := by
  obtain ⟨a, b, c, d⟩ := lq_one I hi hL h0 h2
  have h20 := st.1
  have n5 : op i ≠ 5 := by rw [h4]; decide
  refine lq_u1 st I hi hL h2 (fun j hj => ⟨pk_un hj, rfl, pk_un hj, pk_un hj, pk_un hj⟩) ?_ (fun z => absurd z n5)
  refine Or.inr (Or.inr ⟨pk_us, lq_needo (by omega) (st.2.2 i hL) (fun j hj => pk_un (by omega)) b, fun _ => ⟨?_, fun j hj hji h5 hc => ?_, ?_⟩, fun z => absurd z n5, fun z => absurd h4 z⟩)
  · rw [lq_adro (by omega) (st.2.2 i hL) (fun j hj => pk_un (by omega))]; exact pk_us
  · rw [pk_us, pk_un (by omega)] at hc
    rw [pk_us]
    exact c1 j hj hji h5 hc
  · rcases c2 with ⟨s, s1, s2, s3, s4, s5, s6, s7⟩ | ⟨s1, s2⟩
    · refine Or.inl ⟨s, s1, s2, ?_, s4, ?_, ?_, ?_⟩
      · rw [pk_us]; exact s3
      · rw [pk_us, pk_un (by omega)]; exact s5
      · rw [pk_un (by omega)]; exact s6
      · rw [pk_us, pk_un (by omega)]; exact s7
    · refine Or.inr ⟨?_, ?_⟩
      · rw [pk_us]; exact s1
      · rw [pk_us, pk_us]; exact s2
/-- a plain one is done -/
theorem lq_aPlain (st : lq_st L op fx fy fz gx gy gz) (I : lq_inv L op fx fy fz gx gy gz rg ce pr tk rs co so h) (hi : h ≤ i) (hL : i < L) (h0 : pr i ≠ 0) (h2 : pr i ≠ 2) (h4 : op i ≠ 4) (h5 : op i ≠ 5) :
    lq_inv L op fx fy fz gx gy gz rg ce (upd pr i 2) tk (upd rs i (lq_res op fx fy fz gx gy gz rg rs i)) co so h := by
  obtain ⟨a, b, c, d⟩ := lq_one I hi hL h0 h2
  have h20 := st.1
  refine lq_u1 st I hi hL h2 (fun j hj => ⟨pk_un hj, rfl, pk_un hj, rfl, rfl⟩) ?_ (fun z => absurd z h5)
  refine Or.inr (Or.inr ⟨pk_us, lq_needo (by omega) (st.2.2 i hL) (fun j hj => pk_un (by omega)) b, fun z => absurd z h4, fun z => absurd z h5, fun _ _ => ?_⟩)
  rw [lq_reso (by omega) (st.2.2 i hL) (fun j hj => pk_un (by omega))]; exact pk_us
/-- a store is done -/
theorem lq_aStore (st : lq_st L op fx fy fz gx gy gz) (I : lq_inv L op fx fy fz gx gy gz rg ce pr tk rs co so h) (hi : h ≤ i) (hL : i < L) (h0 : pr i ≠ 0) (h2 : pr i ≠ 2) (h5 : op i = 5) (hc : 0 ≤ co i) (ht : lq_th pr (gx i)) :
    lq_inv L op fx fy fz gx gy gz rg ce (upd pr i 2) tk (upd rs i (lq_vl rg rs (gx i) (fx i))) co so h := by
  obtain ⟨a, b, c, d⟩ := lq_one I hi hL h0 h2
  have h20 := st.1
  have n4 : op i ≠ 4 := by rw [h5]; decide
  refine lq_u1 st I hi hL h2 (fun j hj => ⟨pk_un hj, rfl, pk_un hj, rfl, rfl⟩) ?_ (fun _ => Or.inl rfl)
  refine Or.inr (Or.inr ⟨pk_us, lq_needo (by omega) (st.2.2 i hL) (fun j hj => pk_un (by omega)) b, fun z => absurd z n4, fun _ => ⟨?_, ?_, ?_⟩, fun _ z => absurd h5 z⟩)
  · rw [lq_adro (by omega) (st.2.2 i hL) (fun j hj => pk_un (by omega))]
    rcases d h5 with z | z
    · rw [z] at hc; exact absurd hc lq_nm1
    · exact z
  · exact lq_tho (by omega) (lq_gvx (st.2.2 i hL)) (fun j hj => pk_un (by omega)) ht
  · rw [lq_vlo (by omega) (lq_gvx (st.2.2 i hL)) (fun j hj => pk_un (by omega))]; exact pk_us
theorem lq_sbe {a b j : Nat} {v : Int32} {f g : Nat → Int32} (e : f j = g j) : lq_sb a b v f j = lq_sb a b v g j := by
  unfold lq_sb
  rw [e]
/-- a store's address becomes known -/
theorem lq_aAddr {l : Nat} (st : lq_st L op fx fy fz gx gy gz) (I : lq_inv L op fx fy fz gx gy gz rg ce pr tk rs co so h) (hi : h ≤ i) (hL : i < L) (h0 : pr i ≠ 0) (h2 : pr i ≠ 2) (h5 : op i = 5) (hl : i < l)
    (nb : ∀ m, i < m → m < l → ¬ (op m = 4 ∧ pr m = 2 ∧ co m = lq_adr fy fz gy rg rs i ∧ (so m).toInt < (i : Int))) :
    lq_inv L op fx fy fz gx gy gz rg ce (lq_sb l L 0 pr) tk rs (lq_sb l L (-1) (upd co i (lq_adr fy fz gy rg rs i))) (lq_sb l L (-1) so) h := by
  obtain ⟨a, b, c, d⟩ := lq_one I hi hL h0 h2
  have h20 := st.1
  have n4 : op i ≠ 4 := by rw [h5]; decide
  have I1 := lq_sbI (l := l) st I (by omega)
  have ep : lq_sb l L 0 pr i = pr i := lq_sbl hl
  have ec : lq_sb l L (-1) (upd co i (lq_adr fy fz gy rg rs i)) i = lq_adr fy fz gy rg rs i := by rw [lq_sbl hl]; exact pk_us
  refine lq_u1 st I1 hi hL (by rw [ep]; exact h2) (fun j hj => ⟨rfl, rfl, rfl, lq_sbe (pk_un hj), rfl⟩) ?_ (fun _ => Or.inr (fun m hm hmL m4 m2 mc => ?_))
  · exact Or.inr (Or.inl ⟨ep.trans a, lq_needo (by omega) (st.2.2 i hL) (fun j hj => lq_sbl (by omega)) b, c, fun _ => Or.inr ec⟩)
  · by_cases q : m < l
    · rw [lq_sbl q]
      rw [lq_sbl q] at m2
      rw [ec, lq_sbl q] at mc
      have z := nb m hm q
      have y : ¬ (so m).toInt < (i : Int) := fun y => z ⟨m4, m2, mc, y⟩
      omega
    · rw [lq_sbh (by omega) hmL] at m2
      exact absurd m2 (by decide)
/-! ===== the head comes nearer ===== -/
theorem lq_mu6 : lq_mu op pr tk co h ≤ 6 := by
  unfold lq_mu
  by_cases a : pr h = 2
  · rw [if_pos a]; omega
  · rw [if_neg a]
    by_cases b : pr h = 0
    · rw [if_pos b]; omega
    · rw [if_neg b]; omega
theorem lq_muW (hp : pr h = 0) : lq_mu op pr tk co h = 6 := by
  unfold lq_mu
  rw [hp, if_neg (by decide), if_pos rfl]
theorem lq_muU (hp : pr h = 1) : lq_mu op pr tk co h = min 5 ((tk h).toNatClampNeg + (if op h = 5 ∧ co h < 0 then 2 else 1)) := by
  unfold lq_mu
  rw [hp, if_neg (by decide), if_neg (by decide)]
theorem lq_muD (hp : pr h = 2) : lq_mu op pr tk co h = 0 := by
  unfold lq_mu
  rw [if_pos hp]
end
end
section
/-! ===== the component's small methods ===== -/
section
variable {L h i : Nat} {ln hd fd wc ch : Int32} {op fx fy fz rg ce gx gy gz lw pr tk rs co so : Nat → Int32}
theorem lx_isThere {post : Int32 → Prop} {g : Int32} (hg : lq_gv 20 g) (h1 : lq_th pr g → post 1) (h0 : ¬ lq_th pr g → post 0) : wpX_isThere post (ln, fd, wc, hd, ch, op, fx, fy, fz, rg, ce, gx, gy, gz, lw, pr, tk, rs, co, so) g := by
  unfold wpX_isThere
  refine br_c (fun c => ?_) (fun c => ?_)
  · exact h1 (fun q => absurd q (Int32.not_le.mpr c))
  · rcases hg with e | ⟨k, hk, e⟩
    · rw [e] at c
      exact absurd (by decide : (-1 : Int32) < 0) c
    · have hin : vp_in g 20 := by rw [e]; exact vp_in_nI hk (by omega)
      have h0' : 0 ≤ g := by rw [e]; exact nI_pos' (by omega)
      exact ⟨hin, br_c (fun c2 => h1 (fun _ => c2)) (fun c2 => h0 (fun q => c2 (q h0')))⟩
theorem lx_three {post : Int32 → Prop} (hi : i < 20) (h1 : lq_three (op i) → post 1) (h0 : ¬ lq_three (op i) → post 0) : wpX_hasThree post (ln, fd, wc, hd, ch, op, fx, fy, fz, rg, ce, gx, gy, gz, lw, pr, tk, rs, co, so) (nI i) := by
  have e : (nI i).toNatClampNeg = i := nI_clamp (by omega)
  have hin : vp_in (nI i) 20 := vp_in_nI hi (by omega)
  unfold wpX_hasThree
  rw [e]
  exact ⟨hin, br_c (fun a => h1 (Or.inl a)) (fun a => ⟨hin, br_c (fun b => h0 (fun q => q.elim a (fun z => z.1 b))) (fun b => ⟨hin, br_c (fun c => h0 (fun q => q.elim a (fun z => z.2 c))) (fun c => h1 (Or.inr ⟨b, c⟩))⟩)⟩)⟩
theorem lx_value {post : Int32 → Prop} {g r : Int32} (hg : lq_gv 20 g) (hr : ∃ k, k < 6 ∧ r = nI k) (H : post (lq_vl rg rs g r)) : wpX_valueFrom post (ln, fd, wc, hd, ch, op, fx, fy, fz, rg, ce, gx, gy, gz, lw, pr, tk, rs, co, so) g r := by
  unfold wpX_valueFrom
  unfold lq_vl at H
  refine br_c (fun c => ?_) (fun c => ?_)
  · rw [if_pos c] at H
    rcases hg with e | ⟨k, hk, e⟩
    · rw [e] at c
      exact absurd c lq_nm1
    · exact ⟨by rw [e]; exact vp_in_nI hk (by omega), H⟩
  · rw [if_neg c] at H
    obtain ⟨k, hk, e⟩ := hr
    exact ⟨by rw [e]; exact vp_in_nI hk (by omega), H⟩
theorem lx_addr {post : Int32 → Prop} (hi : i < 20) (hg : lq_gv 20 (gy i)) (hr : ∃ k, k < 6 ∧ fy i = nI k) (H : post (lq_adr fy fz gy rg rs i)) : wpX_addressOf post (ln, fd, wc, hd, ch, op, fx, fy, fz, rg, ce, gx, gy, gz, lw, pr, tk, rs, co, so) (nI i) := by
  have e : (nI i).toNatClampNeg = i := nI_clamp (by omega)
  have hin : vp_in (nI i) 20 := vp_in_nI hi (by omega)
  unfold wpX_addressOf
  rw [e]
  exact ⟨hin, hin, lx_value hg hr ⟨hin, H⟩⟩
theorem lx_roll {post : Int32 → SX → Prop} {p : Int32} {d : Nat} (ep : p = nI d) (h0 : 0 < d) (hd' : d < 100) (H : ∀ ch' q, q < d → post (nI q) (ln, fd, wc, hd, ch', op, fx, fy, fz, rg, ce, gx, gy, gz, lw, pr, tk, rs, co, so)) : wpX_roll post (ln, fd, wc, hd, ch, op, fx, fy, fz, rg, ce, gx, gy, gz, lw, pr, tk, rs, co, so) p := by
  subst ep
  unfold wpX_roll
  intro c hc
  obtain ⟨q, hq, e⟩ := lq_rl ((c.toUInt32 >>> ((16 : Int32).toUInt32 &&& Int32.toUInt32 31)).toInt32) h0 hd'
  refine ⟨nI_ne0 h0 (by omega), ?_⟩
  rw [e]
  exact H c q hq
theorem lx_setBack {post : SX → Prop} (hi : i < 20) (H : post (ln, fd, wc, hd, ch, op, fx, fy, fz, rg, ce, gx, gy, gz, lw, upd pr i 0, tk, rs, upd co i (-1), upd so i (-1))) : wpX_setBack post (ln, fd, wc, hd, ch, op, fx, fy, fz, rg, ce, gx, gy, gz, lw, pr, tk, rs, co, so) (nI i) := by
  have e : (nI i).toNatClampNeg = i := nI_clamp (by omega)
  have hin : vp_in (nI i) 20 := vp_in_nI hi (by omega)
  unfold wpX_setBack
  rw [e, lq_b0, lq_bm]
  exact ⟨hin, nm_e ⟨hin, nm_e ⟨hin, nm_e H⟩⟩⟩
theorem lx_start41 {post : Int32 → Prop} (hi : i < 20) (vz : lq_gv 20 (gz i)) (a : lq_th pr (gy i)) (b : op i = 6 → lq_th pr (gx i)) (h1 : lq_need op gx gy gz pr i → post 1) (h0 : ¬ lq_need op gx gy gz pr i → post 0) : wX_canStart_41 post (nI i) ln fd wc hd ch op fx fy fz rg ce gx gy gz lw pr tk rs co so := by
  have e : (nI i).toNatClampNeg = i := nI_clamp (by omega)
  have hin : vp_in (nI i) 20 := vp_in_nI hi (by omega)
  unfold wX_canStart_41
  rw [e]
  exact lx_three hi (fun t => br_f (by decide) ⟨hin, lx_isThere vz (fun c => br_f (by decide) (h1 ⟨a, b, fun _ => c⟩)) (fun c => br_t rfl (h0 (fun q => c (q.2.2 t))))⟩) (fun t => br_t rfl (h1 ⟨a, b, fun z => absurd z t⟩))
theorem lx_start {post : Int32 → Prop} (hi : i < 20) (vx : lq_gv 20 (gx i)) (vy : lq_gv 20 (gy i)) (vz : lq_gv 20 (gz i)) (h1 : lq_need op gx gy gz pr i → post 1) (h0 : ¬ lq_need op gx gy gz pr i → post 0) : wpX_canStart post (ln, fd, wc, hd, ch, op, fx, fy, fz, rg, ce, gx, gy, gz, lw, pr, tk, rs, co, so) (nI i) := by
  have e : (nI i).toNatClampNeg = i := nI_clamp (by omega)
  have hin : vp_in (nI i) 20 := vp_in_nI hi (by omega)
  unfold wpX_canStart
  rw [e]
  exact ⟨hin, lx_isThere vy (fun a => br_f (by decide) ⟨hin, br_c (fun o => ⟨hin, lx_isThere vx (fun b => br_f (by decide) (lx_start41 hi vz a (fun _ => b) h1 h0)) (fun b => br_t rfl (h0 (fun q => b (q.2.1 o))))⟩) (fun o => lx_start41 hi vz a (fun z => absurd z o) h1 h0)⟩) (fun a => br_t rfl (h0 (fun q => a q.1)))⟩
theorem lx_plain123 {post : SX → Prop} {v : Int32} (hi : i < 20) (ev : v = lq_res op fx fy fz gx gy gz rg rs i) (H : post (ln, fd, wc, hd, ch, op, fx, fy, fz, rg, ce, gx, gy, gz, lw, upd pr i 2, tk, upd rs i (lq_res op fx fy fz gx gy gz rg rs i), co, so)) : wX_finishPlain_123 post (nI i) v ln fd wc hd ch op fx fy fz rg ce gx gy gz lw pr tk rs co so := by
  have e : (nI i).toNatClampNeg = i := nI_clamp (by omega)
  have hin : vp_in (nI i) 20 := vp_in_nI hi (by omega)
  unfold wX_finishPlain_123
  rw [e, lq_b2, ev]
  exact ⟨hin, nm_e ⟨hin, nm_e H⟩⟩
theorem lx_plain {post : SX → Prop} (hi : i < 20) (W : lq_wf op fx fy fz i) (vx : lq_gv 20 (gx i)) (vy : lq_gv 20 (gy i)) (vz : lq_gv 20 (gz i)) (h4 : op i ≠ 4) (h5 : op i ≠ 5)
    (H : post (ln, fd, wc, hd, ch, op, fx, fy, fz, rg, ce, gx, gy, gz, lw, upd pr i 2, tk, upd rs i (lq_res op fx fy fz gx gy gz rg rs i), co, so)) : wpX_finishPlain post (ln, fd, wc, hd, ch, op, fx, fy, fz, rg, ce, gx, gy, gz, lw, pr, tk, rs, co, so) (nI i) := by
  have e : (nI i).toNatClampNeg = i := nI_clamp (by omega)
  have hin : vp_in (nI i) 20 := vp_in_nI hi (by omega)
  unfold wpX_finishPlain
  rw [e]
  refine ⟨hin, nm_e ⟨hin, nm_e ?_⟩⟩
  refine br_c (fun c0 => lx_plain123 hi ?_ H) (fun c0 => ⟨hin, hin, lx_value vy (W.2.2.1 c0) ⟨hin, hin, lx_value vz (W.2.2.2 (lq_o3 W c0 h4 h5)) ?_⟩⟩)
  · unfold lq_res lq_pl; rw [if_pos c0]
  · refine br_c (fun c1 => nm_e (lx_plain123 hi ?_ H)) (fun c1 => br_c (fun c2 => nm_e (lx_plain123 hi ?_ H)) (fun c2 => br_c (fun c3 => nm_e (lx_plain123 hi ?_ H)) (fun c3 => br_c (fun cp => ⟨hin, hin, lx_value vx W.2.1 (lx_plain123 hi ?_ H)⟩) (fun cp => lx_plain123 hi ?_ H))))
    · unfold lq_res lq_pl; rw [if_neg c0, if_pos c1]
    · unfold lq_res lq_pl; rw [if_neg c0, if_neg c1, if_pos c2]
    · unfold lq_res lq_pl; rw [if_neg c0, if_neg c1, if_neg c2, if_pos c3]
    · unfold lq_res lq_pl; rw [if_neg c0, if_neg c1, if_neg c2, if_neg c3, if_pos cp]
    · unfold lq_res lq_pl; rw [if_neg c0, if_neg c1, if_neg c2, if_neg c3, if_neg cp]
end
end
section
/-! ===== finishLoad ===== -/
section
variable {L h i : Nat} {ln hd fd wc ch : Int32} {op fx fy fz rg ce gx gy gz lw pr tk rs co so : Nat → Int32}
theorem lx_load80m {post : SX → Prop} {c : Nat} (hi : i < 20) (hc : c < 16) (H : post (ln, fd, wc, hd, ch, op, fx, fy, fz, rg, ce, gx, gy, gz, lw, upd pr i 2, tk, upd rs i (ce c), co, upd so i (-1))) : wX_finishLoad_80 post (nI i) (nI c) (-1) ln fd wc hd ch op fx fy fz rg ce gx gy gz lw pr tk rs co so := by
  have e : (nI i).toNatClampNeg = i := nI_clamp (by omega)
  have ec : (nI c).toNatClampNeg = c := nI_clamp (by omega)
  have hin : vp_in (nI i) 20 := vp_in_nI hi (by omega)
  have hic : vp_in (nI c) 16 := vp_in_nI hc (by omega)
  unfold wX_finishLoad_80
  rw [e, ec, lq_b2, lq_bmm]
  exact ⟨hin, nm_e (br_t (by decide) ⟨hic, hin, nm_e ⟨hin, nm_e H⟩⟩)⟩
theorem lx_load80s {post : SX → Prop} {c : Int32} {s : Nat} (hi : i < 20) (hs : s < 20) (H : post (ln, fd, wc, hd, ch, op, fx, fy, fz, rg, ce, gx, gy, gz, lw, upd pr i 2, tk, upd rs i (rs s), co, upd so i (nI s))) : wX_finishLoad_80 post (nI i) c (nI s) ln fd wc hd ch op fx fy fz rg ce gx gy gz lw pr tk rs co so := by
  have e : (nI i).toNatClampNeg = i := nI_clamp (by omega)
  have es : (nI s).toNatClampNeg = s := nI_clamp (by omega)
  have hin : vp_in (nI i) 20 := vp_in_nI hi (by omega)
  have his : vp_in (nI s) 20 := vp_in_nI hs (by omega)
  unfold wX_finishLoad_80
  rw [e, es, lq_b2, lq_byteN (by omega)]
  exact ⟨hin, nm_e (br_f (nI_pos (by omega)) ⟨his, hin, nm_e ⟨hin, nm_e H⟩⟩)⟩
theorem lx_load21 {post : SX → Prop} {c : Int32} (h20 : i < 20)
    (N : (∀ k, h ≤ k → k < i → ¬ (op k = 5 ∧ co k = c)) → wX_finishLoad_65 post (nI i) c (-1) ln fd wc (nI h) ch op fx fy fz rg ce gx gy gz lw pr tk rs co so)
    (F : ∀ s, h ≤ s → s < i → op s = 5 → co s = c → (∀ k, s < k → k < i → ¬ (op k = 5 ∧ co k = c)) → wX_finishLoad_65 post (nI i) c (nI s) ln fd wc (nI h) ch op fx fy fz rg ce gx gy gz lw pr tk rs co so) :
    ∀ (d j : Nat) (x4 : Int32), h + d = j → j ≤ i → x4.toInt = (j : Int) - 1 → (∀ k, j ≤ k → k < i → ¬ (op k = 5 ∧ co k = c)) → wX_finishLoad_21 post (nI i) c ln fd wc (nI h) ch op fx fy fz rg ce gx gy gz lw pr tk rs co so (d + 2) (-1) x4 := by
  intro d
  induction d with
  | zero =>
    intro j x4 hj hji hx hn
    have c1 : x4 < nI h := by rw [Int32.lt_iff_toInt_lt, nI_toInt (by omega), hx]; omega
    exact br_t c1 (N (fun k hk => hn k (by omega)))
  | succ d ih =>
    intro j x4 hj hji hx hn
    obtain ⟨m, rfl⟩ : ∃ m, j = m + 1 := ⟨j - 1, by omega⟩
    have ex : x4 = nI m := by
      apply Int32.toInt_inj.mp
      rw [hx, nI_toInt (by omega)]; omega
    subst ex
    have e : (nI m).toNatClampNeg = m := nI_clamp (by omega)
    have hin : vp_in (nI m) 20 := vp_in_nI (by omega) (by omega)
    have c1 : ¬ nI m < nI h := nI_nlt (by omega) (by omega)
    have hx' : (nI m + (-1)).toInt = (m : Int) - 1 := by
      by_cases z : m = 0
      · subst z; decide
      · obtain ⟨p, rfl⟩ : ∃ p, m = p + 1 := ⟨m - 1, by omega⟩
        rw [pk_m1, nI_toInt (by omega)]; omega
    have st : ¬ (op m = 5 ∧ co m = c) → wX_finishLoad_21 post (nI i) c ln fd wc (nI h) ch op fx fy fz rg ce gx gy gz lw pr tk rs co so (d + 2) (-1) (nI m + (-1)) := fun q =>
      ih m _ (by omega) (by omega) hx' (fun k hk hki => by
        by_cases z : k = m
        · rw [z]; exact q
        · exact hn k (by omega) hki)
    refine br_f c1 (br_f lq_nm1 ?_)
    rw [e]
    refine ⟨hin, br_c (fun o => ⟨hin, br_c (fun k => nm_e ?_) (fun k => nm_e (st (fun q => k q.2)))⟩) (fun o => nm_e (st (fun q => o q.1)))⟩
    have done := F m (by omega) (by omega) o k (fun k hk hki => hn k (by omega) hki)
    exact br_c (fun _ => done) (fun _ => br_t (nI_pos' (by omega)) done)
theorem lx_load {post : SX → Prop} (st : lq_st L op fx fy fz gx gy gz) (hL : i < L) (hi : h ≤ i) (h4 : op i = 4)
    (Hw : ∀ s, h ≤ s → s < i → post (ln, fd, wc, nI h, ch, op, fx, fy, fz, rg, ce, gx, gy, gz, lw, pr, tk, rs, upd co i (lq_adr fy fz gy rg rs i), so))
    (Hs : ∀ s, h ≤ s → s < i → op s = 5 → co s = lq_adr fy fz gy rg rs i → pr s = 2 → (∀ k, s < k → k < i → ¬ (op k = 5 ∧ co k = lq_adr fy fz gy rg rs i)) → post (ln, fd, wc, nI h, ch, op, fx, fy, fz, rg, ce, gx, gy, gz, lw, upd pr i 2, tk, upd rs i (rs s), upd co i (lq_adr fy fz gy rg rs i), upd so i (nI s)))
    (Hm : (∀ k, h ≤ k → k < i → ¬ (op k = 5 ∧ co k = lq_adr fy fz gy rg rs i)) → post (ln, fd, wc, nI h, ch, op, fx, fy, fz, rg, ce, gx, gy, gz, lw, upd pr i 2, tk, upd rs i (ce (lq_adr fy fz gy rg rs i).toNatClampNeg), upd co i (lq_adr fy fz gy rg rs i), upd so i (-1))) :
    wpX_finishLoad post (ln, fd, wc, nI h, ch, op, fx, fy, fz, rg, ce, gx, gy, gz, lw, pr, tk, rs, co, so) (nI i) := by
  have h20 := st.1
  have e : (nI i).toNatClampNeg = i := nI_clamp (by omega)
  have hin : vp_in (nI i) 20 := vp_in_nI (by omega) (by omega)
  have n0 : op i ≠ 0 := by rw [h4]; decide
  unfold wpX_finishLoad
  rw [e]
  refine lx_addr (by omega) (lq_gvm (lq_gvy (st.2.2 i hL)) (by omega)) ((st.2.1 i hL).2.2.1 n0) ⟨hin, ?_⟩
  obtain ⟨c, hc, ec⟩ : ∃ c, c < 16 ∧ lq_adr fy fz gy rg rs i = nI c := lq_a15 _
  have ecl : (nI c).toNatClampNeg = c := nI_clamp (by omega)
  rw [ec] at Hw Hs Hm ⊢
  rw [ecl] at Hm
  rw [lq_byteN (by omega)]
  refine nm_e (nm_e ⟨i - h + 2, ?_⟩)
  refine lx_load21 (h := h) (by omega) (fun hn => ?_) (fun s hs hsi o k hn => ?_) (i - h) i _ (by omega) (Nat.le_refl i) ?_ (fun k hk hki => by omega)
  · refine br_t (by decide) (lx_load80m (by omega) hc (Hm (fun k hk hki q => hn k hk hki ⟨q.1, ?_⟩)))
    rw [pk_un (by omega)]; exact q.2
  · have es : (nI s).toNatClampNeg = s := nI_clamp (by omega)
    rw [pk_un (by omega)] at k
    unfold wX_finishLoad_65
    rw [es]
    refine br_f (nI_pos (by omega)) ⟨vp_in_nI (by omega) (by omega), br_c (fun p => lx_load80s (by omega) (by omega) (Hs s hs hsi o k p (fun m hm hmi q => hn m hm hmi ⟨q.1, ?_⟩))) (fun p => Hw s hs hsi)⟩
    rw [pk_un (by omega)]; exact q.2
  · rw [show nI i - 1 = nI i + (-1) from Int32.sub_eq_add_neg ..]
    by_cases z : i = 0
    · rw [z]; decide
    · obtain ⟨p, rfl⟩ : ∃ p, i = p + 1 := ⟨i - 1, by omega⟩
      rw [pk_m1, nI_toInt (by omega)]; omega
/-! ===== catchEarly, finishStore ===== -/
theorem lx_sb58 {post : SX → Prop} (hL : L ≤ 20) : ∀ (d k : Nat) (pr co so : Nat → Int32), k + d = L → post (nI L, fd, wc, hd, ch, op, fx, fy, fz, rg, ce, gx, gy, gz, lw, lq_sb k L 0 pr, tk, rs, lq_sb k L (-1) co, lq_sb k L (-1) so) → wX_catchEarly_58 post (d + 1) (nI k) (nI L) fd wc hd ch op fx fy fz rg ce gx gy gz lw pr tk rs co so := by
  intro d
  induction d with
  | zero =>
    intro k pr co so hk H
    obtain rfl : k = L := by omega
    rw [lq_sbz, lq_sbz, lq_sbz] at H
    exact br_t (nI_le (Nat.le_refl _) (by omega)) H
  | succ d ih =>
    intro k pr co so hk H
    refine br_f (nI_ge (by omega) (by omega)) (lx_setBack (by omega) (nm_r (nI_1 k) (ih (k + 1) _ _ _ (by omega) ?_)))
    rw [lq_sbs (by omega), lq_sbs (by omega), lq_sbs (by omega)]
    exact H
theorem lx_catch4 {post : SX → Prop} {c : Int32} (hL : L ≤ 20) (hiL : i < L)
    (H : ∀ l, i < l → l ≤ L → (∀ m, i < m → m < l → ¬ (op m = 4 ∧ pr m = 2 ∧ co m = c ∧ (so m).toInt < (i : Int))) → post (nI L, fd, wc, hd, ch, op, fx, fy, fz, rg, ce, gx, gy, gz, lw, lq_sb l L 0 pr, tk, rs, lq_sb l L (-1) co, lq_sb l L (-1) so)) :
    ∀ d k : Nat, k + d = L → i < k → (∀ m, i < m → m < k → ¬ (op m = 4 ∧ pr m = 2 ∧ co m = c ∧ (so m).toInt < (i : Int))) → wX_catchEarly_4 post (nI i) c (nI L) fd wc hd ch op fx fy fz rg ce gx gy gz lw pr tk rs co so (d + 1) (nI k) := by
  intro d
  induction d with
  | zero =>
    intro k hk hik hn
    obtain rfl : k = L := by omega
    have q := H k hik (Nat.le_refl k) hn
    rw [lq_sbz, lq_sbz, lq_sbz] at q
    exact br_t (nI_le (Nat.le_refl _) (by omega)) q
  | succ d ih =>
    intro k hk hik hn
    have e : (nI k).toNatClampNeg = k := nI_clamp (by omega)
    have hin : vp_in (nI k) 20 := vp_in_nI (by omega) (by omega)
    have st : ¬ (op k = 4 ∧ pr k = 2 ∧ co k = c ∧ (so k).toInt < (i : Int)) → wX_catchEarly_4 post (nI i) c (nI L) fd wc hd ch op fx fy fz rg ce gx gy gz lw pr tk rs co so (d + 1) (nI (k + 1)) := fun q =>
      ih (k + 1) (by omega) (by omega) (fun m hm hmk => by
        by_cases z : m = k
        · rw [z]; exact q
        · exact hn m hm (by omega))
    refine br_f (nI_ge (by omega) (by omega)) ?_
    rw [e]
    refine ⟨hin, br_c (fun a => ⟨hin, br_c (fun b => ⟨hin, br_c (fun cc => ⟨hin, br_c (fun s => ?_) (fun s => nm_r (nI_1 k) (st (fun q => s ?_)))⟩) (fun cc => nm_r (nI_1 k) (st (fun q => cc q.2.2.1)))⟩) (fun b => nm_r (nI_1 k) (st (fun q => b q.2.1)))⟩) (fun a => nm_r (nI_1 k) (st (fun q => a q.1)))⟩
    · exact ⟨L - k + 1, lx_sb58 hL (L - k) k pr co so (by omega) (H k hik (by omega) hn)⟩
    · rw [Int32.lt_iff_toInt_lt, nI_toInt (by omega)]
      exact q.2.2.2
theorem lx_store {post : SX → Prop} (st : lq_st L op fx fy fz gx gy gz) (hL : i < L) (h5 : op i = 5)
    (H1 : ¬ 0 ≤ co i → ∀ l, i < l → l ≤ L → (∀ m, i < m → m < l → ¬ (op m = 4 ∧ pr m = 2 ∧ co m = lq_adr fy fz gy rg rs i ∧ (so m).toInt < (i : Int))) → post (nI L, fd, wc, hd, ch, op, fx, fy, fz, rg, ce, gx, gy, gz, lw, lq_sb l L 0 pr, tk, rs, lq_sb l L (-1) (upd co i (lq_adr fy fz gy rg rs i)), lq_sb l L (-1) so))
    (H2 : ¬ lq_th pr (gx i) → post (nI L, fd, wc, hd, ch, op, fx, fy, fz, rg, ce, gx, gy, gz, lw, pr, tk, rs, co, so))
    (H3 : 0 ≤ co i → lq_th pr (gx i) → post (nI L, fd, wc, hd, ch, op, fx, fy, fz, rg, ce, gx, gy, gz, lw, upd pr i 2, tk, upd rs i (lq_vl rg rs (gx i) (fx i)), co, so)) :
    wpX_finishStore post (nI L, fd, wc, hd, ch, op, fx, fy, fz, rg, ce, gx, gy, gz, lw, pr, tk, rs, co, so) (nI i) := by
  have h20 := st.1
  have e : (nI i).toNatClampNeg = i := nI_clamp (by omega)
  have hin : vp_in (nI i) 20 := vp_in_nI (by omega) (by omega)
  have n0 : op i ≠ 0 := by rw [h5]; decide
  have vx : lq_gv 20 (gx i) := lq_gvm (lq_gvx (st.2.2 i hL)) (by omega)
  have vy : lq_gv 20 (gy i) := lq_gvm (lq_gvy (st.2.2 i hL)) (by omega)
  unfold wpX_finishStore
  rw [e, lq_b2]
  refine ⟨hin, br_c (fun c => ⟨hin, lx_isThere vx (fun t => br_f (by decide) ⟨hin, hin, lx_value vx (st.2.1 i hL).2.1 ⟨hin, nm_e ⟨hin, nm_e (H3 c t)⟩⟩⟩) (fun t => br_t rfl (H2 t))⟩) (fun c => lx_addr (by omega) vy ((st.2.1 i hL).2.2.1 n0) ⟨hin, ?_⟩)⟩
  have H1' := H1 c
  obtain ⟨a, ha, ea⟩ : ∃ c, c < 16 ∧ lq_adr fy fz gy rg rs i = nI c := lq_a15 _
  rw [ea] at H1' ⊢
  rw [lq_byteN (by omega)]
  refine nm_e ?_
  unfold wpX_catchEarly
  refine nm_r (nI_1 i) ⟨L - (i + 1) + 1, lx_catch4 h20 hL (fun l hl hlL hn => ?_) (L - (i + 1)) (i + 1) (by omega) (by omega) (fun m hm hmi => by omega)⟩
  refine H1' l hl hlL (fun m hm hml q => hn m hm hml ⟨q.1, q.2.1, ?_, q.2.2.2⟩)
  rw [pk_un (by omega)]; exact q.2.2.1
end
end
section
/-! ===== advance ===== -/
section
variable {L h i : Nat} {fd wc ch : Int32} {op fx fy fz rg ce gx gy gz lw pr tk rs co so : Nat → Int32}
/-- what an advance of instruction i keeps or brings nearer at the head -/
def lq_adv (op : Nat → Int32) (h i : Nat) (pr tk co pr' tk' co' : Nat → Int32) : Prop :=
  (i ≠ h → pr' h = pr h ∧ tk' h = tk h ∧ co' h = co h) ∧ (i = h → lq_mu op pr' tk' co' h < lq_mu op pr tk co h ∨ pr' h = 2)
theorem lx_adv43 {post : SX → Prop} (st : lq_st L op fx fy fz gx gy gz) (I : lq_inv L op fx fy fz gx gy gz rg ce pr tk rs co so h) (hi : h ≤ i) (hL : i < L) (hp : pr i = 0)
    (H : ∀ ch' pr' tk' rs' co' so', lq_inv L op fx fy fz gx gy gz rg ce pr' tk' rs' co' so' h → lq_adv op h i pr tk co pr' tk' co' → post (nI L, fd, wc, nI h, ch', op, fx, fy, fz, rg, ce, gx, gy, gz, lw, pr', tk', rs', co', so')) :
    wX_advance_43 post (nI i) 1 (nI L) fd wc (nI h) ch op fx fy fz rg ce gx gy gz lw pr tk rs co so := by
  have h20 := st.1
  have e : (nI i).toNatClampNeg = i := nI_clamp (by omega)
  have hin : vp_in (nI i) 20 := vp_in_nI (by omega) (by omega)
  have G := st.2.2 i hL
  unfold wX_advance_43
  rw [e, lq_b1]
  refine br_f (by decide) (lx_start (by omega) (lq_gvm (lq_gvx G) (by omega)) (lq_gvm (lq_gvy G) (by omega)) (lq_gvm (lq_gvz G) (by omega)) (fun nd => br_f (by decide) ⟨hin, nm_e ?_⟩) (fun nd => br_t rfl ?_))
  · refine lx_roll (d := 4) rfl (by omega) (by omega) (fun ch' q hq => ⟨hin, ?_⟩)
    rw [lq_byteN (by omega)]
    refine nm_e (H ch' _ _ _ _ _ (lq_aStart st I hi hL hp nd hq) ⟨fun ne => ⟨pk_un (fun z => ne z.symm), pk_un (fun z => ne z.symm), rfl⟩, fun ie => Or.inl ?_⟩)
    subst ie
    rw [lq_muW hp, lq_muU pk_us]
    omega
  · refine H ch _ _ _ _ _ I ⟨fun _ => ⟨rfl, rfl, rfl⟩, fun ie => ?_⟩
    subst ie
    exact absurd ⟨lq_thh (by omega) (lq_gvy G) I.2.1, fun _ => lq_thh (by omega) (lq_gvx G) I.2.1, fun _ => lq_thh (by omega) (lq_gvz G) I.2.1⟩ nd
theorem lx_adv {post : SX → Prop} (st : lq_st L op fx fy fz gx gy gz) (I : lq_inv L op fx fy fz gx gy gz rg ce pr tk rs co so h) (hi : h ≤ i) (hL : i < L)
    (H : ∀ ch' pr' tk' rs' co' so', lq_inv L op fx fy fz gx gy gz rg ce pr' tk' rs' co' so' h → lq_adv op h i pr tk co pr' tk' co' → post (nI L, fd, wc, nI h, ch', op, fx, fy, fz, rg, ce, gx, gy, gz, lw, pr', tk', rs', co', so')) :
    wpX_advance post (nI L, fd, wc, nI h, ch, op, fx, fy, fz, rg, ce, gx, gy, gz, lw, pr, tk, rs, co, so) (nI i) := by
  have h20 := st.1
  have e : (nI i).toNatClampNeg = i := nI_clamp (by omega)
  have hin : vp_in (nI i) 20 := vp_in_nI (by omega) (by omega)
  have G := st.2.2 i hL
  have W := st.2.1 i hL
  unfold wpX_advance
  rw [e]
  refine ⟨hin, br_c (fun p2 => ?_) (fun p2 => ⟨hin, br_c (fun p0 => ?_) (fun p0 => ⟨hin, ?_⟩)⟩)⟩
  · exact H ch _ _ _ _ _ I ⟨fun _ => ⟨rfl, rfl, rfl⟩, fun ie => Or.inr (ie ▸ p2)⟩
  · refine lx_roll (d := 3) rfl (by omega) (by omega) (fun ch' q hq => ?_)
    refine br_c (fun _ => lx_adv43 st I hi hL p0 H) (fun _ => br_c (fun _ => lx_adv43 st I hi hL p0 H) (fun ne => br_t rfl ?_))
    exact H ch' _ _ _ _ _ I ⟨fun _ => ⟨rfl, rfl, rfl⟩, fun ie => absurd (congrArg nI ie) ne⟩
  · obtain ⟨p1, nd, ⟨t, ht, et⟩, hs⟩ := lq_one I hi hL p0 p2
    refine br_c (fun tz => ⟨hin, br_c (fun o4 => ?_) (fun o4 => ⟨hin, br_c (fun o5 => ?_) (fun o5 => ?_)⟩)⟩) (fun tz => ⟨hin, hin, ?_⟩)
    · refine lx_load st hL hi o4 (fun s hs hsi => ?_) (fun s hs hsi s5 sc sp sn => ?_) (fun sn => ?_)
      · exact H ch _ _ _ _ _ (lq_aWait st I hi hL p0 p2 o4) ⟨fun ne => ⟨rfl, rfl, pk_un (fun z => ne z.symm)⟩, fun ie => by omega⟩
      · refine H ch _ _ _ _ _ (lq_aLoad st I hi hL p0 p2 o4 (fun j hj hji j5 jc => ?_) (Or.inl ⟨s, hs, hsi, rfl, s5, sc, sp, rfl⟩)) ⟨fun ne => ⟨pk_un (fun z => ne z.symm), rfl, pk_un (fun z => ne z.symm)⟩, fun ie => by omega⟩
        rw [nI_toInt (by omega)]
        by_cases z : s < j
        · exact absurd ⟨j5, jc⟩ (sn j z hji)
        · omega
      · refine H ch _ _ _ _ _ (lq_aLoad st I hi hL p0 p2 o4 (fun j hj hji j5 jc => absurd ⟨j5, jc⟩ (sn j hj hji)) (Or.inr ⟨?_, rfl⟩)) ⟨fun ne => ⟨pk_un (fun z => ne z.symm), rfl, pk_un (fun z => ne z.symm)⟩, fun ie => Or.inr ?_⟩
        · rw [lq_m1T]; omega
        · rw [← ie]; exact pk_us
    · refine lx_store st hL o5 (fun cn l hl hlL hn => ?_) (fun nt => ?_) (fun cz t => ?_)
      · refine H ch _ _ _ _ _ (lq_aAddr st I hi hL p0 p2 o5 hl hn) ⟨fun ne => ⟨lq_sbl (by omega), rfl, (lq_sbl (by omega)).trans (pk_un (fun z => ne z.symm))⟩, fun ie => Or.inl ?_⟩
        subst ie
        have c0 : co i < 0 := Int32.not_le.mp cn
        have q1 : lq_sb l L 0 pr i = 1 := (lq_sbl hl).trans p1
        have q2 : ¬ lq_sb l L (-1) (upd co i (lq_adr fy fz gy rg rs i)) i < 0 := by
          rw [lq_sbl hl, pk_us]
          obtain ⟨c, hc, ec⟩ : ∃ c, c < 16 ∧ lq_adr fy fz gy rg rs i = nI c := lq_a15 _
          rw [ec]; exact nI_pos (by omega)
        rw [lq_muU q1, lq_muU p1, if_neg (fun z => q2 z.2), if_pos ⟨o5, c0⟩, et, nI_clamp (by omega)]
        omega
      · refine H ch _ _ _ _ _ I ⟨fun _ => ⟨rfl, rfl, rfl⟩, fun ie => ?_⟩
        subst ie
        exact absurd (lq_thh (by omega) (lq_gvx G) I.2.1) nt
      · exact H ch _ _ _ _ _ (lq_aStore st I hi hL p0 p2 o5 cz t) ⟨fun ne => ⟨pk_un (fun z => ne z.symm), rfl, rfl⟩, fun ie => Or.inr (by rw [← ie]; exact pk_us)⟩
    · exact lx_plain (by omega) W (lq_gvm (lq_gvx G) (by omega)) (lq_gvm (lq_gvy G) (by omega)) (lq_gvm (lq_gvz G) (by omega)) o4 o5 (H ch _ _ _ _ _ (lq_aPlain st I hi hL p0 p2 o4 o5) ⟨fun ne => ⟨pk_un (fun z => ne z.symm), rfl, rfl⟩, fun ie => Or.inr (by rw [← ie]; exact pk_us)⟩)
    · have t0 : 0 < t := by
        rcases Nat.eq_zero_or_pos t with z | z
        · rw [et, z, nI_0] at tz
          exact absurd (by decide) tz
        · exact z
      obtain ⟨m, rfl⟩ : ∃ m, t = m + 1 := ⟨t - 1, by omega⟩
      have ez : vp_nar .byte (((tk i) - 1).toInt8.toInt32) = nI m := by
        rw [et, nI_pred, lq_byteN (by omega)]
      rw [ez]
      refine nm_e (H ch _ _ _ _ _ (lq_aTick st I hi hL p0 p2 (by omega)) ⟨fun ne => ⟨rfl, pk_un (fun z => ne z.symm), rfl⟩, fun ie => Or.inl ?_⟩)
      subst ie
      rw [lq_muU p1, lq_muU p1, et, pk_us, nI_clamp (by omega), nI_clamp (by omega)]
      split <;> omega
end
end
section
/-! ===== takeEffect ===== -/
section
variable {L h i : Nat} {fd wc ch : Int32} {op fx fy fz rg ce gx gy gz lw pr tk rs co so wr : Nat → Int32}
theorem lq_WRs {c : Nat} (W : lq_WR wc wr) (hc : c < 16) : lq_WR (wc ||| ((1 : Int32) <<< (nI c &&& 31))) (upd wr c 1) := by
  intro j hj
  rw [lq_or hc hj]
  by_cases e : j = c
  · rw [if_pos e, e, pk_us]
    exact ⟨rfl, Or.inr rfl⟩
  · rw [if_neg e, pk_un e]
    exact W j hj
theorem lx_take {post : SX → Prop} (st : lq_st L op fx fy fz gx gy gz) (I : lq_inv L op fx fy fz gx gy gz rg ce pr tk rs co so h) (hL : h < L) (hp : pr h = 2) (W : lq_WR wc wr)
    (H : lq_nx op fx fy fz (fun fd' rg' ce' wr' => ∀ wc', lq_WR wc' wr' → lq_inv L op fx fy fz gx gy gz rg' ce' pr tk rs co so (h + 1) → post (nI L, fd', wc', nI (h + 1), ch, op, fx, fy, fz, rg', ce', gx, gy, gz, lw, pr, tk, rs, co, so)) h fd rg ce wr) :
    wpX_takeEffect post (nI L, fd, wc, nI h, ch, op, fx, fy, fz, rg, ce, gx, gy, gz, lw, pr, tk, rs, co, so) := by
  have h20 := st.1
  have e : (nI h).toNatClampNeg = h := nI_clamp (by omega)
  have hin : vp_in (nI h) 20 := vp_in_nI (by omega) (by omega)
  obtain ⟨x, hx, ex⟩ := (st.2.1 h hL).2.1
  have hix : vp_in (fx h) 6 := by rw [ex]; exact vp_in_nI hx (by omega)
  unfold wpX_takeEffect
  dsimp only
  rw [e]
  refine ⟨hin, nm_e ⟨hin, br_c (fun o5 => ⟨hin, ?_⟩) (fun o5 => ⟨hin, hin, hix, nm_e ?_⟩)⟩⟩
  · obtain ⟨hc, hr⟩ := lq_hS st I hL hp o5
    have n4 : ¬ op h = 4 := by rw [o5]; decide
    have T := lq_tS st I hL hp o5
    have Hq := H.1 o5
    unfold lq_cl at Hq
    rw [← hc, ← hr] at Hq
    obtain ⟨c, hc16, ec⟩ : ∃ c, c < 16 ∧ co h = nI c := by rw [hc]; exact lq_a15 _
    have ecl : (nI c).toNatClampNeg = c := nI_clamp (by omega)
    rw [ec, ecl] at Hq T ⊢
    refine ⟨vp_in_nI hc16 (by omega), nm_e (nm_e ?_)⟩
    unfold wX_takeEffect_66
    rw [e]
    exact ⟨hin, br_f n4 (nm_r (nI_1 h) (Hq _ (lq_WRs W hc16) T))⟩
  · have T := lq_tR st I hL hp o5
    unfold wX_takeEffect_66
    rw [e]
    refine ⟨hin, br_c (fun o4 => ?_) (fun o4 => nm_r (nI_1 h) ?_)⟩
    · obtain ⟨hc, hr⟩ := lq_hL st I hL hp o4
      have Hq := H.2.1 o4
      have Hr := H.2.2.1 o4
      unfold lq_cl at Hq Hr
      rw [← hc, ← hr] at Hq Hr
      obtain ⟨c, hc16, ec⟩ : ∃ c, c < 16 ∧ co h = nI c := by rw [hc]; exact lq_a15 _
      have ecl : (nI c).toNatClampNeg = c := nI_clamp (by omega)
      rw [ec, ecl] at Hq Hr
      rw [ec, (W c hc16).1]
      exact br_c (fun z => nm_r (nI_1 h) (Hq z wc W T)) (fun z => nm_e (nm_r (nI_1 h) (Hr z wc W T)))
    · have Hq := H.2.2.2 o4 o5
      rw [← lq_hP st I hL hp o4 o5] at Hq
      exact Hq wc W T
end
/-! ===== the loops of run ===== -/
section
variable {L h i : Nat} {fd wc ch : Int32} {op fx fy fz rg ce gx gy gz lw pr tk rs co so wr : Nat → Int32}
theorem lq_Ms (hL : h < L) : lq_M L op pr tk co (h + 1) < lq_M L op pr tk co h := by
  have a : lq_mu op pr tk co (h + 1) ≤ 6 := lq_mu6
  unfold lq_M
  have b : L - h = (L - (h + 1)) + 1 := by omega
  rw [b]
  omega
/-- Q: what the reference's run has come to -/
theorem lx_run80 {post : Int32 → SX → Prop} {J : Int32 → Int32 → Int32 → Int32 → Int32 → (Nat → Int32) → (Nat → Int32) → (Nat → Int32) → (Nat → Int32) → (Nat → Int32) → (Nat → Int32) → (Nat → Int32) → (Nat → Int32) → (Nat → Int32) → (Nat → Int32) → (Nat → Int32) → (Nat → Int32) → (Nat → Int32) → (Nat → Int32) → (Nat → Int32) → Prop}
    {Q : Nat → Int32 → (Nat → Int32) → (Nat → Int32) → (Nat → Int32) → Prop} (st : lq_st L op fx fy fz gx gy gz)
    (HQ : ∀ h fd rg ce wr, h < L → Q h fd rg ce wr → lq_nx op fx fy fz (Q (h + 1)) h fd rg ce wr) :
    ∀ (d h : Nat) (fd wc : Int32) (rg ce wr : Nat → Int32), h + d = L → lq_inv L op fx fy fz gx gy gz rg ce pr tk rs co so h → lq_WR wc wr → Q h fd rg ce wr →
    (∀ h' fd' wc' rg' ce' wr', lq_inv L op fx fy fz gx gy gz rg' ce' pr tk rs co so h' → lq_WR wc' wr' → Q h' fd' rg' ce' wr' → lq_M L op pr tk co h' ≤ lq_M L op pr tk co h → (pr h = 2 → h < L → lq_M L op pr tk co h' < lq_M L op pr tk co h) → J (nI L) fd' wc' (nI h') ch op fx fy fz rg' ce' gx gy gz lw pr tk rs co so) →
    wX_run_80 post J (d + 1) (nI L) fd wc (nI h) ch op fx fy fz rg ce gx gy gz lw pr tk rs co so := by
  intro d
  induction d with
  | zero =>
    intro h fd wc rg ce wr hd I W q H
    have h20 := st.1
    exact br_t (nI_le (by omega) (by omega)) (H h fd wc rg ce wr I W q (Nat.le_refl _) (fun _ z => by omega))
  | succ d ih =>
    intro h fd wc rg ce wr hd I W q H
    have h20 := st.1
    have e : (nI h).toNatClampNeg = h := nI_clamp (by omega)
    have hin : vp_in (nI h) 20 := vp_in_nI (by omega) (by omega)
    refine br_f (nI_ge (by omega) (by omega)) ⟨hin, ?_⟩
    rw [e]
    refine br_c (fun p2 => ?_) (fun p2 => H h fd wc rg ce wr I W q (Nat.le_refl _) (fun z => absurd z p2))
    have s := lq_Ms (L := L) (h := h) (op := op) (pr := pr) (tk := tk) (co := co) (by omega)
    have K : ∀ fd' rg' ce' wr', Q (h + 1) fd' rg' ce' wr' → ∀ wc', lq_WR wc' wr' → lq_inv L op fx fy fz gx gy gz rg' ce' pr tk rs co so (h + 1) → wX_run_80 post J (d + 1) (nI L) fd' wc' (nI (h + 1)) ch op fx fy fz rg' ce' gx gy gz lw pr tk rs co so :=
      fun fd' rg' ce' wr' q' wc' W' I' => ih (h + 1) fd' wc' rg' ce' wr' (by omega) I' W' q' (fun h2 fd2 wc2 rg2 ce2 wr2 I2 W2 q2 m1 _ => H h2 fd2 wc2 rg2 ce2 wr2 I2 W2 q2 (by omega) (fun _ _ => by omega))
    have n := HQ h fd rg ce wr (by omega) q
    refine lx_take st I (by omega) p2 W ⟨fun o => ?_, fun o z => ?_, fun o z => ?_, fun a b => ?_⟩
    · exact K _ _ _ _ (n.1 o)
    · exact K _ _ _ _ (n.2.1 o z)
    · exact K _ _ _ _ (n.2.2.1 o z)
    · exact K _ _ _ _ (n.2.2.2 a b)
theorem lx_run61 {post : Int32 → SX → Prop} {J : Int32 → Int32 → Int32 → Int32 → Int32 → (Nat → Int32) → (Nat → Int32) → (Nat → Int32) → (Nat → Int32) → (Nat → Int32) → (Nat → Int32) → (Nat → Int32) → (Nat → Int32) → (Nat → Int32) → (Nat → Int32) → (Nat → Int32) → (Nat → Int32) → (Nat → Int32) → (Nat → Int32) → (Nat → Int32) → Prop}
    {m : Nat} (st : lq_st L op fx fy fz gx gy gz) (hL : h < L)
    (H : ∀ ch' pr' tk' rs' co' so', lq_inv L op fx fy fz gx gy gz rg ce pr' tk' rs' co' so' h → (lq_mu op pr' tk' co' h < m ∨ pr' h = 2) → ∃ n80 : Nat, wX_run_80 post J n80 (nI L) fd wc (nI h) ch' op fx fy fz rg ce gx gy gz lw pr' tk' rs' co' so') :
    ∀ (d i : Nat) (ch : Int32) (pr tk rs co so : Nat → Int32), i + d = L → h ≤ i → lq_inv L op fx fy fz gx gy gz rg ce pr tk rs co so h → (i = h → lq_mu op pr tk co h = m) → (h < i → lq_mu op pr tk co h < m ∨ pr h = 2) →
    wX_run_61 post J (d + 1) (nI i) (nI L) fd wc (nI h) ch op fx fy fz rg ce gx gy gz lw pr tk rs co so := by
  intro d
  induction d with
  | zero =>
    intro i ch pr tk rs co so hd hi I m1 m2
    have h20 := st.1
    exact br_t (nI_le (by omega) (by omega)) (H ch pr tk rs co so I (m2 (by omega)))
  | succ d ih =>
    intro i ch pr tk rs co so hd hi I m1 m2
    have h20 := st.1
    refine br_f (nI_ge (by omega) (by omega)) (lx_adv st I hi (by omega) (fun ch' pr' tk' rs' co' so' I' A => nm_r (nI_1 i) ?_))
    refine ih (i + 1) ch' pr' tk' rs' co' so' (by omega) (by omega) I' (fun z => by omega) (fun _ => ?_)
    by_cases z : i = h
    · rw [← m1 z]; exact A.2 z
    · obtain ⟨a, b, c⟩ := A.1 z
      have mm : lq_mu op pr' tk' co' h = lq_mu op pr tk co h := by unfold lq_mu; rw [a, b, c]
      rw [mm, a]
      exact m2 (by omega)
theorem lx_run45 {post : Int32 → SX → Prop} {Q : Nat → Int32 → (Nat → Int32) → (Nat → Int32) → (Nat → Int32) → Prop} (st : lq_st L op fx fy fz gx gy gz)
    (HQ : ∀ h fd rg ce wr, h < L → Q h fd rg ce wr → lq_nx op fx fy fz (Q (h + 1)) h fd rg ce wr)
    (H : ∀ fd wc ch rg ce pr tk rs co so wr, lq_WR wc wr → Q L fd rg ce wr → post (nI L) (nI L, fd, wc, nI L, ch, op, fx, fy, fz, rg, ce, gx, gy, gz, lw, pr, tk, rs, co, so)) :
    ∀ (m h : Nat) (fd wc ch : Int32) (rg ce pr tk rs co so wr : Nat → Int32), lq_inv L op fx fy fz gx gy gz rg ce pr tk rs co so h → lq_WR wc wr → Q h fd rg ce wr → lq_M L op pr tk co h < m →
    wX_run_45 post m (nI L) fd wc (nI h) ch op fx fy fz rg ce gx gy gz lw pr tk rs co so := by
  intro m
  induction m with
  | zero =>
    intro h fd wc ch rg ce pr tk rs co so wr I W q hm
    omega
  | succ m ih =>
    intro h fd wc ch rg ce pr tk rs co so wr I W q hm
    have h20 := st.1
    have hl := I.1
    by_cases z : h = L
    · subst z
      exact br_t (nI_le (Nat.le_refl _) (by omega)) (H fd wc ch rg ce pr tk rs co so wr W q)
    · refine br_f (nI_ge (by omega) (by omega)) ⟨L - h + 1, ?_⟩
      refine lx_run61 (m := lq_mu op pr tk co h) st (by omega) (fun ch' pr' tk' rs' co' so' I' mm => ⟨L - h + 1, ?_⟩) (L - h) h ch pr tk rs co so (by omega) (Nat.le_refl h) I (fun _ => rfl) (fun z => by omega)
      refine lx_run80 (Q := Q) st HQ (L - h) h fd wc rg ce wr (by omega) I' W q (fun h2 fd2 wc2 rg2 ce2 wr2 I2 W2 q2 m1 m2 => ?_)
      refine ih h2 fd2 wc2 ch' rg2 ce2 pr' tk' rs' co' so' wr2 I2 W2 q2 ?_
      rcases mm with mm | mm
      · have a : lq_M L op pr' tk' co' h < lq_M L op pr tk co h := by unfold lq_M; omega
        omega
      · have b := m2 mm (by omega)
        have a : lq_M L op pr' tk' co' h ≤ lq_M L op pr tk co h := by
          unfold lq_M
          rw [lq_muD mm]
          omega
        omega
theorem lx_run21 {post : Int32 → SX → Prop} {hd : Int32} (h20 : L ≤ 20) : ∀ (d i : Nat) (pr co so : Nat → Int32), i + d = L →
    (∃ n45 : Nat, wX_run_45 post n45 (nI L) fd wc (nI 0) ch op fx fy fz rg ce gx gy gz lw (lq_sb i L 0 pr) tk rs (lq_sb i L (-1) co) (lq_sb i L (-1) so)) → wX_run_21 post (d + 1) (nI i) (nI L) fd wc hd ch op fx fy fz rg ce gx gy gz lw pr tk rs co so := by
  intro d
  induction d with
  | zero =>
    intro i pr co so hd' H
    obtain rfl : i = L := by omega
    rw [lq_sbz, lq_sbz, lq_sbz] at H
    exact br_t (nI_le (Nat.le_refl _) (by omega)) H
  | succ d ih =>
    intro i pr co so hd' H
    refine br_f (nI_ge (by omega) (by omega)) (lx_setBack (by omega) (nm_r (nI_1 i) (ih (i + 1) _ _ _ (by omega) ?_)))
    rw [lq_sbs (by omega), lq_sbs (by omega), lq_sbs (by omega)]
    exact H
end
end
section
/-! ===== findGivers ===== -/
section
variable {L i : Nat} {hd fd wc ch : Int32} {op fx fy fz rg ce gx gy gz lw pr tk rs co so : Nat → Int32}
theorem lq_bg {g : Int32} (hi : i ≤ 20) (hg : lq_gv i g) : vp_nar .byte g = g := by
  rcases hg with e | ⟨k, hk, e⟩
  · rw [e]; exact lq_bm
  · rw [e]; exact lq_byteM (by omega)
theorem lx_g106 {post : SX → Prop} {J : Int32 → (Nat → Int32) → (Nat → Int32) → (Nat → Int32) → (Nat → Int32) → (Nat → Int32) → (Nat → Int32) → (Nat → Int32) → (Nat → Int32) → (Nat → Int32) → (Nat → Int32) → (Nat → Int32) → (Nat → Int32) → (Nat → Int32) → (Nat → Int32) → (Nat → Int32) → Prop} {g : Int32}
    (hi : i < 20) (hx : ∃ x, x < 6 ∧ fx i = nI x) (hg : lq_gv 20 g)
    (H5 : op i = 5 → J (nI (i + 1)) op fx fy fz rg ce gx gy (upd gz i g) lw pr tk rs co so)
    (H : op i ≠ 5 → J (nI (i + 1)) op fx fy fz rg ce gx gy (upd gz i g) (upd lw (fx i).toNatClampNeg (nI i)) pr tk rs co so) :
    wX_findGivers_106 post J (nI i) g (nI i) (nI L) fd wc hd ch op fx fy fz rg ce gx gy gz lw pr tk rs co so := by
  have e : (nI i).toNatClampNeg = i := nI_clamp (by omega)
  have hin : vp_in (nI i) 20 := vp_in_nI hi (by omega)
  have hix : vp_in (fx i) 6 := by obtain ⟨x, hx, ex⟩ := hx; rw [ex]; exact vp_in_nI hx (by omega)
  unfold wX_findGivers_106
  rw [e, lq_bg (Nat.le_refl 20) hg, lq_byteN (by omega)]
  exact ⟨hin, nm_e ⟨hin, br_c (fun o => nm_r (nI_1 i) (H5 o)) (fun o => ⟨hin, hix, nm_e (nm_r (nI_1 i) (H o))⟩)⟩⟩
theorem lx_g77 {post : SX → Prop} {J : Int32 → (Nat → Int32) → (Nat → Int32) → (Nat → Int32) → (Nat → Int32) → (Nat → Int32) → (Nat → Int32) → (Nat → Int32) → (Nat → Int32) → (Nat → Int32) → (Nat → Int32) → (Nat → Int32) → (Nat → Int32) → (Nat → Int32) → (Nat → Int32) → (Nat → Int32) → Prop} {g : Int32}
    (hi : i < 20) (Wf : lq_wf op fx fy fz i) (hg : lq_gv 20 g) (hw : ∀ r, r < 6 → lw r = lq_lw op fx i r)
    (H : ∀ gz' lw', (∀ j, j ≠ i → gz' j = gz j) → (lq_three (op i) → gz' i = lq_lw op fx i (fz i).toNatClampNeg) → (¬ lq_three (op i) → gz' i = -1) → (∀ r, r < 6 → lw' r = lq_lw op fx (i + 1) r) → J (nI (i + 1)) op fx fy fz rg ce gx (upd gy i g) gz' lw' pr tk rs co so) :
    wX_findGivers_77 post J (nI i) g (nI i) (nI L) fd wc hd ch op fx fy fz rg ce gx gy gz lw pr tk rs co so := by
  have e : (nI i).toNatClampNeg = i := nI_clamp (by omega)
  have hin : vp_in (nI i) 20 := vp_in_nI hi (by omega)
  have w5 : op i = 5 → ∀ r, r < 6 → lw r = lq_lw op fx (i + 1) r := fun o r hr => by
    rw [hw r hr]
    show _ = if op i ≠ 5 ∧ (fx i).toNatClampNeg = r then nI i else lq_lw op fx i r
    rw [if_neg (fun q => q.1 o)]
  have w : op i ≠ 5 → ∀ r, r < 6 → upd lw (fx i).toNatClampNeg (nI i) r = lq_lw op fx (i + 1) r := fun o r hr => by
    show _ = if op i ≠ 5 ∧ (fx i).toNatClampNeg = r then nI i else lq_lw op fx i r
    by_cases z : (fx i).toNatClampNeg = r
    · rw [if_pos ⟨o, z⟩, z]; exact pk_us
    · rw [if_neg (fun q => z q.2), pk_un (fun q => z q.symm)]; exact hw r hr
  unfold wX_findGivers_77
  rw [e, lq_bg (Nat.le_refl 20) hg]
  refine ⟨hin, nm_e (lx_three hi (fun t => br_f (by decide) ⟨hin, ?_⟩) (fun t => br_t rfl ?_))⟩
  · obtain ⟨z, hz, ez⟩ := Wf.2.2.2 t
    have ec : (nI z).toNatClampNeg = z := nI_clamp (by omega)
    have lz : lw (fz i).toNatClampNeg = lq_lw op fx i (fz i).toNatClampNeg := by rw [ez, ec]; exact hw z hz
    refine ⟨by rw [ez]; exact vp_in_nI hz (by omega), ?_⟩
    rw [lz]
    have F : ∀ lw', (∀ r, r < 6 → lw' r = lq_lw op fx (i + 1) r) → J (nI (i + 1)) op fx fy fz rg ce gx (upd gy i g) (upd gz i (lq_lw op fx i (fz i).toNatClampNeg)) lw' pr tk rs co so :=
      fun lw' h' => H _ lw' (fun j hj => pk_un hj) (fun _ => pk_us) (fun q => absurd t q) h'
    exact lx_g106 hi Wf.2.1 (lq_gvm (lq_lwv _ i) (by omega)) (fun o => F _ (w5 o)) (fun o => F _ (w o))
  · have F : ∀ lw', (∀ r, r < 6 → lw' r = lq_lw op fx (i + 1) r) → J (nI (i + 1)) op fx fy fz rg ce gx (upd gy i g) (upd gz i (-1)) lw' pr tk rs co so :=
      fun lw' h' => H _ lw' (fun j hj => pk_un hj) (fun q => absurd q t) (fun _ => pk_us) h'
    exact lx_g106 hi Wf.2.1 (Or.inl rfl) (fun o => F _ (w5 o)) (fun o => F _ (w o))
theorem lx_g23 {post : SX → Prop} (h20 : L ≤ 20) (Wf : ∀ i, i < L → lq_wf op fx fy fz i)
    (H : ∀ gx gy gz lw, (∀ i, i < L → lq_giv op fx fy fz gx gy gz i) → post (nI L, fd, wc, hd, ch, op, fx, fy, fz, rg, ce, gx, gy, gz, lw, pr, tk, rs, co, so)) :
    ∀ (d i : Nat) (gx gy gz lw : Nat → Int32), i + d = L → (∀ r, r < 6 → lw r = lq_lw op fx i r) → (∀ j, j < i → lq_giv op fx fy fz gx gy gz j) →
    wX_findGivers_23 post (nI L) fd wc hd ch (d + 1) (nI i) op fx fy fz rg ce gx gy gz lw pr tk rs co so := by
  intro d
  induction d with
  | zero =>
    intro i gx gy gz lw hd' hw hG
    exact br_t (nI_le (by omega) (by omega)) (H gx gy gz lw (fun j hj => hG j (by omega)))
  | succ d ih =>
    intro i gx gy gz lw hd' hw hG
    have e : (nI i).toNatClampNeg = i := nI_clamp (by omega)
    have hin : vp_in (nI i) 20 := vp_in_nI (by omega) (by omega)
    have W := Wf i (by omega)
    obtain ⟨x, hx, ex⟩ := W.2.1
    have ecx : (nI x).toNatClampNeg = x := nI_clamp (by omega)
    have lx : lw (fx i).toNatClampNeg = lq_lw op fx i (fx i).toNatClampNeg := by rw [ex, ecx]; exact hw x hx
    have hix : vp_in (fx i) 6 := by rw [ex]; exact vp_in_nI hx (by omega)
    have bgx : vp_nar .byte (lq_lw op fx i (fx i).toNatClampNeg) = lq_lw op fx i (fx i).toNatClampNeg := lq_bg (i := i) (by omega) (lq_lwv _ i)
    refine br_f (nI_ge (by omega) (by omega)) ?_
    rw [e]
    refine ⟨hin, hix, hin, ?_⟩
    rw [lx, bgx]
    refine nm_e ⟨hin, br_c (fun o => ?_) (fun o => ⟨hin, ?_⟩)⟩
    · refine lx_g77 (by omega) W (Or.inl rfl) hw (fun gz' lw' z1 z2 z3 z4 => ih (i + 1) _ _ _ _ (by omega) z4 (fun j hj => ?_))
      by_cases q : j = i
      · subst q
        refine ⟨pk_us, fun _ => pk_us, fun q => absurd o q, z2, z3⟩
      · have G := hG j (by omega)
        refine ⟨?_, fun c => ?_, fun c => ?_, fun c => ?_, fun c => ?_⟩
        · rw [pk_un q]; exact G.1
        · rw [pk_un q]; exact G.2.1 c
        · rw [pk_un q]; exact G.2.2.1 c
        · rw [z1 j q]; exact G.2.2.2.1 c
        · rw [z1 j q]; exact G.2.2.2.2 c
    · obtain ⟨y, hy, ey⟩ := W.2.2.1 o
      have ecy : (nI y).toNatClampNeg = y := nI_clamp (by omega)
      have ly : lw (fy i).toNatClampNeg = lq_lw op fx i (fy i).toNatClampNeg := by rw [ey, ecy]; exact hw y hy
      refine ⟨by rw [ey]; exact vp_in_nI hy (by omega), ?_⟩
      rw [ly]
      refine lx_g77 (by omega) W (lq_gvm (lq_lwv _ i) (by omega)) hw (fun gz' lw' z1 z2 z3 z4 => ih (i + 1) _ _ _ _ (by omega) z4 (fun j hj => ?_))
      by_cases q : j = i
      · subst q
        refine ⟨pk_us, fun q => absurd q o, fun _ => pk_us, z2, z3⟩
      · have G := hG j (by omega)
        refine ⟨?_, fun c => ?_, fun c => ?_, fun c => ?_, fun c => ?_⟩
        · rw [pk_un q]; exact G.1
        · rw [pk_un q]; exact G.2.1 c
        · rw [pk_un q]; exact G.2.2.1 c
        · rw [z1 j q]; exact G.2.2.2.1 c
        · rw [z1 j q]; exact G.2.2.2.2 c
theorem lx_g2 {post : SX → Prop} (H : ∀ lw, (∀ r, r < 6 → lw r = -1) → ∃ n23 : Nat, wX_findGivers_23 post (nI L) fd wc hd ch n23 (nI 0) op fx fy fz rg ce gx gy gz lw pr tk rs co so) :
    ∀ (d i : Nat) (lw : Nat → Int32), i + d = 6 → (∀ r, r < i → lw r = -1) → wX_findGivers_2 post (nI L) fd wc hd ch (d + 1) (nI i) op fx fy fz rg ce gx gy gz lw pr tk rs co so := by
  intro d
  induction d with
  | zero =>
    intro i lw hd' hw
    obtain rfl : i = 6 := by omega
    exact br_t (nI_le (a := 6) (b := 6) (Nat.le_refl _) (by omega)) (H lw hw)
  | succ d ih =>
    intro i lw hd' hw
    have e : (nI i).toNatClampNeg = i := nI_clamp (by omega)
    have hin : vp_in (nI i) 6 := vp_in_nI (by omega) (by omega)
    refine br_f (nI_ge (b := 6) (by omega) (by omega)) ?_
    rw [e, lq_bm]
    refine ⟨hin, nm_e (nm_r (nI_1 i) (ih (i + 1) _ (by omega) (fun r hr => ?_)))⟩
    by_cases z : r = i
    · rw [z]; exact pk_us
    · rw [pk_un z]; exact hw r (by omega)
theorem lx_givers {post : SX → Prop} (h20 : L ≤ 20) (Wf : ∀ i, i < L → lq_wf op fx fy fz i)
    (H : ∀ gx gy gz lw, lq_st L op fx fy fz gx gy gz → post (nI L, fd, wc, hd, ch, op, fx, fy, fz, rg, ce, gx, gy, gz, lw, pr, tk, rs, co, so)) : wpX_findGivers post (nI L, fd, wc, hd, ch, op, fx, fy, fz, rg, ce, gx, gy, gz, lw, pr, tk, rs, co, so) := by
  unfold wpX_findGivers
  refine ⟨7, lx_g2 (fun lw' hw => ⟨L + 1, ?_⟩) 6 0 lw (by omega) (fun r hr => by omega)⟩
  exact lx_g23 h20 Wf (fun gx gy gz lw hG => H gx gy gz lw ⟨h20, Wf, hG⟩) L 0 gx gy gz lw' (by omega) (fun r hr => hw r hr) (fun j hj => by omega)
end
end
section
/-! ===== the reference ===== -/
section
variable {L h i : Nat} {ln fd : Int32} {op fx fy fz rg ce wr : Nat → Int32}
theorem ly_result {post : Int32 → Prop} (hi : i < 20) (W : lq_wf op fx fy fz i) (h4 : op i ≠ 4) (h5 : op i ≠ 5)
    (H : post (lq_pl (op i) (fy i) (rg (fy i).toNatClampNeg) (rg (fz i).toNatClampNeg) (rg (fx i).toNatClampNeg))) : wpY_result post (ln, fd, op, fx, fy, fz, rg, ce, wr) (nI i) := by
  have e : (nI i).toNatClampNeg = i := nI_clamp (by omega)
  have hin : vp_in (nI i) 20 := vp_in_nI hi (by omega)
  have vin : ∀ {r : Int32}, (∃ x, x < 6 ∧ r = nI x) → vp_in r 6 := fun q => by obtain ⟨x, hx, ex⟩ := q; rw [ex]; exact vp_in_nI hx (by omega)
  unfold lq_pl at H
  unfold wpY_result
  rw [e]
  refine ⟨hin, br_c (fun c0 => ⟨hin, ?_⟩) (fun c0 => ⟨hin, vin (W.2.2.1 c0), nm_e ⟨hin, br_c (fun c6 => br_c (fun p => ⟨hin, vin W.2.1, ?_⟩) (fun p => ⟨hin, vin (W.2.2.2 (lq_o3 W c0 h4 h5)), ?_⟩)) (fun c6 => ⟨hin, vin (W.2.2.2 (lq_o3 W c0 h4 h5)), nm_e ⟨hin, br_c (fun c1 => ?_) (fun c1 => ⟨hin, br_c (fun c2 => ?_) (fun c2 => ?_)⟩)⟩⟩)⟩⟩)⟩
  · rw [if_pos c0] at H; exact H
  · rw [if_neg c0, if_neg (by rw [c6]; decide), if_neg (by rw [c6]; decide), if_neg (by rw [c6]; decide), if_pos p] at H; exact H
  · rw [if_neg c0, if_neg (by rw [c6]; decide), if_neg (by rw [c6]; decide), if_neg (by rw [c6]; decide), if_neg p] at H; exact H
  · rw [if_neg c0, if_pos c1] at H; exact H
  · rw [if_neg c0, if_neg c1, if_pos c2] at H; exact H
  · have c3 : op i = 3 := by
      rcases lq_o5 W h4 h5 with z | z | z | z | z
      · exact absurd z c0
      · exact absurd z c1
      · exact absurd z c2
      · exact z
      · exact absurd z c6
    rw [if_neg c0, if_neg c1, if_neg c2, if_pos c3] at H; exact H
theorem ly_98 {post : SY → Prop} {c : Nat} (hi : i < 20) (W : lq_wf op fx fy fz i) (hc : c < 16) (H : post (ln, fd, op, fx, fy, fz, upd rg (fx i).toNatClampNeg (ce c), ce, wr)) : wY_execute_98 post (nI i) (nI c) ln fd op fx fy fz rg ce wr := by
  have e : (nI i).toNatClampNeg = i := nI_clamp (by omega)
  have ec : (nI c).toNatClampNeg = c := nI_clamp (by omega)
  have hin : vp_in (nI i) 20 := vp_in_nI hi (by omega)
  have hic : vp_in (nI c) 16 := vp_in_nI hc (by omega)
  have hix : vp_in (fx i) 6 := by obtain ⟨x, hx, ex⟩ := W.2.1; rw [ex]; exact vp_in_nI hx (by omega)
  unfold wY_execute_98
  rw [e, ec]
  exact ⟨hin, hic, hix, nm_e H⟩
theorem ly_bo : vp_nar .boolean 1 = 1 := rfl
theorem ly_bz : vp_nar .boolean 0 = 0 := rfl
theorem ly_20 {post : SY → Prop} (hi : i < 20) (W : lq_wf op fx fy fz i) (o : op i = 4 ∨ op i = 5)
    (H : lq_nx op fx fy fz (fun fd' rg' ce' wr' => post (ln, fd', op, fx, fy, fz, rg', ce', wr')) i fd rg ce wr) : wY_execute_20 post (nI i) ln fd op fx fy fz rg ce wr := by
  have e : (nI i).toNatClampNeg = i := nI_clamp (by omega)
  have hin : vp_in (nI i) 20 := vp_in_nI hi (by omega)
  have hix : vp_in (fx i) 6 := by obtain ⟨x, hx, ex⟩ := W.2.1; rw [ex]; exact vp_in_nI hx (by omega)
  have n0 : op i ≠ 0 := by rcases o with o | o <;> rw [o] <;> decide
  have hiy : vp_in (fy i) 6 := by obtain ⟨x, hx, ex⟩ := W.2.2.1 n0; rw [ex]; exact vp_in_nI hx (by omega)
  obtain ⟨c, hc, ec⟩ := lq_a15 (rg (fy i).toNatClampNeg + fz i)
  have ecl : (nI c).toNatClampNeg = c := nI_clamp (by omega)
  have hic : vp_in (nI c) 16 := vp_in_nI hc (by omega)
  have ek : lq_cl fy fz rg i = c := by unfold lq_cl; rw [ec, ecl]
  unfold lq_nx at H
  rw [ek] at H
  unfold wY_execute_20
  rw [e]
  refine ⟨hin, hiy, hin, nm_r ec ?_⟩
  rw [ecl, ly_bo]
  refine ⟨hin, br_c (fun o5 => ⟨hin, hix, hic, nm_e ⟨hic, nm_e (H.1 o5)⟩⟩) (fun o5 => ⟨hic, ?_⟩)⟩
  have o4 : op i = 4 := o.resolve_right o5
  exact br_c (fun z => ly_98 hi W hc (H.2.1 o4 z)) (fun z => nm_e (ly_98 hi W hc (H.2.2.1 o4 z)))
theorem ly_exec {post : SY → Prop} (hi : i < 20) (W : lq_wf op fx fy fz i)
    (H : lq_nx op fx fy fz (fun fd' rg' ce' wr' => post (ln, fd', op, fx, fy, fz, rg', ce', wr')) i fd rg ce wr) : wpY_execute post (ln, fd, op, fx, fy, fz, rg, ce, wr) (nI i) := by
  have e : (nI i).toNatClampNeg = i := nI_clamp (by omega)
  have hin : vp_in (nI i) 20 := vp_in_nI hi (by omega)
  have hix : vp_in (fx i) 6 := by obtain ⟨x, hx, ex⟩ := W.2.1; rw [ex]; exact vp_in_nI hx (by omega)
  unfold wpY_execute
  rw [e]
  exact ⟨hin, br_c (fun o4 => ly_20 hi W (Or.inl o4) H) (fun o4 => ⟨hin, br_c (fun o5 => ly_20 hi W (Or.inr o5) H) (fun o5 => ly_result hi W o4 o5 ⟨hin, hix, nm_e (H.2.2.2 o4 o5)⟩)⟩)⟩
/-- an instruction has one outcome -/
theorem lq_out : ∃ (fd' : Int32) (rg' ce' wr' : Nat → Int32), ∀ Q, lq_nx op fx fy fz Q i fd rg ce wr ↔ Q fd' rg' ce' wr' := by
  by_cases o5 : op i = 5
  · have o4 : op i ≠ 4 := by rw [o5]; decide
    exact ⟨_, _, _, _, fun Q => ⟨fun H => H.1 o5, fun q => ⟨fun _ => q, fun z => absurd z o4, fun z => absurd z o4, fun _ z => absurd o5 z⟩⟩⟩
  · by_cases o4 : op i = 4
    · by_cases w : wr (lq_cl fy fz rg i) = 0
      · exact ⟨_, _, _, _, fun Q => ⟨fun H => H.2.1 o4 w, fun q => ⟨fun z => absurd z o5, fun _ _ => q, fun _ z => absurd w z, fun z => absurd o4 z⟩⟩⟩
      · exact ⟨_, _, _, _, fun Q => ⟨fun H => H.2.2.1 o4 w, fun q => ⟨fun z => absurd z o5, fun _ z => absurd z w, fun _ _ => q, fun z => absurd o4 z⟩⟩⟩
    · exact ⟨_, _, _, _, fun Q => ⟨fun H => H.2.2.2 o4 o5, fun q => ⟨fun z => absurd z o5, fun z => absurd z o4, fun z => absurd z o4, fun _ _ => q⟩⟩⟩
theorem ly_step {post : Int32 → SY → Prop} {n : Nat} (h20 : L ≤ 20) (hi : i < L) (W : lq_wf op fx fy fz i)
    (H : lq_nx op fx fy fz (fun fd' rg' ce' wr' => wY_run_28 post n (nI (i + 1)) (nI L) fd' op fx fy fz rg' ce' wr') i fd rg ce wr) : wY_run_28 post (n + 1) (nI i) (nI L) fd op fx fy fz rg ce wr := by
  refine br_f (nI_ge (by omega) (by omega)) (ly_exec (by omega) W ?_)
  obtain ⟨fd', rg', ce', wr', hq⟩ := lq_out (op := op) (fx := fx) (fy := fy) (fz := fz) (i := i) (fd := fd) (rg := rg) (ce := ce) (wr := wr)
  rw [hq] at H ⊢
  exact nm_r (nI_1 i) H
/-- what the reference asks at instruction h, it asks at the start -/
def ly_Q (L : Nat) (op fx fy fz rg0 ce0 wr0 : Nat → Int32) (h : Nat) (fd : Int32) (rg ce wr : Nat → Int32) : Prop :=
  ∀ post : Int32 → SY → Prop, wY_run_28 post (L - h + 1) (nI h) (nI L) fd op fx fy fz rg ce wr → wY_run_28 post (L + 1) (nI 0) (nI L) 0 op fx fy fz rg0 ce0 wr0
theorem ly_Qs {rg0 ce0 wr0 : Nat → Int32} (h20 : L ≤ 20) (Wf : ∀ i, i < L → lq_wf op fx fy fz i) :
    ∀ h fd rg ce wr, h < L → ly_Q L op fx fy fz rg0 ce0 wr0 h fd rg ce wr → lq_nx op fx fy fz (ly_Q L op fx fy fz rg0 ce0 wr0 (h + 1)) h fd rg ce wr := by
  intro h fd rg ce wr hL q
  obtain ⟨fd', rg', ce', wr', hq⟩ := lq_out (op := op) (fx := fx) (fy := fy) (fz := fz) (i := h) (fd := fd) (rg := rg) (ce := ce) (wr := wr)
  rw [hq]
  intro post hp
  apply q post
  have z : L - h = L - (h + 1) + 1 := by omega
  rw [z]
  refine ly_step h20 hL (Wf h hL) ?_
  rw [hq]
  exact hp
theorem ly_run7 {post : Int32 → SY → Prop} : ∀ (d i : Nat) (wr : Nat → Int32), i + d = 16 → (∃ n28 : Nat, wY_run_28 post n28 (nI 0) (nI L) fd op fx fy fz rg ce (lq_sb i 16 0 wr)) → wY_run_7 post (nI L) fd (d + 1) (nI i) op fx fy fz rg ce wr := by
  intro d
  induction d with
  | zero =>
    intro i wr hd H
    obtain rfl : i = 16 := by omega
    rw [lq_sbz] at H
    exact br_t (nI_le (a := 16) (b := 16) (Nat.le_refl _) (by omega)) H
  | succ d ih =>
    intro i wr hd H
    have e : (nI i).toNatClampNeg = i := nI_clamp (by omega)
    have hin : vp_in (nI i) 16 := vp_in_nI (by omega) (by omega)
    refine br_f (nI_ge (b := 16) (by omega) (by omega)) ?_
    rw [e, ly_bz]
    refine ⟨hin, nm_e (nm_r (nI_1 i) (ih (i + 1) _ (by omega) ?_))⟩
    rw [lq_sbs (by omega)]
    exact H
end
end
section
/-! ===== what is owed ===== -/
/-- program, registers, cells and counts alike; a bit a written cell -/
def i_Rel (_ : Nat) (u : SX) (v : SY) : Prop := match u, v with
  | (ln, fd, wc, _, _, op, fx, fy, fz, rg, ce, _, _, _, _, _, _, _, _, _), (n, fe, o, x, y, z, r, c, wr) =>
    ∃ L : Nat, L ≤ 20 ∧ ln = nI L ∧ n = nI L ∧ fe = fd ∧ o = op ∧ x = fx ∧ y = fy ∧ z = fz ∧ r = rg ∧ c = ce ∧ (∀ i, i < L → lq_wf op fx fy fz i) ∧ lq_WR wc wr
theorem lq_in {k L : Nat} {fd wc hd ch : Int32} {op fx fy fz rg ce gx gy gz lw pr tk rs co so wr : Nat → Int32} (h20 : L ≤ 20) (Wf : ∀ i, i < L → lq_wf op fx fy fz i) (W : lq_WR wc wr) : i_Rel k (nI L, fd, wc, hd, ch, op, fx, fy, fz, rg, ce, gx, gy, gz, lw, pr, tk, rs, co, so) (nI L, fd, op, fx, fy, fz, rg, ce, wr) :=
  ⟨L, h20, rfl, rfl, rfl, rfl, rfl, rfl, rfl, rfl, rfl, Wf, W⟩
theorem lq_el {k : Nat} {u : SX} {v : SY} {P : SX → SY → Prop}
    (H : ∀ (L : Nat) (fd wc hd ch : Int32) (op fx fy fz rg ce gx gy gz lw pr tk rs co so wr : Nat → Int32), L ≤ 20 → (∀ i, i < L → lq_wf op fx fy fz i) → lq_WR wc wr → P (nI L, fd, wc, hd, ch, op, fx, fy, fz, rg, ce, gx, gy, gz, lw, pr, tk, rs, co, so) (nI L, fd, op, fx, fy, fz, rg, ce, wr))
    (I : i_Rel k u v) : P u v := by
  obtain ⟨ln, fd, wc, hd, ch, op, fx, fy, fz, rg, ce, gx, gy, gz, lw, pr, tk, rs, co, so⟩ := u
  obtain ⟨n, fe, o, x, y, z, r, c, wr⟩ := v
  obtain ⟨L, h20, e1, e2, e3, e4, e5, e6, e7, e8, e9, Wf, W⟩ := I
  subst e1 e2 e3 e4 e5 e6 e7 e8 e9
  exact H L _ wc hd ch _ _ _ _ _ _ gx gy gz lw pr tk rs co so wr h20 Wf W
theorem i_up {k : Nat} {u : SX} {v : SY} (h : i_Rel k u v) : i_Rel (k + 5) u v := h
theorem lq_WR0 {wr : Nat → Int32} (h : ∀ c, c < 16 → wr c = 0) : lq_WR 0 wr := by
  intro c hc
  rw [lq_btt hc, b_0, h c hc]
  exact ⟨rfl, Or.inl rfl⟩
theorem i_vc0 : wpX_init (fun u => wpY_init (fun v => i_Rel 0 u v)) := by
  unfold wpX_init wpY_init
  exact ⟨0, by omega, rfl, rfl, rfl, rfl, rfl, rfl, rfl, rfl, rfl, fun i hi => by omega, lq_WR0 (fun _ _ => rfl)⟩
/-! emit -/
def lq_reg (r : Int32) : Prop := ¬ r < 0 ∧ ¬ 5 < r
theorem lq_regE {r : Int32} (h : lq_reg r) : ∃ k, k < 6 ∧ r = nI k := by
  obtain ⟨j, hj, e⟩ := nI_of2 (M := 5) (n := 5) (by decide) h.1 (Int32.not_lt.mp h.2)
  exact ⟨j, by omega, e⟩
def lq_good (o x y z : Int32) : Prop := (¬ o < 0 ∧ ¬ 6 < o) ∧ lq_reg x ∧ (o ≠ 0 → lq_reg y) ∧ (lq_three o → lq_reg z)
theorem lx_reg {post : Int32 → Prop} {u : SX} {r : Int32} (h1 : lq_reg r → post 1) (h0 : ¬ lq_reg r → post 0) : wpX_isRegister post u r := by
  obtain ⟨ln, fd, wc, hd, ch, op, fx, fy, fz, rg, ce, gx, gy, gz, lw, pr, tk, rs, co, so⟩ := u
  exact br_c (fun a => h0 (fun q => q.1 a)) (fun a => br_c (fun b => h0 (fun q => q.2 b)) (fun b => h1 ⟨a, b⟩))
theorem ly_reg {post : Int32 → Prop} {u : SY} {r : Int32} (h1 : lq_reg r → post 1) (h0 : ¬ lq_reg r → post 0) : wpY_isRegister post u r := by
  obtain ⟨n, fe, o, x, y, z, r, c, wr⟩ := u
  exact br_c (fun a => h0 (fun q => q.1 a)) (fun a => br_c (fun b => h0 (fun q => q.2 b)) (fun b => h1 ⟨a, b⟩))
section
variable {L h i : Nat} {fd wc hd ch : Int32} {op fx fy fz rg ce gx gy gz lw pr tk rs co so wr : Nat → Int32} {o x y z : Int32}
theorem lq_goodO (g : lq_good o x y z) : o = 0 ∨ o = 1 ∨ o = 2 ∨ o = 3 ∨ o = 4 ∨ o = 5 ∨ o = 6 := by
  obtain ⟨j, hj, e⟩ := nI_of2 (M := 6) (n := 6) (by decide) g.1.1 (Int32.not_lt.mp g.1.2)
  have q : j = 0 ∨ j = 1 ∨ j = 2 ∨ j = 3 ∨ j = 4 ∨ j = 5 ∨ j = 6 := by omega
  rcases q with q | q | q | q | q | q | q
  · exact Or.inl (by rw [e, q]; rfl)
  · exact Or.inr (Or.inl (by rw [e, q]; rfl))
  · exact Or.inr (Or.inr (Or.inl (by rw [e, q]; rfl)))
  · exact Or.inr (Or.inr (Or.inr (Or.inl (by rw [e, q]; rfl))))
  · exact Or.inr (Or.inr (Or.inr (Or.inr (Or.inl (by rw [e, q]; rfl)))))
  · exact Or.inr (Or.inr (Or.inr (Or.inr (Or.inr (Or.inl (by rw [e, q]; rfl))))))
  · exact Or.inr (Or.inr (Or.inr (Or.inr (Or.inr (Or.inr (by rw [e, q]; rfl))))))
theorem lx_emit83 {post : Int32 → SX → Prop} (hL : L < 20) (g : lq_good o x y z)
    (H : post (nI (L + 1)) (nI (L + 1), fd, wc, hd, ch, upd op L o, upd fx L x, upd fy L y, upd fz L z, rg, ce, gx, gy, gz, lw, pr, tk, rs, co, so)) : wX_emit_83 post o x y z (nI L) fd wc hd ch op fx fy fz rg ce gx gy gz lw pr tk rs co so := by
  have e : (nI L).toNatClampNeg = L := nI_clamp (by omega)
  have hin : vp_in (nI L) 20 := vp_in_nI hL (by omega)
  have eo : vp_nar .byte o.toInt8.toInt32 = o := by
    obtain ⟨j, hj, e⟩ := nI_of2 (M := 6) (n := 6) (by decide) g.1.1 (Int32.not_lt.mp g.1.2)
    rw [e]; exact lq_byteN (by omega)
  have ex : vp_nar .byte x.toInt8.toInt32 = x := by
    obtain ⟨j, hj, e⟩ := lq_regE g.2.1
    rw [e]; exact lq_byteN (by omega)
  unfold wX_emit_83
  rw [e, eo, ex]
  exact ⟨hin, nm_e ⟨hin, nm_e ⟨hin, nm_e ⟨hin, nm_e (nm_r (nI_1 L) H)⟩⟩⟩⟩
theorem lx_emit {post : Int32 → SX → Prop} (hL : L < 20)
    (H : lq_good o x y z → post (nI (L + 1)) (nI (L + 1), fd, wc, hd, ch, upd op L o, upd fx L x, upd fy L y, upd fz L z, rg, ce, gx, gy, gz, lw, pr, tk, rs, co, so))
    (H0 : ¬ lq_good o x y z → post (-1) (nI L, fd, wc, hd, ch, op, fx, fy, fz, rg, ce, gx, gy, gz, lw, pr, tk, rs, co, so)) : wpX_emit post (nI L, fd, wc, hd, ch, op, fx, fy, fz, rg, ce, gx, gy, gz, lw, pr, tk, rs, co, so) o x y z := by
  have J44 : (¬ o < 0 ∧ ¬ 6 < o) → lq_reg x → (o ≠ 0 → lq_reg y) → wX_emit_44 post o x y z (nI L) fd wc hd ch op fx fy fz rg ce gx gy gz lw pr tk rs co so := fun a b c => by
    have J60 : lq_three o → wX_emit_60 post o x y z (nI L) fd wc hd ch op fx fy fz rg ce gx gy gz lw pr tk rs co so := fun t =>
      br_f (by decide) (lx_reg (fun r => br_f (by decide) (lx_emit83 hL ⟨a, b, c, fun _ => r⟩ (H ⟨a, b, c, fun _ => r⟩))) (fun r => br_t rfl (H0 (fun g => r (g.2.2.2 t)))))
    have J64 : ¬ lq_three o → wX_emit_64 post o x y z (nI L) fd wc hd ch op fx fy fz rg ce gx gy gz lw pr tk rs co so := fun t =>
      br_t rfl (lx_emit83 hL ⟨a, b, c, fun q => absurd q t⟩ (H ⟨a, b, c, fun q => absurd q t⟩))
    exact br_c (fun c6 => J60 (Or.inl c6)) (fun c6 => br_c (fun c1 => J64 (fun q => q.elim c6 (fun z => z.1 c1))) (fun c1 => br_c (fun c3 => J64 (fun q => q.elim c6 (fun z => z.2 c3))) (fun c3 => J60 (Or.inr ⟨c1, c3⟩))))
  have c20 : nI L < 20 := nI_lt (b := 20) hL (by omega)
  refine br_t c20 (br_c (fun a => H0 (fun g => g.1.1 a)) (fun a => br_c (fun b => H0 (fun g => g.1.2 b)) (fun b => lx_reg (fun rx => br_f (by decide) (br_c (fun o0 => J44 ⟨a, b⟩ rx (fun q => absurd o0 q)) (fun o0 => lx_reg (fun ry => br_f (by decide) (J44 ⟨a, b⟩ rx (fun _ => ry))) (fun ry => br_t rfl (H0 (fun g => ry (g.2.2.1 o0))))))) (fun rx => br_t rfl (H0 (fun g => rx g.2.1))))))
theorem ly_emit83 {post : Int32 → SY → Prop} (hL : L < 20)
    (H : post (nI (L + 1)) (nI (L + 1), fd, upd op L o, upd fx L x, upd fy L y, upd fz L z, rg, ce, wr)) : wY_emit_83 post o x y z (nI L) fd op fx fy fz rg ce wr := by
  have e : (nI L).toNatClampNeg = L := nI_clamp (by omega)
  have hin : vp_in (nI L) 20 := vp_in_nI hL (by omega)
  unfold wY_emit_83
  rw [e]
  exact ⟨hin, nm_e ⟨hin, nm_e ⟨hin, nm_e ⟨hin, nm_e (nm_r (nI_1 L) H)⟩⟩⟩⟩
theorem ly_emit {post : Int32 → SY → Prop} (hL : L < 20)
    (H : lq_good o x y z → post (nI (L + 1)) (nI (L + 1), fd, upd op L o, upd fx L x, upd fy L y, upd fz L z, rg, ce, wr))
    (H0 : ¬ lq_good o x y z → post (-1) (nI L, fd, op, fx, fy, fz, rg, ce, wr)) : wpY_emit post (nI L, fd, op, fx, fy, fz, rg, ce, wr) o x y z := by
  have J53 : ∀ w : Int32, (w = 0 ∧ ¬ lq_three o ∨ w = 1 ∧ lq_three o) → (¬ o < 0 ∧ ¬ 6 < o) → lq_reg x → wY_emit_53 post o x y z w (nI L) fd op fx fy fz rg ce wr := fun w hw a b => by
    have J67 : (o ≠ 0 → lq_reg y) → wY_emit_67 post o x y z w (nI L) fd op fx fy fz rg ce wr := fun c => by
      rcases hw with ⟨ew, t⟩ | ⟨ew, t⟩
      · subst ew
        exact br_t rfl (ly_emit83 hL (H ⟨a, b, c, fun q => absurd q t⟩))
      · subst ew
        exact br_f (by decide) (ly_reg (fun r => br_f (by decide) (ly_emit83 hL (H ⟨a, b, c, fun _ => r⟩))) (fun r => br_t rfl (H0 (fun g => r (g.2.2.2 t)))))
    exact br_c (fun o0 => J67 (fun q => absurd o0 q)) (fun o0 => ly_reg (fun ry => br_f (by decide) (J67 (fun _ => ry))) (fun ry => br_t rfl (H0 (fun g => ry (g.2.2.1 o0)))))
  have J42 : ¬ (¬ o < 1 ∧ ¬ 3 < o) → (¬ o < 0 ∧ ¬ 6 < o) → lq_reg x → wY_emit_42 post o x y z (nI L) fd op fx fy fz rg ce wr := fun t a b =>
    br_c (fun c6 => J53 1 (Or.inr ⟨rfl, Or.inl c6⟩) a b) (fun c6 => J53 0 (Or.inl ⟨rfl, fun q => q.elim c6 t⟩) a b)
  have c20 : ¬ nI L = 20 := fun q => by
    have q2 : nI L = nI 20 := q
    rw [nI_eq (by omega) (by omega)] at q2
    omega
  refine br_f c20 (br_c (fun a => H0 (fun g => g.1.1 a)) (fun a => br_c (fun b => H0 (fun g => g.1.2 b)) (fun b => ly_reg (fun rx => br_f (by decide) (br_c (fun c1 => J42 (fun q => q.1 c1) ⟨a, b⟩ rx) (fun c1 => br_c (fun c3 => J53 1 (Or.inr ⟨rfl, Or.inr ⟨c1, Int32.not_lt.mpr c3⟩⟩) ⟨a, b⟩ rx) (fun c3 => J42 (fun q => c3 (Int32.not_lt.mp q.2)) ⟨a, b⟩ rx)))) (fun rx => br_t rfl (H0 (fun g => rx g.2.1))))))
theorem lq_wfe (Wf : ∀ i, i < L → lq_wf op fx fy fz i) (g : lq_good o x y z) : ∀ i, i < L + 1 → lq_wf (upd op L o) (upd fx L x) (upd fy L y) (upd fz L z) i := by
  intro i hi
  unfold lq_wf
  by_cases e : i = L
  · rw [e, pk_us, pk_us, pk_us, pk_us]
    exact ⟨lq_goodO g, lq_regE g.2.1, fun q => lq_regE (g.2.2.1 q), fun q => lq_regE (g.2.2.2 q)⟩
  · rw [pk_un e, pk_un e, pk_un e, pk_un e]
    exact Wf i (by omega)
end
theorem i_vc_emit {k : Nat} {u : SX} {v : SY} (I : i_Rel k u v) (hk : k + 5 ≤ 2560) (v1 : Int32) (v2 : Int32) (v3 : Int32) (v4 : Int32) : wpX_emit (fun r u' => wpY_emit (fun r' v' => r' = r ∧ i_Rel (k + 5) u' v') v v1 v2 v3 v4) u v1 v2 v3 v4 := by
  refine lq_el (P := fun u v => wpX_emit (fun r u' => wpY_emit (fun r' v' => r' = r ∧ i_Rel (k + 5) u' v') v v1 v2 v3 v4) u v1 v2 v3 v4) ?_ I
  intro L fd wc hd ch op fx fy fz rg ce gx gy gz lw pr tk rs co so wr h20 Wf W
  by_cases hL : L < 20
  · refine lx_emit hL (fun g => ly_emit hL (fun _ => ⟨rfl, lq_in (by omega) (lq_wfe Wf g) W⟩) (fun n => absurd g n)) (fun g => ly_emit hL (fun n => absurd n g) (fun _ => ⟨rfl, lq_in h20 Wf W⟩))
  · obtain rfl : L = 20 := by omega
    exact br_f (nI_nlt (a := 20) (b := 20) (Nat.le_refl _) (by omega)) (br_t rfl ⟨rfl, lq_in h20 Wf W⟩)
theorem i_vc_retract {k : Nat} {u : SX} {v : SY} (I : i_Rel k u v) (hk : k + 5 ≤ 2560) : wpX_retract (fun r u' => wpY_retract (fun r' v' => r' = r ∧ i_Rel (k + 5) u' v') v) u := by
  refine lq_el (P := fun u v => wpX_retract (fun r u' => wpY_retract (fun r' v' => r' = r ∧ i_Rel (k + 5) u' v') v) u) ?_ I
  intro L fd wc hd ch op fx fy fz rg ce gx gy gz lw pr tk rs co so wr h20 Wf W
  by_cases hL : L = 0
  · subst hL
    exact br_t rfl (br_t rfl ⟨rfl, lq_in h20 Wf W⟩)
  · obtain ⟨m, rfl⟩ : ∃ m, L = m + 1 := ⟨L - 1, by omega⟩
    have n0 : ¬ nI (m + 1) = 0 := nI_ne0 (by omega) (by omega)
    exact br_f n0 (nm_r (nI_pred m) (br_f n0 (nm_r (nI_pred m) ⟨rfl, lq_in (by omega) (fun i hi => Wf i (by omega)) W⟩)))
theorem i_vc_drop {k : Nat} {u : SX} {v : SY} (I : i_Rel k u v) (hk : k + 5 ≤ 2560) : wpX_drop (fun r u' => wpY_drop (fun r' v' => r' = r ∧ i_Rel (k + 5) u' v') v) u := by
  refine lq_el (P := fun u v => wpX_drop (fun r u' => wpY_drop (fun r' v' => r' = r ∧ i_Rel (k + 5) u' v') v) u) ?_ I
  intro L fd wc hd ch op fx fy fz rg ce gx gy gz lw pr tk rs co so wr h20 Wf W
  exact ⟨rfl, lq_in (L := 0) (by omega) (fun i hi => by omega) W⟩
theorem i_vc_fed {k : Nat} {u : SX} {v : SY} (I : i_Rel k u v) (hk : k + 5 ≤ 2560) : wpX_fed (fun r => wpY_fed (fun r' => r' = r ∧ i_Rel (k + 5) u v) v) u := by
  refine lq_el (P := fun u v => wpX_fed (fun r => wpY_fed (fun r' => r' = r ∧ i_Rel (k + 5) u v) v) u) ?_ I
  intro L fd wc hd ch op fx fy fz rg ce gx gy gz lw pr tk rs co so wr h20 Wf W
  exact ⟨rfl, lq_in h20 Wf W⟩
theorem lq_wrt {L : Nat} {fd wc hd ch : Int32} {op fx fy fz rg ce gx gy gz lw pr tk rs co so wr : Nat → Int32} (W : lq_WR wc wr) : ∀ (d i : Nat) (x : Int32), i + d = 16 →
    ∃ r : Int32, (∀ post : Int32 → Prop, post r → wX_written_4 post (nI L) fd wc hd ch op fx fy fz rg ce gx gy gz lw pr tk rs co so (d + 1) x (nI i)) ∧ (∀ post : Int32 → Prop, post r → wY_written_4 post (nI L) fd op fx fy fz rg ce wr (d + 1) x (nI i)) := by
  intro d
  induction d with
  | zero =>
    intro i x hi
    obtain rfl : i = 16 := by omega
    exact ⟨x, fun _ hp => br_t (nI_le (a := 16) (b := 16) (Nat.le_refl _) (by omega)) hp, fun _ hp => br_t (nI_le (a := 16) (b := 16) (Nat.le_refl _) (by omega)) hp⟩
  | succ d ih =>
    intro i x hi
    have e : (nI i).toNatClampNeg = i := nI_clamp (by omega)
    have hin : vp_in (nI i) 16 := vp_in_nI (by omega) (by omega)
    have n16 : ¬ (16 : Int32) ≤ nI i := nI_ge (b := 16) (by omega) (by omega)
    obtain ⟨w1, w2⟩ := W i (by omega)
    obtain ⟨r, hX, hY⟩ := ih (i + 1) (x + wr i) (by omega)
    refine ⟨r, fun post hp => br_f n16 ?_, fun post hp => br_f n16 ⟨hin, ?_⟩⟩
    · rw [w1]
      exact nm_e (nm_r (nI_1 i) (hX post hp))
    · rw [e]
      rcases w2 with w2 | w2
      · rw [w2, Int32.add_zero] at hY
        exact br_t w2 (nm_r (nI_1 i) (hY post hp))
      · rw [w2] at hY
        exact br_f (by rw [w2]; decide) (nm_e (nm_r (nI_1 i) (hY post hp)))
theorem i_vc_written {k : Nat} {u : SX} {v : SY} (I : i_Rel k u v) (hk : k + 5 ≤ 2560) : wpX_written (fun r => wpY_written (fun r' => r' = r ∧ i_Rel (k + 5) u v) v) u := by
  refine lq_el (P := fun u v => wpX_written (fun r => wpY_written (fun r' => r' = r ∧ i_Rel (k + 5) u v) v) u) ?_ I
  intro L fd wc hd ch op fx fy fz rg ce gx gy gz lw pr tk rs co so wr h20 Wf W
  obtain ⟨r, hX, hY⟩ := lq_wrt (L := L) (fd := fd) (hd := hd) (ch := ch) (op := op) (fx := fx) (fy := fy) (fz := fz) (rg := rg) (ce := ce) (gx := gx) (gy := gy) (gz := gz) (lw := lw) (pr := pr) (tk := tk) (rs := rs) (co := co) (so := so) W 16 0 0 (by omega)
  exact ⟨17, hX _ ⟨17, hY _ ⟨rfl, lq_in h20 Wf W⟩⟩⟩
theorem i_vc_register {k : Nat} {u : SX} {v : SY} (I : i_Rel k u v) (hk : k + 5 ≤ 2560) (v1 : Int32) : wpX_register (fun r => wpY_register (fun r' => r' = r ∧ i_Rel (k + 5) u v) v v1) u v1 := by
  refine lq_el (P := fun u v => wpX_register (fun r => wpY_register (fun r' => r' = r ∧ i_Rel (k + 5) u v) v v1) u v1) ?_ I
  intro L fd wc hd ch op fx fy fz rg ce gx gy gz lw pr tk rs co so wr h20 Wf W
  have hin : lq_reg v1 → vp_in v1 6 := fun q => by obtain ⟨x, hx, ex⟩ := lq_regE q; rw [ex]; exact vp_in_nI hx (by omega)
  unfold wpX_register wpY_register
  refine lx_reg (fun g => br_f (by decide) ⟨hin g, ?_⟩) (fun g => br_t rfl ?_)
  · exact ly_reg (fun _ => br_f (by decide) ⟨hin g, rfl, lq_in h20 Wf W⟩) (fun n => absurd g n)
  · exact ly_reg (fun n => absurd n g) (fun _ => br_t rfl ⟨rfl, lq_in h20 Wf W⟩)
theorem i_vc_setRegister {k : Nat} {u : SX} {v : SY} (I : i_Rel k u v) (hk : k + 5 ≤ 2560) (v1 : Int32) (v2 : Int32) : wpX_setRegister (fun r u' => wpY_setRegister (fun r' v' => r' = r ∧ i_Rel (k + 5) u' v') v v1 v2) u v1 v2 := by
  refine lq_el (P := fun u v => wpX_setRegister (fun r u' => wpY_setRegister (fun r' v' => r' = r ∧ i_Rel (k + 5) u' v') v v1 v2) u v1 v2) ?_ I
  intro L fd wc hd ch op fx fy fz rg ce gx gy gz lw pr tk rs co so wr h20 Wf W
  have hin : lq_reg v1 → vp_in v1 6 := fun q => by obtain ⟨x, hx, ex⟩ := lq_regE q; rw [ex]; exact vp_in_nI hx (by omega)
  unfold wpX_setRegister wpY_setRegister
  refine lx_reg (fun g => br_f (by decide) ⟨hin g, nm_e ?_⟩) (fun g => br_t rfl ?_)
  · exact ly_reg (fun _ => br_f (by decide) ⟨hin g, nm_e ⟨rfl, lq_in h20 Wf W⟩⟩) (fun n => absurd g n)
  · exact ly_reg (fun n => absurd n g) (fun _ => br_t rfl ⟨rfl, lq_in h20 Wf W⟩)
theorem lq_mem {v : Int32} (h0 : ¬ v < 0) (h15 : v ≤ 15) : vp_in v 16 := by
  obtain ⟨j, hj, e⟩ := nI_of2 (M := 15) (n := 15) (by decide) h0 h15
  rw [e]; exact vp_in_nI (by omega) (by omega)
theorem i_vc_memory {k : Nat} {u : SX} {v : SY} (I : i_Rel k u v) (hk : k + 5 ≤ 2560) (v1 : Int32) : wpX_memory (fun r => wpY_memory (fun r' => r' = r ∧ i_Rel (k + 5) u v) v v1) u v1 := by
  refine lq_el (P := fun u v => wpX_memory (fun r => wpY_memory (fun r' => r' = r ∧ i_Rel (k + 5) u v) v v1) u v1) ?_ I
  intro L fd wc hd ch op fx fy fz rg ce gx gy gz lw pr tk rs co so wr h20 Wf W
  exact br_c (fun a => br_t a ⟨rfl, lq_in h20 Wf W⟩) (fun a => br_c (fun b => ⟨lq_mem a b, br_f a (br_f (Int32.not_lt.mpr b) ⟨lq_mem a b, rfl, lq_in h20 Wf W⟩)⟩) (fun b => br_f a (br_t (Int32.not_le.mp b) ⟨rfl, lq_in h20 Wf W⟩)))
theorem i_vc_setMemory {k : Nat} {u : SX} {v : SY} (I : i_Rel k u v) (hk : k + 5 ≤ 2560) (v1 : Int32) (v2 : Int32) : wpX_setMemory (fun r u' => wpY_setMemory (fun r' v' => r' = r ∧ i_Rel (k + 5) u' v') v v1 v2) u v1 v2 := by
  refine lq_el (P := fun u v => wpX_setMemory (fun r u' => wpY_setMemory (fun r' v' => r' = r ∧ i_Rel (k + 5) u' v') v v1 v2) u v1 v2) ?_ I
  intro L fd wc hd ch op fx fy fz rg ce gx gy gz lw pr tk rs co so wr h20 Wf W
  exact br_c (fun a => br_t a ⟨rfl, lq_in h20 Wf W⟩) (fun a => br_c (fun b => ⟨lq_mem a b, nm_e (br_f a (br_t b ⟨lq_mem a b, nm_e ⟨rfl, lq_in h20 Wf W⟩⟩))⟩) (fun b => br_f a (br_f b ⟨rfl, lq_in h20 Wf W⟩)))
/-! run -/
theorem lq_I0 {L : Nat} {op fx fy fz gx gy gz rg ce pr tk rs co so : Nat → Int32} : lq_inv L op fx fy fz gx gy gz rg ce (lq_sb 0 L 0 pr) tk rs (lq_sb 0 L (-1) co) (lq_sb 0 L (-1) so) 0 := by
  refine ⟨Nat.zero_le L, fun i hi => by omega, fun i hi hL => Or.inl ⟨lq_sbh hi hL, lq_sbh hi hL⟩, fun r hr => ?_⟩
  show (if (0 : Int32) ≤ -1 then _ else rg (nI r).toNatClampNeg) = rg r
  rw [if_neg lq_nm1, nI_clamp (by omega)]
theorem i_vc_run {k : Nat} {u : SX} {v : SY} (I : i_Rel k u v) (hk : k + 5 ≤ 2560) (v1 : Int32) : wpX_run (fun r u' => wpY_run (fun r' v' => r' = r ∧ i_Rel (k + 5) u' v') v v1) u v1 := by
  refine lq_el (P := fun u v => wpX_run (fun r u' => wpY_run (fun r' v' => r' = r ∧ i_Rel (k + 5) u' v') v v1) u v1) ?_ I
  intro L fd wc hd ch op fx fy fz rg ce gx gy gz lw pr tk rs co so wr h20 Wf W
  unfold wpX_run
  refine lx_givers h20 Wf (fun gx gy gz lw st => ⟨L + 1, lx_run21 h20 L 0 pr co so (by omega) ⟨lq_M L op (lq_sb 0 L 0 pr) tk (lq_sb 0 L (-1) co) 0 + 1, ?_⟩⟩)
  refine lx_run45 (Q := ly_Q L op fx fy fz rg ce (lq_sb 0 16 0 wr)) st (ly_Qs h20 Wf) (fun fd' wc' ch' rg' ce' pr' tk' rs' co' so' wr' W' q => ?_) _ 0 0 0 v1 rg ce _ tk rs _ _ (lq_sb 0 16 0 wr) lq_I0 (lq_WR0 (fun c hc => lq_sbh (Nat.zero_le c) hc)) (fun post hp => hp) (Nat.lt_succ_self _)
  unfold wpY_run
  refine ⟨17, ly_run7 16 0 wr (by omega) ⟨L + 1, q _ ?_⟩⟩
  rw [Nat.sub_self]
  exact br_t (nI_le (Nat.le_refl _) (by omega)) ⟨rfl, lq_in h20 Wf W'⟩
end
