section
/-! rows of the kit's PURE-ROWS (pasted) -/
theorem pk_us {f : Nat → Int32} {k : Nat} {x : Int32} : upd f k x k = x := if_pos rfl
theorem pk_un {f : Nat → Int32} {k j : Nat} {x : Int32} (h : j ≠ k) : upd f k x j = f j := if_neg h
theorem pk_sub {a b : Nat} (h : b ≤ a) : nI a - nI b = nI (a - b) := by
  obtain ⟨c, rfl⟩ : ∃ c, a = c + b := ⟨a - b, by omega⟩
  rw [← nI_add, Int32.add_sub_cancel, Nat.add_sub_cancel]
theorem pk_mul (a b : Nat) : nI a * nI b = nI (a * b) := (Int32.ofNat_mul a b).symm
theorem pk_sub_toInt {a b : Nat} (ha : a < 2 ^ 30) (hb : b < 2 ^ 30) : (nI a - nI b).toInt = (a : Int) - b := by
  rw [Int32.toInt_sub, nI_toInt (by omega), nI_toInt (by omega)]
  exact Int.bmod_eq_of_le (by omega) (by omega)
theorem pk_sneg {a b : Nat} (hb : b < 2 ^ 30) (h : a < b) : nI a - nI b < 0 := by
  rw [Int32.lt_iff_toInt_lt, pk_sub_toInt (by omega) hb, show (0 : Int32).toInt = 0 from by decide]
  omega
theorem pk_ix (x : Int32) {n : Nat} (hn : n < 2 ^ 31) : x < 0 ∨ nI n ≤ x ∨ ∃ j : Nat, j < n ∧ x = nI j := by
  by_cases h : x < 0
  · exact Or.inl h
  · obtain ⟨j, hj, rfl⟩ := nI_of h
    by_cases h2 : j < n
    · exact Or.inr (Or.inr ⟨j, h2, rfl⟩)
    · exact Or.inr (Or.inl (nI_le (by omega) hj))
/-! rows of mine: indices -/
theorem zz_i121 (e q : Nat) : nI e * 121 + nI q = nI (e * 121 + q) := by
  show nI e * nI 121 + nI q = _
  rw [pk_mul, nI_add]
theorem zz_i160 (e q : Nat) : nI e * 160 + nI q = nI (e * 160 + q) := by
  show nI e * nI 160 + nI q = _
  rw [pk_mul, nI_add]
theorem zz_i4 (s i : Nat) : nI s * 4 + nI i = nI (s * 4 + i) := by
  show nI s * nI 4 + nI i = _
  rw [pk_mul, nI_add]
/-- rows of an end; the bytes of a slot -/
def rX (a : Nat → Int32) (e : Nat) : Nat → Int32 := fun q => if q < 121 then a (e * 121 + q) else 0
def rY (a : Nat → Int32) (e : Nat) : Nat → Int32 := fun q => if q < 160 then a (e * 160 + q) else 0
def rB (a : Nat → Int32) (s : Nat) : Nat → Int32 := fun i => if i < 4 then a (s * 4 + i) else 0
theorem rX_g {a : Nat → Int32} {e q : Nat} (h : q < 121) : rX a e q = a (e * 121 + q) := if_pos h
theorem rY_g {a : Nat → Int32} {e q : Nat} (h : q < 160) : rY a e q = a (e * 160 + q) := if_pos h
theorem rB_g {a : Nat → Int32} {s i : Nat} (h : i < 4) : rB a s i = a (s * 4 + i) := if_pos h
theorem rX_h {a : Nat → Int32} {e q : Nat} (h : 121 ≤ q) : rX a e q = 0 := if_neg (by omega)
theorem rY_h {a : Nat → Int32} {e q : Nat} (h : 160 ≤ q) : rY a e q = 0 := if_neg (by omega)
theorem rX_us {a : Nat → Int32} {e q : Nat} {v : Int32} (h : q < 121) : rX (upd a (e * 121 + q) v) e = upd (rX a e) q v := by
  funext p
  by_cases hp : p < 121
  · rw [rX_g hp]
    by_cases e1 : p = q
    · subst e1; rw [pk_us, pk_us]
    · rw [pk_un e1, pk_un (by omega), rX_g hp]
  · rw [rX_h (by omega), pk_un (by omega), rX_h (by omega)]
theorem rX_un {a : Nat → Int32} {e e' q : Nat} {v : Int32} (h : q < 121) (n : e' ≠ e) : rX (upd a (e * 121 + q) v) e' = rX a e' := by
  funext p
  by_cases hp : p < 121
  · rw [rX_g hp, rX_g hp, pk_un (by omega)]
  · rw [rX_h (by omega), rX_h (by omega)]
theorem rY_us {a : Nat → Int32} {e q : Nat} {v : Int32} (h : q < 160) : rY (upd a (e * 160 + q) v) e = upd (rY a e) q v := by
  funext p
  by_cases hp : p < 160
  · rw [rY_g hp]
    by_cases e1 : p = q
    · subst e1; rw [pk_us, pk_us]
    · rw [pk_un e1, pk_un (by omega), rY_g hp]
  · rw [rY_h (by omega), pk_un (by omega), rY_h (by omega)]
theorem rY_un {a : Nat → Int32} {e e' q : Nat} {v : Int32} (h : q < 160) (n : e' ≠ e) : rY (upd a (e * 160 + q) v) e' = rY a e' := by
  funext p
  by_cases hp : p < 160
  · rw [rY_g hp, rY_g hp, pk_un (by omega)]
  · rw [rY_h (by omega), rY_h (by omega)]
theorem rB_un {a : Nat → Int32} {s s' i : Nat} {v : Int32} (h : i < 4) (n : s' ≠ s) : rB (upd a (s * 4 + i) v) s' = rB a s' := by
  funext p
  by_cases hp : p < 4
  · rw [rB_g hp, rB_g hp, pk_un (by omega)]
  · exact (if_neg hp).trans (if_neg hp).symm
theorem rB_us {a : Nat → Int32} {s i : Nat} {v : Int32} (h : i < 4) : rB (upd a (s * 4 + i) v) s = upd (rB a s) i v := by
  funext p
  by_cases hp : p < 4
  · rw [rB_g hp]
    by_cases e1 : p = i
    · subst e1; rw [pk_us, pk_us]
    · rw [pk_un e1, pk_un (by omega), rB_g hp]
  · have e1 : p ≠ i := by omega
    rw [pk_un e1]; exact (if_neg hp).trans (if_neg hp).symm
theorem zz_b0 : vp_nar .boolean 0 = 0 := rfl
theorem zz_b1 : vp_nar .boolean 1 = 1 := rfl
/-! pure values of both sides -/
def zz_mn (a b : Int32) : Int32 := if b ≤ a then b else a
def zz_mx (a b : Int32) : Int32 := if a ≤ b then b else a
/-- how many of d positions from p on are not 0, added to c -/
def zz_ct (sp : Nat → Int32) : Int32 → Nat → Nat → Int32
  | c, 0, _ => c
  | c, d + 1, p => zz_ct sp (if sp p = 0 then c else c + 1) d (p + 1)
theorem zz_ct_z (sp : Nat → Int32) : ∀ d c p, (∀ q, p ≤ q → sp q = 0) → zz_ct sp c d p = c := by
  intro d
  induction d with
  | zero => intro c p h; rfl
  | succ d ih =>
    intro c p h
    show zz_ct sp (if sp p = 0 then c else c + 1) d (p + 1) = c
    rw [if_pos (h p (Nat.le_refl p))]
    exact ih c (p + 1) (fun q hq => h q (by omega))
theorem zz_ct_a (sp : Nat → Int32) (m : Nat) : ∀ d c p, (∀ q, p + d ≤ q → sp q = 0) → zz_ct sp c (d + m) p = zz_ct sp c d p := by
  intro d
  induction d with
  | zero => intro c p h; rw [Nat.zero_add]; exact zz_ct_z sp m c p h
  | succ d ih =>
    intro c p h
    rw [show d + 1 + m = (d + m) + 1 from by omega]
    show zz_ct sp (if sp p = 0 then c else c + 1) (d + m) (p + 1) = zz_ct sp (if sp p = 0 then c else c + 1) d (p + 1)
    exact ih _ (p + 1) (fun q hq => h q (by omega))
/-- is position q stale: 0 or 1 -/
def zz_st (nw rt ak nx : Int32) (sp sn sc : Nat → Int32) (q : Nat) : Int32 :=
  if 200 ≤ q then 0 else if nI q < ak then 0 else if nx ≤ nI q then 0 else if sp q = 0 then
    (if nw - sn q < rt * zz_mn (sc q) 4 then (if sc q = 1 then (if zz_ct sp 0 (120 - q) (q + 1) < 3 then 0 else 1) else 0) else 1) else 0
theorem zz_st_01 (nw rt ak nx : Int32) (sp sn sc : Nat → Int32) (q : Nat) : zz_st nw rt ak nx sp sn sc q = 0 ∨ zz_st nw rt ak nx sp sn sc q = 1 := by
  unfold zz_st
  repeat' split
  all_goals first | exact Or.inl rfl | exact Or.inr rfl
theorem zz_st_n {nw rt ak nx : Int32} {sp sn sc : Nat → Int32} {q A N : Nat} (hA : ak = nI A) (hN : nx = nI N) (bA : A < 1000) (bN : N < 1000) (h : ¬ zz_st nw rt ak nx sp sn sc q = 0) : A ≤ q ∧ q < N := by
  subst hA hN
  unfold zz_st at h
  by_cases h0 : 200 ≤ q
  · exact absurd (if_pos h0) h
  rw [if_neg h0] at h
  by_cases h1 : nI q < nI A
  · exact absurd (if_pos h1) h
  · rw [if_neg h1] at h
    by_cases h2 : nI N ≤ nI q
    · exact absurd (if_pos h2) h
    · rw [nI_ltI (by omega) (by omega)] at h1
      rw [nI_leI (by omega) (by omega)] at h2
      omega
theorem zz_st_e {nw rt ak nx : Int32} {sp sn sny sc : Nat → Int32} {N : Nat} (hN : nx = nI N) (bN : N < 1000) (h : ∀ q, q < N → sny q = sn q) : zz_st nw rt ak nx sp sny sc = zz_st nw rt ak nx sp sn sc := by
  subst hN
  funext q
  unfold zz_st
  by_cases h0 : 200 ≤ q
  · rw [if_pos h0, if_pos h0]
  rw [if_neg h0, if_neg h0]
  by_cases h2 : nI N ≤ nI q
  · rw [if_pos h2, if_pos h2]
  · have h3 := h2
    rw [nI_leI (by omega) (by omega)] at h3
    rw [h q (by omega)]
/-- the first position from q on, d of them looked at, where s isn't 0; 160 if none -/
def zz_ff (s : Nat → Int32) : Nat → Nat → Nat
  | 0, _ => 160
  | d + 1, q => if s q = 0 then zz_ff s d (q + 1) else q
theorem zz_ff_p (s : Nat → Int32) : ∀ d q, q + d = 160 → q ≤ zz_ff s d q ∧ zz_ff s d q ≤ 160 ∧ (zz_ff s d q < 160 → ¬ s (zz_ff s d q) = 0) ∧ (∀ p, q ≤ p → p < zz_ff s d q → s p = 0) := by
  intro d
  induction d with
  | zero =>
    intro q h
    have e : zz_ff s 0 q = 160 := rfl
    rw [e]
    exact ⟨by omega, by omega, by omega, by omega⟩
  | succ d ih =>
    intro q h
    by_cases z : s q = 0
    · have e : zz_ff s (d + 1) q = zz_ff s d (q + 1) := if_pos z
      rw [e]
      obtain ⟨h1, h2, h3, h4⟩ := ih (q + 1) (by omega)
      refine ⟨by omega, h2, h3, fun p a b => ?_⟩
      by_cases e2 : p = q
      · rw [e2]; exact z
      · exact h4 p (by omega) b
    · have e : zz_ff s (d + 1) q = q := if_neg z
      rw [e]
      exact ⟨by omega, by omega, fun _ => z, by omega⟩
theorem zz_ff_e {s t : Nat → Int32} : ∀ d q, q + d = 160 → (∀ p, p < 160 → s p = t p) → zz_ff s d q = zz_ff t d q := by
  intro d
  induction d with
  | zero => intro q _ _; rfl
  | succ d ih =>
    intro q h hh
    show (if s q = 0 then zz_ff s d (q + 1) else q) = (if t q = 0 then zz_ff t d (q + 1) else q)
    rw [hh q (by omega), ih (q + 1) (by omega) hh]
/-- the lowest free slot from s on, -1 if none -/
def zz_fr (kd : Nat → Int32) : Nat → Nat → Int32
  | 0, _ => -1
  | d + 1, s => if kd s = 0 then nI s else zz_fr kd d (s + 1)
theorem zz_fr_p (kd : Nat → Int32) : ∀ d s, s + d = 12 → (zz_fr kd d s = -1 ∨ ∃ j, j < 12 ∧ kd j = 0 ∧ zz_fr kd d s = nI j) := by
  intro d
  induction d with
  | zero => intro s _; exact Or.inl rfl
  | succ d ih =>
    intro s h
    by_cases z : kd s = 0
    · exact Or.inr ⟨s, by omega, z, if_pos z⟩
    · have e : zz_fr kd (d + 1) s = zz_fr kd d (s + 1) := if_neg z
      rw [e]; exact ih (s + 1) (by omega)
/-- length of a resend from q, by place i, d left -/
def zz_rl (s : Nat → Int32) (W q : Nat) : Nat → Nat → Nat
  | 0, i => i
  | d + 1, i => if W ≤ q + i then i else if s (q + i) = 0 then i else zz_rl s W q d (i + 1)
theorem zz_rl_p (s : Nat → Int32) (W q : Nat) : ∀ d i, i + d = 4 → i ≤ zz_rl s W q d i ∧ zz_rl s W q d i ≤ 4 ∧ (i < zz_rl s W q d i → q + zz_rl s W q d i ≤ W) := by
  intro d
  induction d with
  | zero =>
    intro i h
    have e : zz_rl s W q 0 i = i := rfl
    rw [e]; omega
  | succ d ih =>
    intro i h
    by_cases h1 : W ≤ q + i
    · have e : zz_rl s W q (d + 1) i = i := if_pos h1
      rw [e]; omega
    · by_cases h2 : s (q + i) = 0
      · have e : zz_rl s W q (d + 1) i = i := (if_neg h1).trans (if_pos h2)
        rw [e]; omega
      · have e : zz_rl s W q (d + 1) i = zz_rl s W q d (i + 1) := (if_neg h1).trans (if_neg h2)
        rw [e]
        obtain ⟨a, b, c⟩ := ih (i + 1) (by omega)
        refine ⟨by omega, b, fun _ => ?_⟩
        by_cases h3 : i + 1 < zz_rl s W q d (i + 1)
        · exact c h3
        · omega
def zz_nl (wr nx li pc : Int32) : Int32 := zz_mx (zz_mn (zz_mn (zz_mn 4 (wr - nx)) (li - nx)) (6 - pc)) 0
def zz_nf (sh nx n wr pc : Int32) : Int32 := if sh = 0 then 0 else if nx + n = wr then (if 6 ≤ pc + n then 0 else 1) else 0
def zz_pd (nx ak wr li pc nw hd rt : Int32) : Int32 := if ak = nx then (if wr ≤ nx then 0 else if li ≤ nx then (if 6 ≤ pc then 0 else if nw - hd < rt then 0 else 1) else 0) else 0
def zz_sd (ss sa nw rt : Int32) : Int32 := if ss = 0 then 1 else if nw - sa < rt * zz_mn ss 4 then 0 else 1
/-- what is due; F: the first stale position -/
def zz_dc (F : Nat) (nl nf pd ow : Int32) : Int32 := if F < 160 then 3 else if 0 < nl then 4 else if nf = 0 then (if pd = 0 then (if ow = 0 then 0 else 6) else 5) else 4
def zz_du (st sd : Int32) (F : Nat) (nl nf pd ow : Int32) : Int32 :=
  if st = 0 then 0 else if st = 1 then 0 else if st < 5 then (if sd = 0 then 0 else if st = 2 then 1 else 2) else zz_dc F nl nf pd ow
theorem zz_s5 {x : Int32} {S : Nat} (h : x = nI S) (b : S ≤ 11) (h5 : x < 5) : x = 0 ∨ x = 1 ∨ x = 2 ∨ x = 3 ∨ x = 4 := by
  subst h
  have h6 : S < 5 := (nI_ltI (b := 5) (by omega) (by decide)).mp h5
  have h7 : S = 0 ∨ S = 1 ∨ S = 2 ∨ S = 3 ∨ S = 4 := by omega
  rcases h7 with rfl | rfl | rfl | rfl | rfl <;> decide
theorem zz_s5n {x : Int32} (h5 : ¬ x < 5) : ¬ x = 0 ∧ ¬ x = 1 ∧ ¬ x = 2 ∧ ¬ x = 3 ∧ ¬ x = 4 :=
  ⟨fun h => h5 (by rw [h]; decide), fun h => h5 (by rw [h]; decide), fun h => h5 (by rw [h]; decide), fun h => h5 (by rw [h]; decide), fun h => h5 (by rw [h]; decide)⟩
theorem zz_end (v : Int32) : (∃ e, e < 2 ∧ v = nI e) ∨ (¬ v = 0 ∧ ¬ v = 1) := by
  by_cases h0 : v = 0
  · exact Or.inl ⟨0, by omega, h0⟩
  · by_cases h1 : v = 1
    · exact Or.inl ⟨1, by omega, h1⟩
    · exact Or.inr ⟨h0, h1⟩
/-- the mask, as a number: bits i .. 6 added to m -/
def zz_mk (hl : Nat → Int32) (g : Nat) : Nat → Nat → Nat → Nat
  | 0, _, m => m
  | d + 1, i, m => zz_mk hl g d (i + 1) (if hl (g + 1 + i) = 0 then m else m ||| 2 ^ i)
theorem zz_bits : ∀ m : Fin 128, ∀ i : Fin 7, (((((nI m.val).toUInt32 >>> ((nI i.val).toUInt32 &&& Int32.toUInt32 31)).toInt32) &&& 1) = 1 ↔ m.val.testBit i.val = true) ∧ ((((nI m.val) >>> (nI i.val &&& 31)) &&& 1) = 1 ↔ m.val.testBit i.val = true) ∧ (nI m.val ||| ((1 : Int32) <<< (nI i.val &&& 31))) = nI (m.val ||| 2 ^ i.val) ∧ (m.val ||| 2 ^ i.val) < 128 := by decide +kernel
theorem zz_bX {m i : Nat} (hm : m < 128) (hi : i < 7) : ((((nI m).toUInt32 >>> ((nI i).toUInt32 &&& Int32.toUInt32 31)).toInt32) &&& 1) = 1 ↔ m.testBit i = true := (zz_bits ⟨m, hm⟩ ⟨i, hi⟩).1
theorem zz_bY {m i : Nat} (hm : m < 128) (hi : i < 7) : (((nI m) >>> (nI i &&& 31)) &&& 1) = 1 ↔ m.testBit i = true := (zz_bits ⟨m, hm⟩ ⟨i, hi⟩).2.1
theorem zz_bO {m i : Nat} (hm : m < 128) (hi : i < 7) : (nI m ||| ((1 : Int32) <<< (nI i &&& 31))) = nI (m ||| 2 ^ i) := (zz_bits ⟨m, hm⟩ ⟨i, hi⟩).2.2.1
theorem zz_bL {m i : Nat} (hm : m < 128) (hi : i < 7) : (m ||| 2 ^ i) < 128 := (zz_bits ⟨m, hm⟩ ⟨i, hi⟩).2.2.2
/-- a mask says nothing of positions beyond 120 -/
def zz_mok (B M : Nat) : Prop := M < 128 ∧ ∀ i, i < 7 → M.testBit i = true → B + 1 + i ≤ 120
theorem zz_mk_p {hl : Nat → Int32} {g : Nat} (hz : ∀ q, 121 ≤ q → hl q = 0) : ∀ d i m, i + d = 7 → zz_mok g m → zz_mok g (zz_mk hl g d i m) := by
  intro d
  induction d with
  | zero => intro i m _ h; exact h
  | succ d ih =>
    intro i m hi h
    show zz_mok g (zz_mk hl g d (i + 1) (if hl (g + 1 + i) = 0 then m else m ||| 2 ^ i))
    refine ih (i + 1) _ (by omega) ?_
    by_cases z : hl (g + 1 + i) = 0
    · rw [if_pos z]; exact h
    · rw [if_neg z]
      refine ⟨zz_bL h.1 (by omega), fun j hj t => ?_⟩
      rw [Nat.testBit_or, Nat.testBit_two_pow] at t
      by_cases e : i = j
      · subst e
        apply Nat.le_of_not_lt
        intro c
        exact z (hz _ (by omega))
      · exact h.2 j hj (by simpa [e] using t)
end
section
/-! the relation -/
def zE (st ss sa say wa way wr ak nx tk go : Int32) (ob oby sp spy sc scy sn sny ib iby hl hly : Nat → Int32) : Prop :=
  ∃ S W A N T G : Nat, (st = nI S ∧ wr = nI W ∧ ak = nI A ∧ nx = nI N ∧ tk = nI T ∧ go = nI G) ∧
    (S ≤ 11 ∧ W ≤ 120 ∧ A ≤ 122 ∧ N ≤ W + 1 ∧ T ≤ G ∧ G ≤ 121) ∧ ((¬ ss = 0 → say = sa) ∧ (st = 9 → way = wa)) ∧
    (spy = sp ∧ scy = sc ∧ hly = hl) ∧ (∀ q, q < N → sny q = sn q) ∧ (∀ q, q < W → oby q = ob q) ∧
    (∀ q, ¬ hl q = 0 → iby q = ib q) ∧ (∀ q, q < G → ¬ hl q = 0) ∧ hl G = 0 ∧ (∀ q, hl q = 0 ∨ hl q = 1)
def zS (kd so po poy ln lny fi fiy sk sky ed edy ba bay ma may : Int32) (sb sby : Nat → Int32) : Prop :=
  ¬ kd = 0 → (∃ e, e < 2 ∧ so = nI e) ∧ (kd = 1 ∨ kd = 2 ∨ kd = 3 ∨ kd = 4) ∧ (kd = 2 → edy = ed) ∧
    (kd = 3 → (edy = ed ∧ poy = po ∧ lny = ln ∧ fiy = fi ∧ sky = sk ∧ bay = ba ∧ may = ma) ∧
      ∃ P L K B M : Nat, (po = nI P ∧ ln = nI L ∧ sk = nI K ∧ ba = nI B ∧ ma = nI M) ∧ (L ≤ 4 ∧ P + L ≤ 121 ∧ K ≤ 122 ∧ B ≤ 121 ∧ zz_mok B M) ∧
        (∀ i, i < L → sby i = sb i))
def zHE (st ss sa say wa way wr ak nx tk go ob oby sp spy sc scy sn sny ib iby hl hly : Nat → Int32) : Prop := ∀ e, e < 2 → zE (st e) (ss e) (sa e) (say e) (wa e) (way e) (wr e) (ak e) (nx e) (tk e) (go e) (rX ob e) (rY oby e) (rX sp e) (rY spy e) (rX sc e) (rY scy e) (rX sn e) (rY sny e) (rX ib e) (rY iby e) (rX hl e) (rY hly e)
def zHS (kd so po poy ln lny fi fiy sk sky ed edy ba bay ma may sb sby : Nat → Int32) : Prop := ∀ s, s < 12 → zS (kd s) (so s) (po s) (poy s) (ln s) (lny s) (fi s) (fiy s) (sk s) (sky s) (ed s) (edy s) (ba s) (bay s) (ma s) (may s) (rB sb s) (rB sby s)
def i_Rel (k : Nat) (u : SX) (v : SY) : Prop :=
  ∃ (w lf rt sr nw : Int32) (st ic pr ss sa wa wr sh ak nx li pc hd go tk en wh ow td ob sp sc sn ib hl kd so bo fr tt po ln fi sk ed ba ma sb say way oby iby scy sny spy hly poy lny sky edy bay may fiy sby : Nat → Int32), u = (w, lf, rt, sr, nw, st, ic, pr, ss, sa, wa, wr, sh, ak, nx, li, pc, hd, go, tk, en, wh, ow, td, ob, sp, sc, sn, ib, hl, kd, so, bo, fr, tt, po, ln, fi, sk, ed, ba, ma, sb) ∧ v = (w, lf, rt, sr, nw, st, ic, pr, wr, ak, nx, li, pc, hd, tk, en, td, ss, say, way, sh, wh, ow, oby, iby, scy, sny, spy, hly, kd, so, bo, fr, tt, poy, lny, sky, edy, bay, may, fiy, sby) ∧ zHE st ss sa say wa way wr ak nx tk go ob oby sp spy sc scy sn sny ib iby hl hly ∧ zHS kd so po poy ln lny fi fiy sk sky ed edy ba bay ma may sb sby
theorem i_up {k : Nat} {u : SX} {v : SY} (h : i_Rel k u v) : i_Rel (k + 4) u v := h
theorem zz_in {k : Nat} {w lf rt sr nw : Int32} {st ic pr ss sa wa wr sh ak nx li pc hd go tk en wh ow td ob sp sc sn ib hl kd so bo fr tt po ln fi sk ed ba ma sb say way oby iby scy sny spy hly poy lny sky edy bay may fiy sby : Nat → Int32} (h1 : zHE st ss sa say wa way wr ak nx tk go ob oby sp spy sc scy sn sny ib iby hl hly) (h2 : zHS kd so po poy ln lny fi fiy sk sky ed edy ba bay ma may sb sby) : i_Rel k (w, lf, rt, sr, nw, st, ic, pr, ss, sa, wa, wr, sh, ak, nx, li, pc, hd, go, tk, en, wh, ow, td, ob, sp, sc, sn, ib, hl, kd, so, bo, fr, tt, po, ln, fi, sk, ed, ba, ma, sb) (w, lf, rt, sr, nw, st, ic, pr, wr, ak, nx, li, pc, hd, tk, en, td, ss, say, way, sh, wh, ow, oby, iby, scy, sny, spy, hly, kd, so, bo, fr, tt, poy, lny, sky, edy, bay, may, fiy, sby) :=
  ⟨w, ⟨lf, ⟨rt, ⟨sr, ⟨nw, ⟨st, ⟨ic, ⟨pr, ⟨ss, ⟨sa, ⟨wa, ⟨wr, ⟨sh, ⟨ak, ⟨nx, ⟨li, ⟨pc, ⟨hd, ⟨go, ⟨tk, ⟨en, ⟨wh, ⟨ow, ⟨td, ⟨ob, ⟨sp, ⟨sc, ⟨sn, ⟨ib, ⟨hl, ⟨kd, ⟨so, ⟨bo, ⟨fr, ⟨tt, ⟨po, ⟨ln, ⟨fi, ⟨sk, ⟨ed, ⟨ba, ⟨ma, ⟨sb, ⟨say, ⟨way, ⟨oby, ⟨iby, ⟨scy, ⟨sny, ⟨spy, ⟨hly, ⟨poy, ⟨lny, ⟨sky, ⟨edy, ⟨bay, ⟨may, ⟨fiy, ⟨sby, rfl, rfl, h1, h2⟩⟩⟩⟩⟩⟩⟩⟩⟩⟩⟩⟩⟩⟩⟩⟩⟩⟩⟩⟩⟩⟩⟩⟩⟩⟩⟩⟩⟩⟩⟩⟩⟩⟩⟩⟩⟩⟩⟩⟩⟩⟩⟩⟩⟩⟩⟩⟩⟩⟩⟩⟩⟩⟩⟩⟩⟩⟩⟩
theorem zz_el {k : Nat} {u : SX} {v : SY} {P : SX → SY → Prop} (h : ∀ (w lf rt sr nw : Int32) (st ic pr ss sa wa wr sh ak nx li pc hd go tk en wh ow td ob sp sc sn ib hl kd so bo fr tt po ln fi sk ed ba ma sb say way oby iby scy sny spy hly poy lny sky edy bay may fiy sby : Nat → Int32), zHE st ss sa say wa way wr ak nx tk go ob oby sp spy sc scy sn sny ib iby hl hly → zHS kd so po poy ln lny fi fiy sk sky ed edy ba bay ma may sb sby → P (w, lf, rt, sr, nw, st, ic, pr, ss, sa, wa, wr, sh, ak, nx, li, pc, hd, go, tk, en, wh, ow, td, ob, sp, sc, sn, ib, hl, kd, so, bo, fr, tt, po, ln, fi, sk, ed, ba, ma, sb) (w, lf, rt, sr, nw, st, ic, pr, wr, ak, nx, li, pc, hd, tk, en, td, ss, say, way, sh, wh, ow, oby, iby, scy, sny, spy, hly, kd, so, bo, fr, tt, poy, lny, sky, edy, bay, may, fiy, sby)) (I : i_Rel k u v) : P u v :=
  Exists.elim I fun w I => Exists.elim I fun lf I => Exists.elim I fun rt I => Exists.elim I fun sr I => Exists.elim I fun nw I => Exists.elim I fun st I => Exists.elim I fun ic I => Exists.elim I fun pr I => Exists.elim I fun ss I => Exists.elim I fun sa I => Exists.elim I fun wa I => Exists.elim I fun wr I => Exists.elim I fun sh I => Exists.elim I fun ak I => Exists.elim I fun nx I => Exists.elim I fun li I => Exists.elim I fun pc I => Exists.elim I fun hd I => Exists.elim I fun go I => Exists.elim I fun tk I => Exists.elim I fun en I => Exists.elim I fun wh I => Exists.elim I fun ow I => Exists.elim I fun td I => Exists.elim I fun ob I => Exists.elim I fun sp I => Exists.elim I fun sc I => Exists.elim I fun sn I => Exists.elim I fun ib I => Exists.elim I fun hl I => Exists.elim I fun kd I => Exists.elim I fun so I => Exists.elim I fun bo I => Exists.elim I fun fr I => Exists.elim I fun tt I => Exists.elim I fun po I => Exists.elim I fun ln I => Exists.elim I fun fi I => Exists.elim I fun sk I => Exists.elim I fun ed I => Exists.elim I fun ba I => Exists.elim I fun ma I => Exists.elim I fun sb I => Exists.elim I fun say I => Exists.elim I fun way I => Exists.elim I fun oby I => Exists.elim I fun iby I => Exists.elim I fun scy I => Exists.elim I fun sny I => Exists.elim I fun spy I => Exists.elim I fun hly I => Exists.elim I fun poy I => Exists.elim I fun lny I => Exists.elim I fun sky I => Exists.elim I fun edy I => Exists.elim I fun bay I => Exists.elim I fun may I => Exists.elim I fun fiy I => Exists.elim I fun sby I => by
    obtain ⟨e1, e2, h1, h2⟩ := I
    subst e1 e2
    exact h w lf rt sr nw st ic pr ss sa wa wr sh ak nx li pc hd go tk en wh ow td ob sp sc sn ib hl kd so bo fr tt po ln fi sk ed ba ma sb say way oby iby scy sny spy hly poy lny sky edy bay may fiy sby h1 h2
theorem zHE_on {st ss sa say wa way wr ak nx tk go ob oby sp spy sc scy sn sny ib iby hl hly qst qss qsa qsay qwa qway qwr qak qnx qtk qgo qob qoby qsp qspy qsc qscy qsn qsny qib qiby qhl qhly : Nat → Int32} {e : Nat} (H : zHE st ss sa say wa way wr ak nx tk go ob oby sp spy sc scy sn sny ib iby hl hly) (on : zE (qst e) (qss e) (qsa e) (qsay e) (qwa e) (qway e) (qwr e) (qak e) (qnx e) (qtk e) (qgo e) (rX qob e) (rY qoby e) (rX qsp e) (rY qspy e) (rX qsc e) (rY qscy e) (rX qsn e) (rY qsny e) (rX qib e) (rY qiby e) (rX qhl e) (rY qhly e))
    (h_st : ∀ e', e' ≠ e → qst e' = st e' := by first | exact fun _ _ => rfl | exact fun _ h => pk_un h | exact fun _ h => (pk_un h).trans (pk_un h) | assumption)
    (h_ss : ∀ e', e' ≠ e → qss e' = ss e' := by first | exact fun _ _ => rfl | exact fun _ h => pk_un h | exact fun _ h => (pk_un h).trans (pk_un h) | assumption)
    (h_sa : ∀ e', e' ≠ e → qsa e' = sa e' := by first | exact fun _ _ => rfl | exact fun _ h => pk_un h | exact fun _ h => (pk_un h).trans (pk_un h) | assumption)
    (h_say : ∀ e', e' ≠ e → qsay e' = say e' := by first | exact fun _ _ => rfl | exact fun _ h => pk_un h | exact fun _ h => (pk_un h).trans (pk_un h) | assumption)
    (h_wa : ∀ e', e' ≠ e → qwa e' = wa e' := by first | exact fun _ _ => rfl | exact fun _ h => pk_un h | exact fun _ h => (pk_un h).trans (pk_un h) | assumption)
    (h_way : ∀ e', e' ≠ e → qway e' = way e' := by first | exact fun _ _ => rfl | exact fun _ h => pk_un h | exact fun _ h => (pk_un h).trans (pk_un h) | assumption)
    (h_wr : ∀ e', e' ≠ e → qwr e' = wr e' := by first | exact fun _ _ => rfl | exact fun _ h => pk_un h | exact fun _ h => (pk_un h).trans (pk_un h) | assumption)
    (h_ak : ∀ e', e' ≠ e → qak e' = ak e' := by first | exact fun _ _ => rfl | exact fun _ h => pk_un h | exact fun _ h => (pk_un h).trans (pk_un h) | assumption)
    (h_nx : ∀ e', e' ≠ e → qnx e' = nx e' := by first | exact fun _ _ => rfl | exact fun _ h => pk_un h | exact fun _ h => (pk_un h).trans (pk_un h) | assumption)
    (h_tk : ∀ e', e' ≠ e → qtk e' = tk e' := by first | exact fun _ _ => rfl | exact fun _ h => pk_un h | exact fun _ h => (pk_un h).trans (pk_un h) | assumption)
    (h_go : ∀ e', e' ≠ e → qgo e' = go e' := by first | exact fun _ _ => rfl | exact fun _ h => pk_un h | exact fun _ h => (pk_un h).trans (pk_un h) | assumption)
    (h_ob : ∀ e', e' ≠ e → rX qob e' = rX ob e' := by first | exact fun _ _ => rfl | assumption)
    (h_oby : ∀ e', e' ≠ e → rY qoby e' = rY oby e' := by first | exact fun _ _ => rfl | assumption)
    (h_sp : ∀ e', e' ≠ e → rX qsp e' = rX sp e' := by first | exact fun _ _ => rfl | assumption)
    (h_spy : ∀ e', e' ≠ e → rY qspy e' = rY spy e' := by first | exact fun _ _ => rfl | assumption)
    (h_sc : ∀ e', e' ≠ e → rX qsc e' = rX sc e' := by first | exact fun _ _ => rfl | assumption)
    (h_scy : ∀ e', e' ≠ e → rY qscy e' = rY scy e' := by first | exact fun _ _ => rfl | assumption)
    (h_sn : ∀ e', e' ≠ e → rX qsn e' = rX sn e' := by first | exact fun _ _ => rfl | assumption)
    (h_sny : ∀ e', e' ≠ e → rY qsny e' = rY sny e' := by first | exact fun _ _ => rfl | assumption)
    (h_ib : ∀ e', e' ≠ e → rX qib e' = rX ib e' := by first | exact fun _ _ => rfl | assumption)
    (h_iby : ∀ e', e' ≠ e → rY qiby e' = rY iby e' := by first | exact fun _ _ => rfl | assumption)
    (h_hl : ∀ e', e' ≠ e → rX qhl e' = rX hl e' := by first | exact fun _ _ => rfl | assumption)
    (h_hly : ∀ e', e' ≠ e → rY qhly e' = rY hly e' := by first | exact fun _ _ => rfl | assumption) :
    zHE qst qss qsa qsay qwa qway qwr qak qnx qtk qgo qob qoby qsp qspy qsc qscy qsn qsny qib qiby qhl qhly := by
  intro e' he'
  by_cases h : e' = e
  · subst h; exact on
  · rw [h_st e' h, h_ss e' h, h_sa e' h, h_say e' h, h_wa e' h, h_way e' h, h_wr e' h, h_ak e' h, h_nx e' h, h_tk e' h, h_go e' h, h_ob e' h, h_oby e' h, h_sp e' h, h_spy e' h, h_sc e' h, h_scy e' h, h_sn e' h, h_sny e' h, h_ib e' h, h_iby e' h, h_hl e' h, h_hly e' h]; exact H e' he'
theorem zHS_on {kd so po poy ln lny fi fiy sk sky ed edy ba bay ma may sb sby qkd qso qpo qpoy qln qlny qfi qfiy qsk qsky qed qedy qba qbay qma qmay qsb qsby : Nat → Int32} {s : Nat} (H : zHS kd so po poy ln lny fi fiy sk sky ed edy ba bay ma may sb sby) (on : zS (qkd s) (qso s) (qpo s) (qpoy s) (qln s) (qlny s) (qfi s) (qfiy s) (qsk s) (qsky s) (qed s) (qedy s) (qba s) (qbay s) (qma s) (qmay s) (rB qsb s) (rB qsby s))
    (h_kd : ∀ s', s' ≠ s → qkd s' = kd s' := by first | exact fun _ _ => rfl | exact fun _ h => pk_un h | exact fun _ h => (pk_un h).trans (pk_un h) | assumption)
    (h_so : ∀ s', s' ≠ s → qso s' = so s' := by first | exact fun _ _ => rfl | exact fun _ h => pk_un h | exact fun _ h => (pk_un h).trans (pk_un h) | assumption)
    (h_po : ∀ s', s' ≠ s → qpo s' = po s' := by first | exact fun _ _ => rfl | exact fun _ h => pk_un h | exact fun _ h => (pk_un h).trans (pk_un h) | assumption)
    (h_poy : ∀ s', s' ≠ s → qpoy s' = poy s' := by first | exact fun _ _ => rfl | exact fun _ h => pk_un h | exact fun _ h => (pk_un h).trans (pk_un h) | assumption)
    (h_ln : ∀ s', s' ≠ s → qln s' = ln s' := by first | exact fun _ _ => rfl | exact fun _ h => pk_un h | exact fun _ h => (pk_un h).trans (pk_un h) | assumption)
    (h_lny : ∀ s', s' ≠ s → qlny s' = lny s' := by first | exact fun _ _ => rfl | exact fun _ h => pk_un h | exact fun _ h => (pk_un h).trans (pk_un h) | assumption)
    (h_fi : ∀ s', s' ≠ s → qfi s' = fi s' := by first | exact fun _ _ => rfl | exact fun _ h => pk_un h | exact fun _ h => (pk_un h).trans (pk_un h) | assumption)
    (h_fiy : ∀ s', s' ≠ s → qfiy s' = fiy s' := by first | exact fun _ _ => rfl | exact fun _ h => pk_un h | exact fun _ h => (pk_un h).trans (pk_un h) | assumption)
    (h_sk : ∀ s', s' ≠ s → qsk s' = sk s' := by first | exact fun _ _ => rfl | exact fun _ h => pk_un h | exact fun _ h => (pk_un h).trans (pk_un h) | assumption)
    (h_sky : ∀ s', s' ≠ s → qsky s' = sky s' := by first | exact fun _ _ => rfl | exact fun _ h => pk_un h | exact fun _ h => (pk_un h).trans (pk_un h) | assumption)
    (h_ed : ∀ s', s' ≠ s → qed s' = ed s' := by first | exact fun _ _ => rfl | exact fun _ h => pk_un h | exact fun _ h => (pk_un h).trans (pk_un h) | assumption)
    (h_edy : ∀ s', s' ≠ s → qedy s' = edy s' := by first | exact fun _ _ => rfl | exact fun _ h => pk_un h | exact fun _ h => (pk_un h).trans (pk_un h) | assumption)
    (h_ba : ∀ s', s' ≠ s → qba s' = ba s' := by first | exact fun _ _ => rfl | exact fun _ h => pk_un h | exact fun _ h => (pk_un h).trans (pk_un h) | assumption)
    (h_bay : ∀ s', s' ≠ s → qbay s' = bay s' := by first | exact fun _ _ => rfl | exact fun _ h => pk_un h | exact fun _ h => (pk_un h).trans (pk_un h) | assumption)
    (h_ma : ∀ s', s' ≠ s → qma s' = ma s' := by first | exact fun _ _ => rfl | exact fun _ h => pk_un h | exact fun _ h => (pk_un h).trans (pk_un h) | assumption)
    (h_may : ∀ s', s' ≠ s → qmay s' = may s' := by first | exact fun _ _ => rfl | exact fun _ h => pk_un h | exact fun _ h => (pk_un h).trans (pk_un h) | assumption)
    (h_sb : ∀ s', s' ≠ s → rB qsb s' = rB sb s' := by first | exact fun _ _ => rfl | assumption)
    (h_sby : ∀ s', s' ≠ s → rB qsby s' = rB sby s' := by first | exact fun _ _ => rfl | assumption) :
    zHS qkd qso qpo qpoy qln qlny qfi qfiy qsk qsky qed qedy qba qbay qma qmay qsb qsby := by
  intro s' hs'
  by_cases h : s' = s
  · subst h; exact on
  · rw [h_kd s' h, h_so s' h, h_po s' h, h_poy s' h, h_ln s' h, h_lny s' h, h_fi s' h, h_fiy s' h, h_sk s' h, h_sky s' h, h_ed s' h, h_edy s' h, h_ba s' h, h_bay s' h, h_ma s' h, h_may s' h, h_sb s' h, h_sby s' h]; exact H s' hs'
theorem zS_0 {so po poy ln lny fi fiy sk sky ed edy ba bay ma may : Int32} {sb sby : Nat → Int32} : zS 0 so po poy ln lny fi fiy sk sky ed edy ba bay ma may sb sby := fun h => absurd rfl h
theorem zHS_free {w lf rt sr nw : Int32} {st ic pr ss sa wa wr sh ak nx li pc hd go tk en wh ow td ob sp sc sn ib hl kd so bo fr tt po ln fi sk ed ba ma sb say way oby iby scy sny spy hly poy lny sky edy bay may fiy sby : Nat → Int32} {s : Nat} (H : zHS kd so po poy ln lny fi fiy sk sky ed edy ba bay ma may sb sby) : zHS (upd kd s 0) so po poy ln lny fi fiy sk sky ed edy ba bay ma may sb sby := zHS_on (s := s) H (by rw [pk_us]; exact zS_0)
end
section
/-! the component's reading methods: each by its pure value -/
theorem zz_ite {c : Prop} [Decidable c] {α : Sort _} {P : α → Prop} {a b : α} (h : P (if c then a else b)) : (c → P a) ∧ (¬ c → P b) :=
  ⟨fun k => by rw [if_pos k] at h; exact h, fun k => by rw [if_neg k] at h; exact h⟩
theorem zz_nb {v : Int32} (h : v = 0 ∨ v = 1) : narrow .boolean (.int v) = .int v := by
  rcases h with rfl | rfl <;> rfl
def zz_fx (F : Nat) : Int32 := if F < 160 then nI F else -1
def zz_rf (sh stop wr nx sW : Int32) : Int32 := if sh = 0 then 0 else if stop = wr then (if nx = wr + 1 then (if sW = 0 then 0 else 1) else 0) else 0
def zz_rm (st wr ak : Int32) : Int32 := if st = 5 then zz_mn (16 - (wr - ak)) (120 - wr) else if st = 10 then zz_mn (16 - (wr - ak)) (120 - wr) else 0
section
variable {w lf rt sr nw : Int32} {st ic pr ss sa wa wr sh ak nx li pc hd go tk en wh ow td ob sp sc sn ib hl kd so bo fr tt po ln fi sk ed ba ma sb : Nat → Int32} {post : Int32 → Prop} {e q : Nat} {a b c v : Int32}
theorem zx_isEnd (he : e < 2) (h : post 1) : wpX_isEnd post (w, lf, rt, sr, nw, st, ic, pr, ss, sa, wa, wr, sh, ak, nx, li, pc, hd, go, tk, en, wh, ow, td, ob, sp, sc, sn, ib, hl, kd, so, bo, fr, tt, po, ln, fi, sk, ed, ba, ma, sb) (nI e) := by
  have : e = 0 ∨ e = 1 := by omega
  rcases this with rfl | rfl
  · exact br_t rfl h
  · exact br_f (by decide) (br_t rfl h)
theorem zx_isEnd0 (h0 : ¬ v = 0) (h1 : ¬ v = 1) (h : post 0) : wpX_isEnd post (w, lf, rt, sr, nw, st, ic, pr, ss, sa, wa, wr, sh, ak, nx, li, pc, hd, go, tk, en, wh, ow, td, ob, sp, sc, sn, ib, hl, kd, so, bo, fr, tt, po, ln, fi, sk, ed, ba, ma, sb) v := br_f h0 (br_f h1 h)
theorem zx_cell (h : post (nI (e * 121 + q))) : wpX_cell post (w, lf, rt, sr, nw, st, ic, pr, ss, sa, wa, wr, sh, ak, nx, li, pc, hd, go, tk, en, wh, ow, td, ob, sp, sc, sn, ib, hl, kd, so, bo, fr, tt, po, ln, fi, sk, ed, ba, ma, sb) (nI e) (nI q) := by
  show post (nI e * 121 + nI q)
  rw [zz_i121]; exact h
theorem zx_pos1 (hq : q ≤ 120) (h : post 1) : wpX_isPosition post (w, lf, rt, sr, nw, st, ic, pr, ss, sa, wa, wr, sh, ak, nx, li, pc, hd, go, tk, en, wh, ow, td, ob, sp, sc, sn, ib, hl, kd, so, bo, fr, tt, po, ln, fi, sk, ed, ba, ma, sb) (nI q) :=
  br_f (nI_pos (by omega)) (br_f (nI_nlt (a := 120) hq (by decide)) h)
theorem zx_pos0 (hq : 120 < q) (hb : q < 2 ^ 31) (h : post 0) : wpX_isPosition post (w, lf, rt, sr, nw, st, ic, pr, ss, sa, wa, wr, sh, ak, nx, li, pc, hd, go, tk, en, wh, ow, td, ob, sp, sc, sn, ib, hl, kd, so, bo, fr, tt, po, ln, fi, sk, ed, ba, ma, sb) (nI q) :=
  br_f (nI_pos hb) (br_t (nI_lt (a := 120) hq hb) h)
theorem zx_lesser (h : post (zz_mn a b)) : wpX_lesser post (w, lf, rt, sr, nw, st, ic, pr, ss, sa, wa, wr, sh, ak, nx, li, pc, hd, go, tk, en, wh, ow, td, ob, sp, sc, sn, ib, hl, kd, so, bo, fr, tt, po, ln, fi, sk, ed, ba, ma, sb) a b := zz_ite (P := post) h
theorem zx_greater (h : post (zz_mx a b)) : wpX_greater post (w, lf, rt, sr, nw, st, ic, pr, ss, sa, wa, wr, sh, ak, nx, li, pc, hd, go, tk, en, wh, ow, td, ob, sp, sc, sn, ib, hl, kd, so, bo, fr, tt, po, ln, fi, sk, ed, ba, ma, sb) a b := zz_ite (P := post) h
theorem zx_backoff (h : post (rt * zz_mn c 4)) : wpX_backoff post (w, lf, rt, sr, nw, st, ic, pr, ss, sa, wa, wr, sh, ak, nx, li, pc, hd, go, tk, en, wh, ow, td, ob, sp, sc, sn, ib, hl, kd, so, bo, fr, tt, po, ln, fi, sk, ed, ba, ma, sb) c := zz_ite (P := fun z => post (rt * z)) h
theorem zx_free_l : ∀ d s, s + d = 12 → post (zz_fr kd d s) → wX_freeSlot_2 post w lf rt sr nw st ic pr ss sa wa wr sh ak nx li pc hd go tk en wh ow td ob sp sc sn ib hl kd so bo fr tt po ln fi sk ed ba ma sb (d + 1) (nI s) := by
  intro d
  induction d with
  | zero => intro s hs h; exact br_t (nI_le (a := 12) (by omega) (by omega)) h
  | succ d ih =>
    intro s hs h
    refine br_f (nI_ge (a := s) (b := 12) (by omega) (by decide)) ⟨vp_in_nI (by omega) (by decide), ?_⟩
    rw [nI_clamp (by omega)]
    by_cases z : kd s = 0
    · rw [show zz_fr kd (d + 1) s = nI s from if_pos z] at h
      exact br_t z h
    · rw [show zz_fr kd (d + 1) s = zz_fr kd d (s + 1) from if_neg z] at h
      exact br_f z (nm_r (nI_1 s) (ih (s + 1) (by omega) h))
theorem zx_free (h : post (zz_fr kd 12 0)) : wpX_freeSlot post (w, lf, rt, sr, nw, st, ic, pr, ss, sa, wa, wr, sh, ak, nx, li, pc, hd, go, tk, en, wh, ow, td, ob, sp, sc, sn, ib, hl, kd, so, bo, fr, tt, po, ln, fi, sk, ed, ba, ma, sb) := Exists.intro 13 (zx_free_l 12 0 rfl h)
theorem zx_isSeg (hs : q < 12) (h1 : ¬ kd q = 0) (h : post 1) : wpX_isSegment post (w, lf, rt, sr, nw, st, ic, pr, ss, sa, wa, wr, sh, ak, nx, li, pc, hd, go, tk, en, wh, ow, td, ob, sp, sc, sn, ib, hl, kd, so, bo, fr, tt, po, ln, fi, sk, ed, ba, ma, sb) (nI q) := by
  have ce : (nI q).toNatClampNeg = q := nI_clamp (by omega)
  refine br_f (nI_pos (by omega)) (br_f (nI_ge (a := q) (b := 12) (by omega) (by decide)) ⟨vp_in_nI hs (by decide), ?_⟩)
  rw [ce]
  exact br_f h1 h
theorem zx_isSeg0 (hs : ¬ ∃ s, s < 12 ∧ v = nI s ∧ ¬ kd s = 0) (h : post 0) : wpX_isSegment post (w, lf, rt, sr, nw, st, ic, pr, ss, sa, wa, wr, sh, ak, nx, li, pc, hd, go, tk, en, wh, ow, td, ob, sp, sc, sn, ib, hl, kd, so, bo, fr, tt, po, ln, fi, sk, ed, ba, ma, sb) v := by
  rcases pk_ix v (n := 12) (by decide) with h1 | h1 | ⟨j, hj, rfl⟩
  · exact br_t h1 h
  · by_cases h2 : v < 0
    · exact br_t h2 h
    · exact br_f h2 (br_t h1 h)
  · have ce : (nI j).toNatClampNeg = j := nI_clamp (by omega)
    refine br_f (nI_pos (by omega)) (br_f (nI_ge (a := j) (b := 12) (by omega) (by decide)) ⟨vp_in_nI hj (by decide), ?_⟩)
    rw [ce]
    by_cases z : kd j = 0
    · exact br_t z h
    · exact absurd ⟨j, hj, rfl, z⟩ hs
theorem zx_room (he : e < 2) (h : post (zz_rm (st e) (wr e) (ak e))) : wpX_roomOf post (w, lf, rt, sr, nw, st, ic, pr, ss, sa, wa, wr, sh, ak, nx, li, pc, hd, go, tk, en, wh, ow, td, ob, sp, sc, sn, ib, hl, kd, so, bo, fr, tt, po, ln, fi, sk, ed, ba, ma, sb) (nI e) := by
  have ve : vp_in (nI e) 2 := vp_in_nI he (by decide)
  have ce : (nI e).toNatClampNeg = e := nI_clamp (by omega)
  unfold wpX_roomOf wX_roomOf_23
  simp only [ce]
  unfold zz_rm at h
  by_cases h1 : st e = 5
  · rw [if_pos h1] at h
    exact ⟨ve, br_t h1 ⟨ve, ve, nm_e ⟨ve, zx_lesser h⟩⟩⟩
  · rw [if_neg h1] at h
    refine ⟨ve, br_f h1 ⟨ve, ?_⟩⟩
    by_cases h2 : st e = 10
    · rw [if_pos h2] at h
      exact br_t h2 ⟨ve, ve, nm_e ⟨ve, zx_lesser h⟩⟩
    · rw [if_neg h2] at h
      exact br_f h2 h
theorem zx_sab_l (he : e < 2) : ∀ d p c, p + d = 121 → post (zz_ct (rX sp e) c d p) → wX_sparedAbove_7 post (nI e) w lf rt sr nw st ic pr ss sa wa wr sh ak nx li pc hd go tk en wh ow td ob sp sc sn ib hl kd so bo fr tt po ln fi sk ed ba ma sb (d + 1) c (nI p) := by
  intro d
  induction d with
  | zero => intro p c hp h; exact br_t (nI_lt (a := 120) (by omega) (by omega)) h
  | succ d ih =>
    intro p c hp h
    refine br_f (nI_nlt (a := 120) (by omega) (by decide)) (zx_cell ⟨vp_in_nI (by omega) (by decide), ?_⟩)
    rw [nI_clamp (by omega)]
    have h' : post (zz_ct (rX sp e) (if rX sp e p = 0 then c else c + 1) d (p + 1)) := h
    rw [rX_g (by omega)] at h'
    by_cases z : sp (e * 121 + p) = 0
    · rw [if_pos z] at h'
      exact br_t z (nm_r (nI_1 p) (ih (p + 1) c (by omega) h'))
    · rw [if_neg z] at h'
      exact br_f z (nm_e (nm_r (nI_1 p) (ih (p + 1) (c + 1) (by omega) h')))
theorem zx_sab (he : e < 2) (hq : q ≤ 120) (h : post (zz_ct (rX sp e) 0 (120 - q) (q + 1))) : wpX_sparedAbove post (w, lf, rt, sr, nw, st, ic, pr, ss, sa, wa, wr, sh, ak, nx, li, pc, hd, go, tk, en, wh, ow, td, ob, sp, sc, sn, ib, hl, kd, so, bo, fr, tt, po, ln, fi, sk, ed, ba, ma, sb) (nI e) (nI q) :=
  nm_r (nI_1 q) ⟨120 - q + 1, zx_sab_l he _ _ _ (by omega) h⟩
theorem zx_stale {N : Nat} (he : e < 2) (hq : q < 200) (hN : nx e = nI N) (bN : N ≤ 121)
    (h : post (zz_st nw rt (ak e) (nx e) (rX sp e) (rX sn e) (rX sc e) q)) : wpX_isStale post (w, lf, rt, sr, nw, st, ic, pr, ss, sa, wa, wr, sh, ak, nx, li, pc, hd, go, tk, en, wh, ow, td, ob, sp, sc, sn, ib, hl, kd, so, bo, fr, tt, po, ln, fi, sk, ed, ba, ma, sb) (nI e) (nI q) := by
  have ve : vp_in (nI e) 2 := vp_in_nI he (by decide)
  have ce : (nI e).toNatClampNeg = e := nI_clamp (by omega)
  unfold wpX_isStale
  simp only [ce]
  refine ⟨ve, ?_⟩
  unfold zz_st at h
  rw [if_neg (by omega : ¬ 200 ≤ q)] at h
  by_cases h1 : nI q < ak e
  · rw [if_pos h1] at h; exact br_t h1 h
  rw [if_neg h1] at h
  refine br_f h1 ⟨ve, ?_⟩
  by_cases h2 : nx e ≤ nI q
  · rw [if_pos h2] at h; exact br_t h2 h
  rw [if_neg h2] at h
  have hq' : q ≤ 120 := by
    rw [hN, nI_leI (by omega) (by omega)] at h2
    omega
  have vc : vp_in (nI (e * 121 + q)) 242 := vp_in_nI (by omega) (by decide)
  refine br_f h2 (zx_pos1 hq' (br_f (by decide) (zx_cell ⟨vc, ?_⟩)))
  rw [nI_clamp (by omega)]
  rw [rX_g (a := sp) (by omega), rX_g (a := sn) (by omega), rX_g (a := sc) (by omega)] at h
  by_cases h3 : sp (e * 121 + q) = 0
  · rw [if_pos h3] at h
    refine br_t h3 ⟨vc, vc, zx_backoff ?_⟩
    by_cases h4 : nw - sn (e * 121 + q) < rt * zz_mn (sc (e * 121 + q)) 4
    · rw [if_pos h4] at h
      refine br_t h4 ⟨vc, ?_⟩
      by_cases h5 : sc (e * 121 + q) = 1
      · rw [if_pos h5] at h
        exact br_t h5 (zx_sab he hq' (zz_ite (P := post) h))
      · rw [if_neg h5] at h
        exact br_f h5 h
    · rw [if_neg h4] at h
      exact br_f h4 h
  · rw [if_neg h3] at h
    exact br_f h3 h
theorem zx_first_l {N A F : Nat} (he : e < 2) (hA : ak e = nI A) (bA : A ≤ 122) (hN : nx e = nI N) (bN : N ≤ 121) (hF1 : F ≤ 160)
    (hF2 : F < 160 → ¬ zz_st nw rt (ak e) (nx e) (rX sp e) (rX sn e) (rX sc e) F = 0)
    (hF3 : ∀ p, p < F → zz_st nw rt (ak e) (nx e) (rX sp e) (rX sn e) (rX sc e) p = 0) (h : post (zz_fx F)) :
    ∀ d p, p + d = 200 → p ≤ F → wX_firstStale_7 post (nI e) w lf rt sr nw st ic pr ss sa wa wr sh ak nx li pc hd go tk en wh ow td ob sp sc sn ib hl kd so bo fr tt po ln fi sk ed ba ma sb (d + 1) (nI p) := by
  have ve : vp_in (nI e) 2 := vp_in_nI he (by decide)
  have ce : (nI e).toNatClampNeg = e := nI_clamp (by omega)
  intro d
  induction d with
  | zero => intro p hp hq; exact absurd hq (by omega)
  | succ d ih =>
    intro p hp hq
    refine And.intro ve ?_
    rw [ce]
    by_cases h1 : nx e ≤ nI p
    · refine br_t h1 ?_
      have h2 : N ≤ p := by
        rw [hN, nI_leI (by omega) (by omega)] at h1
        exact h1
      have h3 : ¬ F < 160 := fun l => by
        have := zz_st_n hA hN (by omega) (by omega) (hF2 l)
        omega
      rw [zz_fx, if_neg h3] at h
      exact h
    · have h2 : p < N := by
        rw [hN, nI_leI (by omega) (by omega)] at h1
        omega
      refine br_f h1 (br_f (nI_nlt (a := 120) (by omega) (by decide)) (zx_stale he (by omega) hN bN ?_))
      by_cases z : zz_st nw rt (ak e) (nx e) (rX sp e) (rX sn e) (rX sc e) p = 0
      · have h3 : p ≠ F := fun l => by
          subst l
          exact hF2 (by omega) z
        exact br_t z (nm_r (nI_1 p) (ih (p + 1) (by omega) (by omega)))
      · have h3 : p = F := by
          apply Nat.le_antisymm hq
          apply Nat.le_of_not_lt
          intro l
          exact z (hF3 p l)
        refine br_f z ?_
        rw [zz_fx, ← h3, if_pos (by omega)] at h
        exact h
theorem zx_first {N A : Nat} (he : e < 2) (hA : ak e = nI A) (bA : A ≤ 122) (hN : nx e = nI N) (bN : N ≤ 121)
    (h : post (zz_fx (zz_ff (zz_st nw rt (ak e) (nx e) (rX sp e) (rX sn e) (rX sc e)) 160 0))) : wpX_firstStale post (w, lf, rt, sr, nw, st, ic, pr, ss, sa, wa, wr, sh, ak, nx, li, pc, hd, go, tk, en, wh, ow, td, ob, sp, sc, sn, ib, hl, kd, so, bo, fr, tt, po, ln, fi, sk, ed, ba, ma, sb) (nI e) := by
  have ve : vp_in (nI e) 2 := vp_in_nI he (by decide)
  have ce : (nI e).toNatClampNeg = e := nI_clamp (by omega)
  obtain ⟨_, h2, h3, h4⟩ := zz_ff_p (zz_st nw rt (ak e) (nx e) (rX sp e) (rX sn e) (rX sc e)) 160 0 rfl
  refine And.intro ve (nm_r (e' := nI A) (by rw [ce, hA]) ⟨200 - A + 1, zx_first_l he hA bA hN bN h2 h3 (fun p l => h4 p (Nat.zero_le p) l) h (200 - A) A (by omega) ?_⟩)
  by_cases l : zz_ff (zz_st nw rt (ak e) (nx e) (rX sp e) (rX sn e) (rX sc e)) 160 0 < 160
  · exact (zz_st_n hA hN (by omega) (by omega) (h3 l)).1
  · omega
theorem zx_rsl_l {N W : Nat} (he : e < 2) (hN : nx e = nI N) (bN : N ≤ 121) (hW : wr e = nI W) (bW : W ≤ 120) (bq : q ≤ 160) :
    ∀ d i, i + d = 4 → post (nI (zz_rl (zz_st nw rt (ak e) (nx e) (rX sp e) (rX sn e) (rX sc e)) W q d i)) →
      wX_resendLength_5 post (nI e) (nI q) w lf rt sr nw st ic pr ss sa wa wr sh ak nx li pc hd go tk en wh ow td ob sp sc sn ib hl kd so bo fr tt po ln fi sk ed ba ma sb (d + 1) (nI i) (nI i) := by
  have ve : vp_in (nI e) 2 := vp_in_nI he (by decide)
  have ce : (nI e).toNatClampNeg = e := nI_clamp (by omega)
  intro d
  induction d with
  | zero => intro i hi h; exact br_t (nI_le (a := 4) (by omega) (by omega)) h
  | succ d ih =>
    intro i hi h
    refine br_f (nI_ge (a := i) (b := 4) (by omega) (by decide)) (nm_r (nI_add q i) ⟨ve, ?_⟩)
    rw [ce]
    by_cases h1 : W ≤ q + i
    · rw [show zz_rl _ W q (d + 1) i = i from if_pos h1] at h
      refine br_t ?_ h
      rw [hW]
      exact nI_le h1 (by omega)
    · refine br_f ?_ (zx_stale he (by omega) hN bN ?_)
      · rw [hW]
        exact nI_ge (by omega) (by omega)
      · by_cases z : zz_st nw rt (ak e) (nx e) (rX sp e) (rX sn e) (rX sc e) (q + i) = 0
        · rw [show zz_rl _ W q (d + 1) i = i from (if_neg h1).trans (if_pos z)] at h
          exact br_t z h
        · rw [show zz_rl _ W q (d + 1) i = zz_rl (zz_st nw rt (ak e) (nx e) (rX sp e) (rX sn e) (rX sc e)) W q d (i + 1) from (if_neg h1).trans (if_neg z)] at h
          exact br_f z (nm_r (nI_1 i) (nm_r (nI_1 i) (ih (i + 1) (by omega) h)))
theorem zx_rsl {N W : Nat} (he : e < 2) (hN : nx e = nI N) (bN : N ≤ 121) (hW : wr e = nI W) (bW : W ≤ 120) (bq : q ≤ 160)
    (h : post (nI (zz_rl (zz_st nw rt (ak e) (nx e) (rX sp e) (rX sn e) (rX sc e)) W q 4 0))) : wpX_resendLength post (w, lf, rt, sr, nw, st, ic, pr, ss, sa, wa, wr, sh, ak, nx, li, pc, hd, go, tk, en, wh, ow, td, ob, sp, sc, sn, ib, hl, kd, so, bo, fr, tt, po, ln, fi, sk, ed, ba, ma, sb) (nI e) (nI q) :=
  Exists.intro 5 (zx_rsl_l he hN bN hW bW bq 4 0 rfl h)
theorem zx_rfin {N W : Nat} (he : e < 2) (hN : nx e = nI N) (bN : N ≤ 121) (hW : wr e = nI W) (bW : W ≤ 120)
    (h : post (zz_rf (sh e) v (wr e) (nx e) (zz_st nw rt (ak e) (nx e) (rX sp e) (rX sn e) (rX sc e) W))) : wpX_resendFin post (w, lf, rt, sr, nw, st, ic, pr, ss, sa, wa, wr, sh, ak, nx, li, pc, hd, go, tk, en, wh, ow, td, ob, sp, sc, sn, ib, hl, kd, so, bo, fr, tt, po, ln, fi, sk, ed, ba, ma, sb) (nI e) v := by
  have ve : vp_in (nI e) 2 := vp_in_nI he (by decide)
  have ce : (nI e).toNatClampNeg = e := nI_clamp (by omega)
  unfold wpX_resendFin
  simp only [ce]
  refine ⟨ve, nm_e ⟨ve, ?_⟩⟩
  unfold zz_rf at h
  by_cases h1 : sh e = 0
  · rw [if_pos h1] at h; exact br_t h1 h
  rw [if_neg h1] at h
  refine br_f h1 ?_
  by_cases h2 : v = wr e
  · rw [if_pos h2] at h
    refine br_t h2 ⟨ve, ?_⟩
    by_cases h3 : nx e = wr e + 1
    · rw [if_pos h3] at h
      refine br_t h3 ?_
      rw [hW]
      exact zx_stale he (by omega) hN bN (zz_ite (P := post) h)
    · rw [if_neg h3] at h; exact br_f h3 h
  · rw [if_neg h2] at h; exact br_f h2 h
theorem zx_held (he : e < 2) (hb : ∀ q, rX hl e q = 0 ∨ rX hl e q = 1) (bq : q < 1000) (h : post (rX hl e q)) : wpX_isHeld post (w, lf, rt, sr, nw, st, ic, pr, ss, sa, wa, wr, sh, ak, nx, li, pc, hd, go, tk, en, wh, ow, td, ob, sp, sc, sn, ib, hl, kd, so, bo, fr, tt, po, ln, fi, sk, ed, ba, ma, sb) (nI e) (nI q) := by
  unfold wpX_isHeld
  dsimp only
  by_cases hq : q ≤ 120
  · have hb' := hb q
    rw [rX_g (by omega)] at h hb'
    refine zx_pos1 hq (br_f (by decide) (zx_cell ⟨vp_in_nI (by omega) (by decide), ?_⟩))
    rw [nI_clamp (by omega)]
    exact ⟨zz_nb hb', h⟩
  · rw [rX_h (by omega)] at h
    exact zx_pos0 (by omega) (by omega) (br_t rfl h)
theorem zx_mask_l {G : Nat} (he : e < 2) (hb : ∀ q, rX hl e q = 0 ∨ rX hl e q = 1) (hG : go e = nI G) (bG : G ≤ 121) :
    ∀ d i m, i + d = 7 → m < 128 → post (nI (zz_mk (rX hl e) G d i m)) → wX_maskOf_4 post (nI e) w lf rt sr nw st ic pr ss sa wa wr sh ak nx li pc hd go tk en wh ow td ob sp sc sn ib hl kd so bo fr tt po ln fi sk ed ba ma sb (d + 1) (nI m) (nI i) := by
  have ve : vp_in (nI e) 2 := vp_in_nI he (by decide)
  have ce : (nI e).toNatClampNeg = e := nI_clamp (by omega)
  intro d
  induction d with
  | zero => intro i m hi hm h; exact br_t (nI_lt (a := 6) (by omega) (by omega)) h
  | succ d ih =>
    intro i m hi hm h
    refine br_f (nI_nlt (a := 6) (by omega) (by decide)) ⟨ve, ?_⟩
    rw [ce, hG, nI_1 G, nI_add (G + 1) i]
    have h' : post (nI (zz_mk (rX hl e) G d (i + 1) (if rX hl e (G + 1 + i) = 0 then m else m ||| 2 ^ i))) := h
    refine zx_held he hb (by omega) ?_
    by_cases z : rX hl e (G + 1 + i) = 0
    · rw [if_pos z] at h'
      exact br_t z (nm_r (nI_1 i) (ih (i + 1) m (by omega) hm h'))
    · rw [if_neg z] at h'
      exact br_f z (nm_r (zz_bO hm (by omega)) (nm_r (nI_1 i) (ih (i + 1) _ (by omega) (zz_bL hm (by omega)) h')))
theorem zx_mask {G : Nat} (he : e < 2) (hb : ∀ q, rX hl e q = 0 ∨ rX hl e q = 1) (hG : go e = nI G) (bG : G ≤ 121)
    (h : post (nI (zz_mk (rX hl e) G 7 0 0))) : wpX_maskOf post (w, lf, rt, sr, nw, st, ic, pr, ss, sa, wa, wr, sh, ak, nx, li, pc, hd, go, tk, en, wh, ow, td, ob, sp, sc, sn, ib, hl, kd, so, bo, fr, tt, po, ln, fi, sk, ed, ba, ma, sb) (nI e) := Exists.intro 8 (zx_mask_l he hb hG bG 7 0 0 rfl (by decide) h)
theorem zx_newLen (he : e < 2) (h : post (zz_nl (wr e) (nx e) (li e) (pc e))) : wpX_newLength post (w, lf, rt, sr, nw, st, ic, pr, ss, sa, wa, wr, sh, ak, nx, li, pc, hd, go, tk, en, wh, ow, td, ob, sp, sc, sn, ib, hl, kd, so, bo, fr, tt, po, ln, fi, sk, ed, ba, ma, sb) (nI e) := by
  have ve : vp_in (nI e) 2 := vp_in_nI he (by decide)
  have ce : (nI e).toNatClampNeg = e := nI_clamp (by omega)
  unfold wpX_newLength
  simp only [ce]
  exact ⟨ve, ve, zx_lesser ⟨ve, ve, zx_lesser ⟨ve, zx_lesser (zx_greater h)⟩⟩⟩
theorem zx_newFin (he : e < 2) (h : post (zz_nf (sh e) (nx e) v (wr e) (pc e))) : wpX_newFin post (w, lf, rt, sr, nw, st, ic, pr, ss, sa, wa, wr, sh, ak, nx, li, pc, hd, go, tk, en, wh, ow, td, ob, sp, sc, sn, ib, hl, kd, so, bo, fr, tt, po, ln, fi, sk, ed, ba, ma, sb) (nI e) v := by
  have ve : vp_in (nI e) 2 := vp_in_nI he (by decide)
  have ce : (nI e).toNatClampNeg = e := nI_clamp (by omega)
  unfold wpX_newFin
  simp only [ce]
  unfold zz_nf at h
  refine ⟨ve, ?_⟩
  by_cases h1 : sh e = 0
  · rw [if_pos h1] at h; exact br_t h1 h
  rw [if_neg h1] at h
  refine br_f h1 ⟨ve, ve, ?_⟩
  by_cases h2 : nx e + v = wr e
  · rw [if_pos h2] at h
    exact br_t h2 ⟨ve, zz_ite (P := post) h⟩
  · rw [if_neg h2] at h; exact br_f h2 h
theorem zx_probe (he : e < 2) (h : post (zz_pd (nx e) (ak e) (wr e) (li e) (pc e) nw (hd e) rt)) : wpX_isProbeDue post (w, lf, rt, sr, nw, st, ic, pr, ss, sa, wa, wr, sh, ak, nx, li, pc, hd, go, tk, en, wh, ow, td, ob, sp, sc, sn, ib, hl, kd, so, bo, fr, tt, po, ln, fi, sk, ed, ba, ma, sb) (nI e) := by
  have ve : vp_in (nI e) 2 := vp_in_nI he (by decide)
  have ce : (nI e).toNatClampNeg = e := nI_clamp (by omega)
  unfold wpX_isProbeDue
  simp only [ce]
  unfold zz_pd at h
  refine ⟨ve, nm_e ⟨ve, ?_⟩⟩
  by_cases h1 : ak e = nx e
  · rw [if_pos h1] at h
    refine br_t h1 ⟨ve, ?_⟩
    by_cases h2 : wr e ≤ nx e
    · rw [if_pos h2] at h; exact br_t h2 h
    rw [if_neg h2] at h
    refine br_f h2 ⟨ve, ?_⟩
    by_cases h3 : li e ≤ nx e
    · rw [if_pos h3] at h
      refine br_t h3 ⟨ve, ?_⟩
      by_cases h4 : 6 ≤ pc e
      · rw [if_pos h4] at h; exact br_t h4 h
      · rw [if_neg h4] at h; exact br_f h4 ⟨ve, zz_ite (P := post) h⟩
    · rw [if_neg h3] at h; exact br_f h3 h
  · rw [if_neg h1] at h; exact br_f h1 h
theorem zx_synDue (he : e < 2) (h : post (zz_sd (ss e) (sa e) nw rt)) : wpX_isSynDue post (w, lf, rt, sr, nw, st, ic, pr, ss, sa, wa, wr, sh, ak, nx, li, pc, hd, go, tk, en, wh, ow, td, ob, sp, sc, sn, ib, hl, kd, so, bo, fr, tt, po, ln, fi, sk, ed, ba, ma, sb) (nI e) := by
  have ve : vp_in (nI e) 2 := vp_in_nI he (by decide)
  have ce : (nI e).toNatClampNeg = e := nI_clamp (by omega)
  unfold wpX_isSynDue
  simp only [ce]
  unfold zz_sd at h
  refine ⟨ve, ?_⟩
  by_cases h1 : ss e = 0
  · rw [if_pos h1] at h; exact br_t h1 h
  rw [if_neg h1] at h
  exact br_f h1 ⟨ve, ve, zx_backoff (zz_ite (P := post) h)⟩
theorem zx_hand (he : e < 2) (h1 : st e = 3 ∨ st e = 4 → post 1) (h0 : ¬ st e = 3 → ¬ st e = 4 → post 0) : wpX_isHandshaking post (w, lf, rt, sr, nw, st, ic, pr, ss, sa, wa, wr, sh, ak, nx, li, pc, hd, go, tk, en, wh, ow, td, ob, sp, sc, sn, ib, hl, kd, so, bo, fr, tt, po, ln, fi, sk, ed, ba, ma, sb) (nI e) := by
  have ve : vp_in (nI e) 2 := vp_in_nI he (by decide)
  have ce : (nI e).toNatClampNeg = e := nI_clamp (by omega)
  unfold wpX_isHandshaking
  simp only [ce]
  exact ⟨ve, br_c (fun h => h1 (Or.inl h)) (fun h => ⟨ve, br_c (fun h' => h1 (Or.inr h')) (fun h' => h0 h h')⟩)⟩
theorem zx_conn (he : e < 2) (h1 : ¬ st e < 5 → post 1) (h0 : st e < 5 → post 0) : wpX_isConnected post (w, lf, rt, sr, nw, st, ic, pr, ss, sa, wa, wr, sh, ak, nx, li, pc, hd, go, tk, en, wh, ow, td, ob, sp, sc, sn, ib, hl, kd, so, bo, fr, tt, po, ln, fi, sk, ed, ba, ma, sb) (nI e) := by
  have ve : vp_in (nI e) 2 := vp_in_nI he (by decide)
  have ce : (nI e).toNatClampNeg = e := nI_clamp (by omega)
  unfold wpX_isConnected
  simp only [ce]
  exact ⟨ve, br_c h0 h1⟩
end
end
section
/-! the reference's reading methods: each by its pure value -/
def zz_dl (what : Int32) (F : Nat) (s : Nat → Int32) (W : Nat) (nl : Int32) : Int32 := if what = 4 then nl else if what = 3 then nI (zz_rl s W F 4 0) else if what = 5 then 1 else 0
def zz_df (what : Int32) (F : Nat) (s : Nat → Int32) (W : Nat) (nl nf sh wr nx : Int32) : Int32 := if what = 4 then nf else if what = 3 then zz_rf sh (nI F + zz_dl what F s W nl) wr nx (s W) else 0
theorem zz_nf_01 (sh nx n wr pc : Int32) : zz_nf sh nx n wr pc = 0 ∨ zz_nf sh nx n wr pc = 1 := by
  unfold zz_nf
  repeat' split
  all_goals first | exact Or.inl rfl | exact Or.inr rfl
theorem zz_rf_01 (sh stop wr nx sW : Int32) : zz_rf sh stop wr nx sW = 0 ∨ zz_rf sh stop wr nx sW = 1 := by
  unfold zz_rf
  repeat' split
  all_goals first | exact Or.inl rfl | exact Or.inr rfl
section
variable {w lf rt sr nw : Int32} {st ic pr wr ak nx li pc hd tk en td ss say way sh wh ow oby iby scy sny spy hly kd so bo fr tt poy lny sky edy bay may fiy sby : Nat → Int32} {post : Int32 → Prop} {e q : Nat} {a b c v : Int32}
theorem zy_good (he : e < 2) (h : post 1) : wpY_good post (w, lf, rt, sr, nw, st, ic, pr, wr, ak, nx, li, pc, hd, tk, en, td, ss, say, way, sh, wh, ow, oby, iby, scy, sny, spy, hly, kd, so, bo, fr, tt, poy, lny, sky, edy, bay, may, fiy, sby) (nI e) := by
  have : e = 0 ∨ e = 1 := by omega
  rcases this with rfl | rfl
  · exact br_t rfl h
  · exact br_f (by decide) (br_t rfl h)
theorem zy_good0 (h0 : ¬ v = 0) (h1 : ¬ v = 1) (h : post 0) : wpY_good post (w, lf, rt, sr, nw, st, ic, pr, wr, ak, nx, li, pc, hd, tk, en, td, ss, say, way, sh, wh, ow, oby, iby, scy, sny, spy, hly, kd, so, bo, fr, tt, poy, lny, sky, edy, bay, may, fiy, sby) v := br_f h0 (br_f h1 h)
theorem zy_min (h : post (zz_mn a b)) : wpY_min post (w, lf, rt, sr, nw, st, ic, pr, wr, ak, nx, li, pc, hd, tk, en, td, ss, say, way, sh, wh, ow, oby, iby, scy, sny, spy, hly, kd, so, bo, fr, tt, poy, lny, sky, edy, bay, may, fiy, sby) a b := zz_ite (P := post) h
theorem zy_max (h : post (zz_mx a b)) : wpY_max post (w, lf, rt, sr, nw, st, ic, pr, wr, ak, nx, li, pc, hd, tk, en, td, ss, say, way, sh, wh, ow, oby, iby, scy, sny, spy, hly, kd, so, bo, fr, tt, poy, lny, sky, edy, bay, may, fiy, sby) a b := zz_ite (P := post) h
theorem zy_free_l : ∀ d s, s + d = 12 → post (zz_fr kd d s) → wY_freeSlot_2 post w lf rt sr nw st ic pr wr ak nx li pc hd tk en td ss say way sh wh ow oby iby scy sny spy hly kd so bo fr tt poy lny sky edy bay may fiy sby (d + 1) (nI s) := by
  intro d
  induction d with
  | zero => intro s hs h; exact br_t (nI_le (a := 12) (by omega) (by omega)) h
  | succ d ih =>
    intro s hs h
    refine br_f (nI_ge (a := s) (b := 12) (by omega) (by decide)) ⟨vp_in_nI (by omega) (by decide), ?_⟩
    rw [nI_clamp (by omega)]
    by_cases z : kd s = 0
    · rw [show zz_fr kd (d + 1) s = nI s from if_pos z] at h
      exact br_t z h
    · rw [show zz_fr kd (d + 1) s = zz_fr kd d (s + 1) from if_neg z] at h
      exact br_f z (nm_r (nI_1 s) (ih (s + 1) (by omega) h))
theorem zy_free (h : post (zz_fr kd 12 0)) : wpY_freeSlot post (w, lf, rt, sr, nw, st, ic, pr, wr, ak, nx, li, pc, hd, tk, en, td, ss, say, way, sh, wh, ow, oby, iby, scy, sny, spy, hly, kd, so, bo, fr, tt, poy, lny, sky, edy, bay, may, fiy, sby) := Exists.intro 13 (zy_free_l 12 0 rfl h)
theorem zy_goodS (hs : q < 12) (h1 : ¬ kd q = 0) (h : post 1) : wpY_goodSlot post (w, lf, rt, sr, nw, st, ic, pr, wr, ak, nx, li, pc, hd, tk, en, td, ss, say, way, sh, wh, ow, oby, iby, scy, sny, spy, hly, kd, so, bo, fr, tt, poy, lny, sky, edy, bay, may, fiy, sby) (nI q) := by
  have ce : (nI q).toNatClampNeg = q := nI_clamp (by omega)
  refine br_f (nI_pos (by omega)) (br_f (nI_ge (a := q) (b := 12) (by omega) (by decide)) ⟨vp_in_nI hs (by decide), ?_⟩)
  rw [ce]
  exact br_f h1 h
theorem zy_goodS0 (hs : ¬ ∃ s, s < 12 ∧ v = nI s ∧ ¬ kd s = 0) (h : post 0) : wpY_goodSlot post (w, lf, rt, sr, nw, st, ic, pr, wr, ak, nx, li, pc, hd, tk, en, td, ss, say, way, sh, wh, ow, oby, iby, scy, sny, spy, hly, kd, so, bo, fr, tt, poy, lny, sky, edy, bay, may, fiy, sby) v := by
  rcases pk_ix v (n := 12) (by decide) with h1 | h1 | ⟨j, hj, rfl⟩
  · exact br_t h1 h
  · by_cases h2 : v < 0
    · exact br_t h2 h
    · exact br_f h2 (br_t h1 h)
  · have ce : (nI j).toNatClampNeg = j := nI_clamp (by omega)
    refine br_f (nI_pos (by omega)) (br_f (nI_ge (a := j) (b := 12) (by omega) (by decide)) ⟨vp_in_nI hj (by decide), ?_⟩)
    rw [ce]
    by_cases z : kd j = 0
    · exact br_t z h
    · exact absurd ⟨j, hj, rfl, z⟩ hs
theorem zy_got_l {G : Nat} (he : e < 2) (h1 : ∀ q, q < G → ¬ rY hly e q = 0) (h0 : rY hly e G = 0) (bG : G ≤ 121) (h : post (nI G)) :
    ∀ d q, q + d = 160 → q ≤ G → wY_got_2 post (nI e) w lf rt sr nw st ic pr wr ak nx li pc hd tk en td ss say way sh wh ow oby iby scy sny spy hly kd so bo fr tt poy lny sky edy bay may fiy sby (d + 1) (nI q) := by
  intro d
  induction d with
  | zero => intro q hq l; exact absurd l (by omega)
  | succ d ih =>
    intro q hq l
    refine br_f (nI_ge (a := q) (b := 160) (by omega) (by decide)) ?_
    rw [zz_i160]
    refine ⟨vp_in_nI (by omega) (by decide), ?_⟩
    rw [nI_clamp (by omega), ← rY_g (a := hly) (e := e) (by omega : q < 160)]
    by_cases z : q = G
    · subst z
      exact br_t h0 h
    · exact br_f (h1 q (by omega)) (nm_r (nI_1 q) (ih (q + 1) (by omega) (by omega)))
theorem zy_got {G : Nat} (he : e < 2) (h1 : ∀ q, q < G → ¬ rY hly e q = 0) (h0 : rY hly e G = 0) (bG : G ≤ 121) (h : post (nI G)) : wpY_got post (w, lf, rt, sr, nw, st, ic, pr, wr, ak, nx, li, pc, hd, tk, en, td, ss, say, way, sh, wh, ow, oby, iby, scy, sny, spy, hly, kd, so, bo, fr, tt, poy, lny, sky, edy, bay, may, fiy, sby) (nI e) :=
  Exists.intro 161 (zy_got_l he h1 h0 bG h 160 0 rfl (Nat.zero_le G))
theorem zy_gaps_l {G : Nat} (he : e < 2) (bG : G ≤ 121) :
    ∀ d i m, i + d = 7 → m < 128 → post (nI (zz_mk (rY hly e) G d i m)) → wY_gaps_11 post (nI e) (nI G) w lf rt sr nw st ic pr wr ak nx li pc hd tk en td ss say way sh wh ow oby iby scy sny spy hly kd so bo fr tt poy lny sky edy bay may fiy sby (d + 1) (nI m) (nI i) := by
  intro d
  induction d with
  | zero => intro i m hi hm h; exact br_t (nI_lt (a := 6) (by omega) (by omega)) h
  | succ d ih =>
    intro i m hi hm h
    have ix : ((nI e * 160 + nI G) + 1) + nI i = nI (e * 160 + (G + 1 + i)) := by
      rw [zz_i160, nI_1 (e * 160 + G), nI_add]
      exact congrArg nI (by omega)
    refine br_f (nI_nlt (a := 6) (by omega) (by decide)) (br_f ?_ ?_)
    · rw [nI_1 G, nI_add (G + 1) i]
      exact nI_ge (a := G + 1 + i) (b := 160) (by omega) (by decide)
    · rw [ix]
      refine ⟨vp_in_nI (by omega) (by decide), ?_⟩
      rw [nI_clamp (by omega), ← rY_g (a := hly) (e := e) (by omega : G + 1 + i < 160)]
      have h' : post (nI (zz_mk (rY hly e) G d (i + 1) (if rY hly e (G + 1 + i) = 0 then m else m ||| 2 ^ i))) := h
      by_cases z : rY hly e (G + 1 + i) = 0
      · rw [if_pos z] at h'
        exact br_t z (nm_r (nI_1 i) (ih (i + 1) m (by omega) hm h'))
      · rw [if_neg z] at h'
        exact br_f z (nm_r (zz_bO hm (by omega)) (nm_r (nI_1 i) (ih (i + 1) _ (by omega) (zz_bL hm (by omega)) h')))
theorem zy_gaps {G : Nat} (he : e < 2) (h1 : ∀ q, q < G → ¬ rY hly e q = 0) (h0 : rY hly e G = 0) (bG : G ≤ 121)
    (h : post (nI (zz_mk (rY hly e) G 7 0 0))) : wpY_gaps post (w, lf, rt, sr, nw, st, ic, pr, wr, ak, nx, li, pc, hd, tk, en, td, ss, say, way, sh, wh, ow, oby, iby, scy, sny, spy, hly, kd, so, bo, fr, tt, poy, lny, sky, edy, bay, may, fiy, sby) (nI e) := by
  unfold wpY_gaps
  dsimp only
  exact zy_got he h1 h0 bG ⟨8, zy_gaps_l he bG 7 0 0 rfl (by decide) h⟩
theorem zy_sab_l (he : e < 2) (hq : q < 160) : ∀ d p c, p + d = 160 →
    post (if rY scy e q = 1 then (if zz_ct (rY spy e) c d p < 3 then 0 else 1) else 0) → wY_stale_92 post (nI e) (nI (e * 160 + q)) w lf rt sr nw st ic pr wr ak nx li pc hd tk en td ss say way sh wh ow oby iby scy sny spy hly kd so bo fr tt poy lny sky edy bay may fiy sby (d + 1) c (nI p) := by
  intro d
  induction d with
  | zero =>
    intro p c hp h
    refine br_t (nI_le (a := 160) (by omega) (by omega)) ⟨vp_in_nI (by omega) (by decide), ?_⟩
    rw [nI_clamp (by omega), ← rY_g (a := scy) (e := e) hq]
    by_cases z : rY scy e q = 1
    · rw [if_pos z] at h
      exact br_t z (zz_ite (P := post) h)
    · rw [if_neg z] at h
      exact br_f z h
  | succ d ih =>
    intro p c hp h
    refine br_f (nI_ge (a := p) (b := 160) (by omega) (by decide)) ?_
    rw [zz_i160]
    refine ⟨vp_in_nI (by omega) (by decide), ?_⟩
    rw [nI_clamp (by omega), ← rY_g (a := spy) (e := e) (by omega : p < 160)]
    have h' : post (if rY scy e q = 1 then (if zz_ct (rY spy e) (if rY spy e p = 0 then c else c + 1) d (p + 1) < 3 then 0 else 1) else 0) := h
    by_cases z : rY spy e p = 0
    · rw [if_pos z] at h'
      exact br_t z (nm_r (nI_1 p) (ih (p + 1) c (by omega) h'))
    · rw [if_neg z] at h'
      exact br_f z (nm_e (nm_r (nI_1 p) (ih (p + 1) (c + 1) (by omega) h')))
theorem zy_stale {N : Nat} (he : e < 2) (hq : q < 200) (hN : nx e = nI N) (bN : N ≤ 121) (hz : ∀ p, 121 ≤ p → rY spy e p = 0)
    (h : post (zz_st nw rt (ak e) (nx e) (rY spy e) (rY sny e) (rY scy e) q)) : wpY_stale post (w, lf, rt, sr, nw, st, ic, pr, wr, ak, nx, li, pc, hd, tk, en, td, ss, say, way, sh, wh, ow, oby, iby, scy, sny, spy, hly, kd, so, bo, fr, tt, poy, lny, sky, edy, bay, may, fiy, sby) (nI e) (nI q) := by
  have ve : vp_in (nI e) 2 := vp_in_nI he (by decide)
  have ce : (nI e).toNatClampNeg = e := nI_clamp (by omega)
  unfold wpY_stale
  simp only [ce]
  refine ⟨ve, ?_⟩
  unfold zz_st at h
  rw [if_neg (by omega : ¬ 200 ≤ q)] at h
  by_cases h1 : nI q < ak e
  · rw [if_pos h1] at h; exact br_t h1 h
  rw [if_neg h1] at h
  refine br_f h1 ⟨ve, ?_⟩
  by_cases h2 : nx e ≤ nI q
  · rw [if_pos h2] at h; exact br_t h2 h
  rw [if_neg h2] at h
  have hq' : q ≤ 120 := by
    rw [hN, nI_leI (by omega) (by omega)] at h2
    omega
  have hc : zz_ct (rY spy e) 0 (159 - q) (q + 1) = zz_ct (rY spy e) 0 (120 - q) (q + 1) := by
    rw [show 159 - q = (120 - q) + 39 from by omega]
    exact zz_ct_a _ 39 (120 - q) 0 (q + 1) (fun p hp => hz p (by omega))
  rw [← hc] at h
  have vc : vp_in (nI (e * 160 + q)) 320 := vp_in_nI (by omega) (by decide)
  refine br_f h2 (br_f (nI_pos (by omega)) (br_t (nI_lt (b := 160) (by omega) (by decide)) (nm_r (zz_i160 e q) ⟨vc, ?_⟩)))
  rw [nI_clamp (by omega), ← rY_g (a := spy) (e := e) (by omega : q < 160), ← rY_g (a := sny) (e := e) (by omega : q < 160), ← rY_g (a := scy) (e := e) (by omega : q < 160)]
  by_cases h3 : rY spy e q = 0
  · rw [if_pos h3] at h
    refine br_t h3 ⟨vc, vc, zy_min ?_⟩
    by_cases h4 : nw - rY sny e q < rt * zz_mn (rY scy e q) 4
    · rw [if_pos h4] at h
      exact br_t h4 (nm_r (nI_1 q) ⟨159 - q + 1, zy_sab_l he (by omega) _ _ _ (by omega) h⟩)
    · rw [if_neg h4] at h
      exact br_f h4 h
  · rw [if_neg h3] at h
    exact br_f h3 h
theorem zy_first_l {N : Nat} (he : e < 2) (hN : nx e = nI N) (bN : N ≤ 121) (hz : ∀ p, 121 ≤ p → rY spy e p = 0) : ∀ d p, p + d = 160 →
    post (nI (zz_ff (zz_st nw rt (ak e) (nx e) (rY spy e) (rY sny e) (rY scy e)) d p)) → wY_firstStale_2 post (nI e) w lf rt sr nw st ic pr wr ak nx li pc hd tk en td ss say way sh wh ow oby iby scy sny spy hly kd so bo fr tt poy lny sky edy bay may fiy sby (d + 1) (nI p) := by
  intro d
  induction d with
  | zero => intro p hp h; exact br_t (nI_le (a := 160) (by omega) (by omega)) h
  | succ d ih =>
    intro p hp h
    refine br_f (nI_ge (a := p) (b := 160) (by omega) (by decide)) (zy_stale he (by omega) hN bN hz ?_)
    by_cases z : zz_st nw rt (ak e) (nx e) (rY spy e) (rY sny e) (rY scy e) p = 0
    · rw [show zz_ff _ (d + 1) p = zz_ff (zz_st nw rt (ak e) (nx e) (rY spy e) (rY sny e) (rY scy e)) d (p + 1) from if_pos z] at h
      exact br_t z (nm_r (nI_1 p) (ih (p + 1) (by omega) h))
    · rw [show zz_ff _ (d + 1) p = p from if_neg z] at h
      exact br_f z h
theorem zy_first {N : Nat} (he : e < 2) (hN : nx e = nI N) (bN : N ≤ 121) (hz : ∀ p, 121 ≤ p → rY spy e p = 0)
    (h : post (nI (zz_ff (zz_st nw rt (ak e) (nx e) (rY spy e) (rY sny e) (rY scy e)) 160 0))) : wpY_firstStale post (w, lf, rt, sr, nw, st, ic, pr, wr, ak, nx, li, pc, hd, tk, en, td, ss, say, way, sh, wh, ow, oby, iby, scy, sny, spy, hly, kd, so, bo, fr, tt, poy, lny, sky, edy, bay, may, fiy, sby) (nI e) :=
  Exists.intro 161 (zy_first_l he hN bN hz 160 0 rfl h)
theorem zz_mx0 {r : Int32} (h : post (zz_mx r 0)) : (0 ≤ r → post r) ∧ (¬ 0 ≤ r → post 0) := by
  unfold zz_mx at h
  by_cases h1 : r ≤ 0
  · rw [if_pos h1] at h
    exact ⟨fun k => by rw [Int32.le_antisymm h1 k]; exact h, fun _ => h⟩
  · rw [if_neg h1] at h
    exact ⟨fun _ => h, fun k => absurd (Int32.le_of_lt (Int32.not_le.mp k)) h1⟩
theorem zy_newLen (he : e < 2) (h : post (zz_nl (wr e) (nx e) (li e) (pc e))) : wpY_newLen post (w, lf, rt, sr, nw, st, ic, pr, wr, ak, nx, li, pc, hd, tk, en, td, ss, say, way, sh, wh, ow, oby, iby, scy, sny, spy, hly, kd, so, bo, fr, tt, poy, lny, sky, edy, bay, may, fiy, sby) (nI e) := by
  have ve : vp_in (nI e) 2 := vp_in_nI he (by decide)
  have ce : (nI e).toNatClampNeg = e := nI_clamp (by omega)
  unfold wpY_newLen
  simp only [ce]
  exact ⟨ve, ve, zy_min ⟨ve, ve, zy_min ⟨ve, zy_min (zz_mx0 h)⟩⟩⟩
theorem zy_newFin (he : e < 2) (h : post (zz_nf (sh e) (nx e) (zz_nl (wr e) (nx e) (li e) (pc e)) (wr e) (pc e))) : wpY_newFin post (w, lf, rt, sr, nw, st, ic, pr, wr, ak, nx, li, pc, hd, tk, en, td, ss, say, way, sh, wh, ow, oby, iby, scy, sny, spy, hly, kd, so, bo, fr, tt, poy, lny, sky, edy, bay, may, fiy, sby) (nI e) := by
  have ve : vp_in (nI e) 2 := vp_in_nI he (by decide)
  have ce : (nI e).toNatClampNeg = e := nI_clamp (by omega)
  unfold wpY_newFin
  simp only [ce]
  refine zy_newLen he ⟨ve, ?_⟩
  generalize zz_nl (wr e) (nx e) (li e) (pc e) = v at h ⊢
  unfold zz_nf at h
  by_cases h1 : sh e = 0
  · rw [if_pos h1] at h; exact br_t h1 h
  rw [if_neg h1] at h
  refine br_f h1 ⟨ve, ve, ?_⟩
  by_cases h2 : nx e + v = wr e
  · rw [if_pos h2] at h
    exact br_t h2 ⟨ve, zz_ite (P := post) h⟩
  · rw [if_neg h2] at h; exact br_f h2 h
theorem zy_len_k {F N W : Nat} (he : e < 2) (hN : nx e = nI N) (bN : N ≤ 121) (n : Nat) (h : post (nI n)) :
    ∀ d i, i + d = 4 → n < i → wY_dueLen_39 post (nI e) (nI F) w lf rt sr nw st ic pr wr ak nx li pc hd tk en td ss say way sh wh ow oby iby scy sny spy hly kd so bo fr tt poy lny sky edy bay may fiy sby (d + 1) (nI n) (nI i) := by
  intro d
  induction d with
  | zero => intro i hi l; exact br_t (nI_le (a := 4) (by omega) (by omega)) h
  | succ d ih =>
    intro i hi l
    refine br_f (nI_ge (a := i) (b := 4) (by omega) (by decide)) (br_f ?_ (nm_r (nI_1 i) (ih (i + 1) (by omega) (by omega))))
    rw [nI_eq (by omega) (by omega)]
    omega
theorem zy_len_l {F N W : Nat} (he : e < 2) (hN : nx e = nI N) (bN : N ≤ 121) (hz : ∀ p, 121 ≤ p → rY spy e p = 0) (hW : wr e = nI W) (bW : W ≤ 120) (bF : F ≤ 160) :
    ∀ d i, i + d = 4 → post (nI (zz_rl (zz_st nw rt (ak e) (nx e) (rY spy e) (rY sny e) (rY scy e)) W F d i)) →
      wY_dueLen_39 post (nI e) (nI F) w lf rt sr nw st ic pr wr ak nx li pc hd tk en td ss say way sh wh ow oby iby scy sny spy hly kd so bo fr tt poy lny sky edy bay may fiy sby (d + 1) (nI i) (nI i) := by
  have ve : vp_in (nI e) 2 := vp_in_nI he (by decide)
  have ce : (nI e).toNatClampNeg = e := nI_clamp (by omega)
  intro d
  induction d with
  | zero => intro i hi h; exact br_t (nI_le (a := 4) (by omega) (by omega)) h
  | succ d ih =>
    intro i hi h
    refine br_f (nI_ge (a := i) (b := 4) (by omega) (by decide)) (br_t rfl ⟨ve, ?_⟩)
    rw [ce, nI_add]
    by_cases h1 : W ≤ F + i
    · rw [show zz_rl _ W F (d + 1) i = i from if_pos h1] at h
      refine br_t ?_ (nm_r (nI_1 i) (zy_len_k (W := W) he hN bN i h d (i + 1) (by omega) (by omega)))
      rw [hW]
      exact nI_le h1 (by omega)
    · refine br_f ?_ (zy_stale he (by omega) hN bN hz ?_)
      · rw [hW]
        exact nI_ge (by omega) (by omega)
      · by_cases z : zz_st nw rt (ak e) (nx e) (rY spy e) (rY sny e) (rY scy e) (F + i) = 0
        · rw [show zz_rl _ W F (d + 1) i = i from (if_neg h1).trans (if_pos z)] at h
          exact br_t z (nm_r (nI_1 i) (zy_len_k (W := W) he hN bN i h d (i + 1) (by omega) (by omega)))
        · rw [show zz_rl _ W F (d + 1) i = zz_rl (zz_st nw rt (ak e) (nx e) (rY spy e) (rY sny e) (rY scy e)) W F d (i + 1) from (if_neg h1).trans (if_neg z)] at h
          exact br_f z (nm_r (nI_1 i) (nm_r (nI_1 i) (ih (i + 1) (by omega) h)))
theorem zy_dueLen {N W : Nat} (he : e < 2) (hN : nx e = nI N) (bN : N ≤ 121) (hz : ∀ p, 121 ≤ p → rY spy e p = 0) (hW : wr e = nI W) (bW : W ≤ 120)
    (h : post (zz_dl v (zz_ff (zz_st nw rt (ak e) (nx e) (rY spy e) (rY sny e) (rY scy e)) 160 0) (zz_st nw rt (ak e) (nx e) (rY spy e) (rY sny e) (rY scy e)) W (zz_nl (wr e) (nx e) (li e) (pc e)))) :
    wpY_dueLen post (w, lf, rt, sr, nw, st, ic, pr, wr, ak, nx, li, pc, hd, tk, en, td, ss, say, way, sh, wh, ow, oby, iby, scy, sny, spy, hly, kd, so, bo, fr, tt, poy, lny, sky, edy, bay, may, fiy, sby) (nI e) v := by
  unfold zz_dl at h
  by_cases h4 : v = 4
  · rw [if_pos h4] at h
    exact br_t h4 (zy_newLen he h)
  rw [if_neg h4] at h
  refine br_f h4 ?_
  by_cases h3 : v = 3
  · rw [if_pos h3] at h
    refine br_t h3 (zy_first he hN bN hz ⟨5, zy_len_l he hN bN hz hW bW ?_ 4 0 rfl h⟩)
    exact (zz_ff_p _ 160 0 rfl).2.1
  rw [if_neg h3] at h
  exact br_f h3 (zz_ite (P := post) h)
theorem zy_dueFin {N W : Nat} (he : e < 2) (hN : nx e = nI N) (bN : N ≤ 121) (hz : ∀ p, 121 ≤ p → rY spy e p = 0) (hW : wr e = nI W) (bW : W ≤ 120)
    (h : post (zz_df v (zz_ff (zz_st nw rt (ak e) (nx e) (rY spy e) (rY sny e) (rY scy e)) 160 0) (zz_st nw rt (ak e) (nx e) (rY spy e) (rY sny e) (rY scy e)) W (zz_nl (wr e) (nx e) (li e) (pc e))
      (zz_nf (sh e) (nx e) (zz_nl (wr e) (nx e) (li e) (pc e)) (wr e) (pc e)) (sh e) (wr e) (nx e))) :
    wpY_dueFin post (w, lf, rt, sr, nw, st, ic, pr, wr, ak, nx, li, pc, hd, tk, en, td, ss, say, way, sh, wh, ow, oby, iby, scy, sny, spy, hly, kd, so, bo, fr, tt, poy, lny, sky, edy, bay, may, fiy, sby) (nI e) v := by
  have ve : vp_in (nI e) 2 := vp_in_nI he (by decide)
  have ce : (nI e).toNatClampNeg = e := nI_clamp (by omega)
  unfold zz_df at h
  by_cases h4 : v = 4
  · rw [if_pos h4] at h
    exact br_t h4 (zy_newFin he ⟨zz_nb (zz_nf_01 _ _ _ _ _), h⟩)
  rw [if_neg h4] at h
  refine br_f h4 ?_
  by_cases h3 : v = 3
  · rw [if_pos h3] at h
    refine br_t h3 (zy_first he hN bN hz (zy_dueLen he hN bN hz hW bW (nm_e ⟨ve, ?_⟩)))
    rw [ce]
    unfold zz_rf at h
    by_cases k1 : sh e = 0
    · rw [if_pos k1] at h; exact br_t k1 h
    rw [if_neg k1] at h
    refine br_f k1 ⟨ve, ?_⟩
    generalize nI _ + zz_dl _ _ _ _ _ = x at h ⊢
    by_cases k2 : x = wr e
    · rw [if_pos k2] at h
      refine br_t k2 ⟨ve, ve, ?_⟩
      by_cases k3 : nx e = wr e + 1
      · rw [if_pos k3] at h
        refine br_t k3 ⟨ve, ?_⟩
        rw [hW]
        exact zy_stale he (by omega) hN bN hz (zz_ite (P := post) h)
      · rw [if_neg k3] at h; exact br_f k3 h
    · rw [if_neg k2] at h; exact br_f k2 h
  rw [if_neg h3] at h
  exact br_f h3 h
end
end
section
/-! what is due; the questions -/
def zz_al (st ss sa wa hd nw lf rt : Int32) : Int32 :=
  if st = 0 then -1 else if st = 1 then -1 else if st = 9 then (wa + 2 * lf) - nw else if st < 5 then (if ss = 0 then 0 else zz_mx 0 ((sa + rt * zz_mn ss 4) - nw)) else zz_mx 0 ((hd + rt) - nw)
theorem zz_al_e {st ss sa say wa way hd nw lf rt : Int32} (h1 : ¬ ss = 0 → say = sa) (h2 : st = 9 → way = wa) : zz_al st ss say way hd nw lf rt = zz_al st ss sa wa hd nw lf rt := by
  unfold zz_al
  by_cases h : st = 9
  · rw [h2 h]
    by_cases h' : ss = 0
    · rw [if_pos h', if_pos h']
    · rw [h1 h']
  · rw [if_neg h, if_neg h]
    by_cases h' : ss = 0
    · rw [if_pos h', if_pos h']
    · rw [h1 h']
theorem zz_sd_e {ss sa say nw rt : Int32} (h1 : ¬ ss = 0 → say = sa) : zz_sd ss say nw rt = zz_sd ss sa nw rt := by
  unfold zz_sd
  by_cases h' : ss = 0
  · rw [if_pos h', if_pos h']
  · rw [h1 h']
/-- i is in flight -/
theorem zz_fl {x : Int32} {A N : Nat} (bA : A ≤ 122) (bN : N ≤ 121) (h0 : ¬ x < 0) (h : x < nI N - nI A) : ∃ j, x = nI j ∧ A + j < N := by
  obtain ⟨j, hj, rfl⟩ := nI_of h0
  refine ⟨j, rfl, ?_⟩
  rw [Int32.lt_iff_toInt_lt, pk_sub_toInt (by omega) (by omega), nI_toInt hj] at h
  omega
section
variable {w lf rt sr nw : Int32} {st ic pr ss sa wa wr sh ak nx li pc hd go tk en wh ow td ob sp sc sn ib hl kd so bo fr tt po ln fi sk ed ba ma sb : Nat → Int32} {post : Int32 → Prop} {e q : Nat} {a b c v : Int32}
theorem zx_dueC {N A : Nat} (he : e < 2) (hA : ak e = nI A) (bA : A ≤ 122) (hN : nx e = nI N) (bN : N ≤ 121)
    (h : post (zz_dc (zz_ff (zz_st nw rt (ak e) (nx e) (rX sp e) (rX sn e) (rX sc e)) 160 0) (zz_nl (wr e) (nx e) (li e) (pc e))
      (zz_nf (sh e) (nx e) (zz_nl (wr e) (nx e) (li e) (pc e)) (wr e) (pc e)) (zz_pd (nx e) (ak e) (wr e) (li e) (pc e) nw (hd e) rt) (ow e))) :
    wpX_dueConnected post (w, lf, rt, sr, nw, st, ic, pr, ss, sa, wa, wr, sh, ak, nx, li, pc, hd, go, tk, en, wh, ow, td, ob, sp, sc, sn, ib, hl, kd, so, bo, fr, tt, po, ln, fi, sk, ed, ba, ma, sb) (nI e) := by
  have ve : vp_in (nI e) 2 := vp_in_nI he (by decide)
  have ce : (nI e).toNatClampNeg = e := nI_clamp (by omega)
  unfold wpX_dueConnected
  simp only [ce]
  refine zx_first he hA bA hN bN ?_
  generalize zz_ff _ 160 0 = F at h ⊢
  unfold zz_dc at h
  by_cases h1 : F < 160
  · rw [if_pos h1] at h
    have e1 : zz_fx F = nI F := if_pos h1
    rw [e1]
    exact br_f (nI_pos (by omega)) h
  rw [if_neg h1] at h
  have e1 : zz_fx F = -1 := if_neg h1
  rw [e1]
  refine br_t (by decide) (zx_newLen he ?_)
  generalize zz_nl (wr e) (nx e) (li e) (pc e) = n at h ⊢
  by_cases h2 : 0 < n
  · rw [if_pos h2] at h; exact br_t h2 h
  rw [if_neg h2] at h
  refine br_f h2 (zx_newFin he ?_)
  by_cases h3 : zz_nf (sh e) (nx e) n (wr e) (pc e) = 0
  · rw [if_pos h3] at h
    refine br_t h3 (zx_probe he ?_)
    by_cases h4 : zz_pd (nx e) (ak e) (wr e) (li e) (pc e) nw (hd e) rt = 0
    · rw [if_pos h4] at h
      exact br_t h4 ⟨ve, zz_ite (P := post) h⟩
    · rw [if_neg h4] at h
      exact br_f h4 h
  · rw [if_neg h3] at h
    exact br_f h3 h
theorem zx_due {N A S : Nat} (he : e < 2) (hS : st e = nI S) (bS : S ≤ 11) (hA : ak e = nI A) (bA : A ≤ 122) (hN : nx e = nI N) (bN : N ≤ 121)
    (h : post (zz_du (st e) (zz_sd (ss e) (sa e) nw rt) (zz_ff (zz_st nw rt (ak e) (nx e) (rX sp e) (rX sn e) (rX sc e)) 160 0) (zz_nl (wr e) (nx e) (li e) (pc e))
      (zz_nf (sh e) (nx e) (zz_nl (wr e) (nx e) (li e) (pc e)) (wr e) (pc e)) (zz_pd (nx e) (ak e) (wr e) (li e) (pc e) nw (hd e) rt) (ow e))) :
    wpX_dueOf post (w, lf, rt, sr, nw, st, ic, pr, ss, sa, wa, wr, sh, ak, nx, li, pc, hd, go, tk, en, wh, ow, td, ob, sp, sc, sn, ib, hl, kd, so, bo, fr, tt, po, ln, fi, sk, ed, ba, ma, sb) (nI e) := by
  have ve : vp_in (nI e) 2 := vp_in_nI he (by decide)
  have ce : (nI e).toNatClampNeg = e := nI_clamp (by omega)
  unfold wpX_dueOf
  simp only [ce]
  unfold zz_du at h
  refine ⟨ve, nm_e ?_⟩
  by_cases h0 : st e = 0
  · rw [if_pos h0] at h; exact br_t h0 h
  rw [if_neg h0] at h
  refine br_f h0 ?_
  by_cases h1 : st e = 1
  · rw [if_pos h1] at h; exact br_t h1 h
  rw [if_neg h1] at h
  refine br_f h1 ?_
  by_cases h5 : st e < 5
  · rw [if_pos h5] at h
    by_cases h2 : st e = 2
    · refine br_t h2 (zx_synDue he ?_)
      by_cases z : zz_sd (ss e) (sa e) nw rt = 0
      · rw [if_pos z] at h; exact br_t z h
      · rw [if_neg z, if_pos h2] at h; exact br_f z h
    · refine br_f h2 (zx_hand he (fun h34 => br_f (by decide) (zx_synDue he ?_)) (fun h3 h4 => ?_))
      · by_cases z : zz_sd (ss e) (sa e) nw rt = 0
        · rw [if_pos z] at h; exact br_t z h
        · rw [if_neg z, if_neg h2] at h; exact br_f z h
      · rcases zz_s5 hS bS h5 with k | k | k | k | k
        · exact absurd k h0
        · exact absurd k h1
        · exact absurd k h2
        · exact absurd k h3
        · exact absurd k h4
  · rw [if_neg h5] at h
    obtain ⟨_, _, n2, n3, n4⟩ := zz_s5n h5
    refine br_f n2 (zx_hand he (fun h34 => ?_) (fun h3 h4 => br_t rfl (zx_dueC he hA bA hN bN h)))
    rcases h34 with k | k
    · exact absurd k n3
    · exact absurd k n4
theorem zx_alarm {S : Nat} (he : e < 2) (hS : st e = nI S) (bS : S ≤ 11) (h : post (zz_al (st e) (ss e) (sa e) (wa e) (hd e) nw lf rt)) : wpX_alarmOf post (w, lf, rt, sr, nw, st, ic, pr, ss, sa, wa, wr, sh, ak, nx, li, pc, hd, go, tk, en, wh, ow, td, ob, sp, sc, sn, ib, hl, kd, so, bo, fr, tt, po, ln, fi, sk, ed, ba, ma, sb) (nI e) := by
  have ve : vp_in (nI e) 2 := vp_in_nI he (by decide)
  have ce : (nI e).toNatClampNeg = e := nI_clamp (by omega)
  unfold wpX_alarmOf wX_alarmOf_33
  simp only [ce]
  unfold zz_al at h
  refine ⟨ve, nm_e ?_⟩
  by_cases h0 : st e = 0
  · rw [if_pos h0] at h; exact br_t h0 h
  rw [if_neg h0] at h
  refine br_f h0 ?_
  by_cases h1 : st e = 1
  · rw [if_pos h1] at h; exact br_t h1 h
  rw [if_neg h1] at h
  refine br_f h1 ?_
  by_cases h5 : st e < 5
  · have h9 : ¬ st e = 9 := fun k => by rw [k] at h5; exact absurd h5 (by decide)
    rw [if_neg h9, if_pos h5] at h
    have K : vp_in (nI e) 2 ∧ ((ss e = 0 → post 0) ∧ (¬ ss e = 0 → vp_in (nI e) 2 ∧ vp_in (nI e) 2 ∧ wpX_backoff (fun r_10 => ∀ x3_54 : Int32, x3_54 = (sa e + r_10) - nw → wpX_greater (fun r_55 => post r_55) (w, lf, rt, sr, nw, st, ic, pr, ss, sa, wa, wr, sh, ak, nx, li, pc, hd, go, tk, en, wh, ow, td, ob, sp, sc, sn, ib, hl, kd, so, bo, fr, tt, po, ln, fi, sk, ed, ba, ma, sb) 0 x3_54) (w, lf, rt, sr, nw, st, ic, pr, ss, sa, wa, wr, sh, ak, nx, li, pc, hd, go, tk, en, wh, ow, td, ob, sp, sc, sn, ib, hl, kd, so, bo, fr, tt, po, ln, fi, sk, ed, ba, ma, sb) (ss e))) := by
      refine ⟨ve, ?_⟩
      by_cases z : ss e = 0
      · rw [if_pos z] at h; exact br_t z h
      · rw [if_neg z] at h
        exact br_f z ⟨ve, ve, zx_backoff (nm_e (zx_greater h))⟩
    rcases zz_s5 hS bS h5 with k | k | k | k | k
    · exact absurd k h0
    · exact absurd k h1
    · exact br_t k K
    · exact br_f (by rw [k]; decide) (br_t k K)
    · exact br_f (by rw [k]; decide) (br_f (by rw [k]; decide) (br_t k K))
  · obtain ⟨_, _, n2, n3, n4⟩ := zz_s5n h5
    refine br_f n2 (br_f n3 (br_f n4 ?_))
    by_cases h9 : st e = 9
    · rw [if_pos h9] at h; exact br_t h9 ⟨ve, h⟩
    · rw [if_neg h9, if_neg h5] at h
      exact br_f h9 ⟨ve, zx_greater h⟩
end
section
variable {w lf rt sr nw : Int32} {st ic pr wr ak nx li pc hd tk en td ss say way sh wh ow oby iby scy sny spy hly kd so bo fr tt poy lny sky edy bay may fiy sby : Nat → Int32} {post : Int32 → Prop} {e q : Nat} {a b c v : Int32}
theorem zy_alarm (he : e < 2) (h : post (zz_al (st e) (ss e) (say e) (way e) (hd e) nw lf rt)) : wpY_alarm post (w, lf, rt, sr, nw, st, ic, pr, wr, ak, nx, li, pc, hd, tk, en, td, ss, say, way, sh, wh, ow, oby, iby, scy, sny, spy, hly, kd, so, bo, fr, tt, poy, lny, sky, edy, bay, may, fiy, sby) (nI e) := by
  have ve : vp_in (nI e) 2 := vp_in_nI he (by decide)
  have ce : (nI e).toNatClampNeg = e := nI_clamp (by omega)
  unfold wpY_alarm
  simp only [ce]
  unfold zz_al at h
  refine ⟨ve, ?_⟩
  by_cases h0 : st e = 0
  · rw [if_pos h0] at h; exact br_t h0 h
  rw [if_neg h0] at h
  refine br_f h0 ⟨ve, ?_⟩
  by_cases h1 : st e = 1
  · rw [if_pos h1] at h; exact br_t h1 h
  rw [if_neg h1] at h
  refine br_f h1 ⟨ve, ?_⟩
  by_cases h9 : st e = 9
  · rw [if_pos h9] at h; exact br_t h9 ⟨ve, h⟩
  rw [if_neg h9] at h
  refine br_f h9 ⟨ve, ?_⟩
  by_cases h5 : st e < 5
  · rw [if_pos h5] at h
    refine br_t h5 ⟨ve, ?_⟩
    by_cases z : ss e = 0
    · rw [if_pos z] at h; exact br_t z h
    · rw [if_neg z] at h
      exact br_f z ⟨ve, ve, zy_min (nm_e (zy_max h))⟩
  · rw [if_neg h5] at h
    exact br_f h5 ⟨ve, zy_max h⟩
theorem zy_due {N : Nat} (he : e < 2) (hN : nx e = nI N) (bN : N ≤ 121) (hz : ∀ p, 121 ≤ p → rY spy e p = 0)
    (h : post (zz_du (st e) (zz_sd (ss e) (say e) nw rt) (zz_ff (zz_st nw rt (ak e) (nx e) (rY spy e) (rY sny e) (rY scy e)) 160 0) (zz_nl (wr e) (nx e) (li e) (pc e))
      (zz_nf (sh e) (nx e) (zz_nl (wr e) (nx e) (li e) (pc e)) (wr e) (pc e)) (zz_pd (nx e) (ak e) (wr e) (li e) (pc e) nw (hd e) rt) (ow e))) :
    wpY_due post (w, lf, rt, sr, nw, st, ic, pr, wr, ak, nx, li, pc, hd, tk, en, td, ss, say, way, sh, wh, ow, oby, iby, scy, sny, spy, hly, kd, so, bo, fr, tt, poy, lny, sky, edy, bay, may, fiy, sby) (nI e) := by
  have ve : vp_in (nI e) 2 := vp_in_nI he (by decide)
  have ce : (nI e).toNatClampNeg = e := nI_clamp (by omega)
  unfold wpY_due
  simp only [ce]
  unfold zz_du at h
  refine zy_good he (br_f (by decide) ⟨ve, ?_⟩)
  by_cases h0 : st e = 0
  · rw [if_pos h0] at h; exact br_t h0 h
  rw [if_neg h0] at h
  refine br_f h0 ⟨ve, ?_⟩
  by_cases h1 : st e = 1
  · rw [if_pos h1] at h; exact br_t h1 h
  rw [if_neg h1] at h
  refine br_f h1 ⟨ve, ?_⟩
  by_cases h5 : st e < 5
  · rw [if_pos h5] at h
    refine br_f (Int32.not_le.mpr h5) ⟨ve, ?_⟩
    have K : ¬ zz_sd (ss e) (say e) nw rt = 0 → wY_due_83 post (nI e) w lf rt sr nw st ic pr wr ak nx li pc hd tk en td ss say way sh wh ow oby iby scy sny spy hly kd so bo fr tt poy lny sky edy bay may fiy sby := fun z => by
      unfold wY_due_83
      rw [ce]
      rw [if_neg z] at h
      exact ⟨ve, zz_ite (P := post) h⟩
    by_cases z : ss e = 0
    · refine br_t z (K ?_)
      rw [zz_sd, if_pos z]; decide
    · refine br_f z ⟨ve, ve, zy_min ?_⟩
      by_cases z2 : nw - say e < rt * zz_mn (ss e) 4
      · refine br_f (Int32.not_le.mpr z2) ?_
        rw [zz_sd, if_neg z, if_pos z2, if_pos rfl] at h
        exact h
      · refine br_t (Int32.not_lt.mp z2) (K ?_)
        rw [zz_sd, if_neg z, if_neg z2]; decide
  · rw [if_neg h5] at h
    refine br_t (Int32.not_lt.mp h5) (zy_first he hN bN hz ?_)
    have bF := (zz_ff_p (zz_st nw rt (ak e) (nx e) (rY spy e) (rY sny e) (rY scy e)) 160 0 rfl).2.1
    generalize zz_ff _ 160 0 = F at h bF ⊢
    unfold zz_dc at h
    by_cases k1 : F < 160
    · rw [if_pos k1] at h
      exact br_f (nI_ge (a := F) (b := 160) k1 (by decide)) h
    rw [if_neg k1] at h
    refine br_t (nI_le (a := 160) (by omega) (by omega)) (zy_newLen he ?_)
    by_cases k2 : 0 < zz_nl (wr e) (nx e) (li e) (pc e)
    · rw [if_pos k2] at h; exact br_t k2 h
    rw [if_neg k2] at h
    refine br_f k2 (zy_newFin he ?_)
    generalize zz_nf (sh e) (nx e) _ (wr e) (pc e) = n at h ⊢
    by_cases k3 : n = 0
    · rw [if_pos k3] at h
      refine br_t k3 ⟨ve, ve, ?_⟩
      have KO : zz_pd (nx e) (ak e) (wr e) (li e) (pc e) nw (hd e) rt = 0 → wY_due_216 post (nI e) w lf rt sr nw st ic pr wr ak nx li pc hd tk en td ss say way sh wh ow oby iby scy sny spy hly kd so bo fr tt poy lny sky edy bay may fiy sby := fun z => by
        unfold wY_due_216
        rw [ce]
        rw [if_pos z] at h
        exact ⟨ve, zz_ite (P := post) h⟩
      have K0 : zz_pd (nx e) (ak e) (wr e) (li e) (pc e) nw (hd e) rt = 0 → wY_due_179 post (nI e) w lf rt sr nw st ic pr wr ak nx li pc hd tk en td ss say way sh wh ow oby iby scy sny spy hly kd so bo fr tt poy lny sky edy bay may fiy sby := fun z => br_t rfl (KO z)
      by_cases l1 : ak e = nx e
      · refine br_t l1 ⟨ve, ve, ?_⟩
        by_cases l2 : wr e ≤ nx e
        · exact br_t l2 (K0 (by rw [zz_pd, if_pos l1, if_pos l2]))
        refine br_f l2 ⟨ve, ve, ?_⟩
        by_cases l3 : nx e < li e
        · exact br_t l3 (K0 (by rw [zz_pd, if_pos l1, if_neg l2, if_neg (Int32.not_le.mpr l3)]))
        refine br_f l3 (br_f (by decide) ⟨ve, ?_⟩)
        rw [ce]
        by_cases l4 : 6 ≤ pc e
        · exact br_t l4 (KO (by rw [zz_pd, if_pos l1, if_neg l2, if_pos (Int32.not_lt.mp l3), if_pos l4]))
        refine br_f l4 ⟨ve, ?_⟩
        by_cases l5 : nw - hd e < rt
        · exact br_t l5 (KO (by rw [zz_pd, if_pos l1, if_neg l2, if_pos (Int32.not_lt.mp l3), if_neg l4, if_pos l5]))
        · refine br_f l5 ?_
          have z : ¬ zz_pd (nx e) (ak e) (wr e) (li e) (pc e) nw (hd e) rt = 0 := by
            rw [zz_pd, if_pos l1, if_neg l2, if_pos (Int32.not_lt.mp l3), if_neg l4, if_neg l5]; decide
          rw [if_neg z] at h
          exact h
      · exact br_f l1 (K0 (by rw [zz_pd, if_neg l1]))
    · rw [if_neg k3] at h
      exact br_f k3 h
theorem zy_room (he : e < 2) (h : post (zz_rm (st e) (wr e) (ak e))) : wpY_view post (w, lf, rt, sr, nw, st, ic, pr, wr, ak, nx, li, pc, hd, tk, en, td, ss, say, way, sh, wh, ow, oby, iby, scy, sny, spy, hly, kd, so, bo, fr, tt, poy, lny, sky, edy, bay, may, fiy, sby) (nI e) 3 := by
  have ve : vp_in (nI e) 2 := vp_in_nI he (by decide)
  have ce : (nI e).toNatClampNeg = e := nI_clamp (by omega)
  have K : post (zz_mn (16 - (wr e - ak e)) (120 - wr e)) → wY_view_84 post (nI e) w lf rt sr nw st ic pr wr ak nx li pc hd tk en td ss say way sh wh ow oby iby scy sny spy hly kd so bo fr tt poy lny sky edy bay may fiy sby := fun z => by
    unfold wY_view_84
    rw [ce]
    exact ⟨ve, ve, ve, zy_min z⟩
  unfold zz_rm at h
  unfold wpY_view
  simp only [ce]
  refine zy_good he (br_f (by decide) (br_f (by decide) (br_t (by decide) (br_f (by decide) (br_f (by decide) (br_f (by decide) ((br_t trivial ⟨ve, ?_⟩))))))))
  by_cases h1 : st e = 5
  · rw [if_pos h1] at h
    exact br_t h1 (K h)
  · rw [if_neg h1] at h
    refine br_f h1 ⟨ve, ?_⟩
    by_cases h2 : st e = 10
    · rw [if_pos h2] at h
      exact br_t h2 (K h)
    · rw [if_neg h2] at h
      exact br_f h2 h
end
section
variable {k : Nat} {w lf rt sr nw : Int32} {st ic pr ss sa wa wr sh ak nx li pc hd go tk en wh ow td ob sp sc sn ib hl kd so bo fr tt po ln fi sk ed ba ma sb say way oby iby scy sny spy hly poy lny sky edy bay may fiy sby : Nat → Int32}
theorem zm_state (HE : zHE st ss sa say wa way wr ak nx tk go ob oby sp spy sc scy sn sny ib iby hl hly) (HS : zHS kd so po poy ln lny fi fiy sk sky ed edy ba bay ma may sb sby) (v1 : Int32) : wpX_state (fun r => wpY_state (fun r' => r' = r ∧ i_Rel (k + 4) (w, lf, rt, sr, nw, st, ic, pr, ss, sa, wa, wr, sh, ak, nx, li, pc, hd, go, tk, en, wh, ow, td, ob, sp, sc, sn, ib, hl, kd, so, bo, fr, tt, po, ln, fi, sk, ed, ba, ma, sb) (w, lf, rt, sr, nw, st, ic, pr, wr, ak, nx, li, pc, hd, tk, en, td, ss, say, way, sh, wh, ow, oby, iby, scy, sny, spy, hly, kd, so, bo, fr, tt, poy, lny, sky, edy, bay, may, fiy, sby)) (w, lf, rt, sr, nw, st, ic, pr, wr, ak, nx, li, pc, hd, tk, en, td, ss, say, way, sh, wh, ow, oby, iby, scy, sny, spy, hly, kd, so, bo, fr, tt, poy, lny, sky, edy, bay, may, fiy, sby) v1) (w, lf, rt, sr, nw, st, ic, pr, ss, sa, wa, wr, sh, ak, nx, li, pc, hd, go, tk, en, wh, ow, td, ob, sp, sc, sn, ib, hl, kd, so, bo, fr, tt, po, ln, fi, sk, ed, ba, ma, sb) v1 := by
  unfold wpX_state wpY_state
  dsimp only
  rcases zz_end v1 with ⟨e, he, rfl⟩ | ⟨n0, n1⟩
  · have ve : vp_in (nI e) 2 := vp_in_nI he (by decide)
    exact zx_isEnd he (br_f (by decide) ⟨ve, zy_good he (br_f (by decide) ⟨ve, rfl, zz_in HE HS⟩)⟩)
  · exact zx_isEnd0 n0 n1 (br_t rfl (zy_good0 n0 n1 (br_t rfl ⟨rfl, zz_in HE HS⟩)))
theorem zm_due (HE : zHE st ss sa say wa way wr ak nx tk go ob oby sp spy sc scy sn sny ib iby hl hly) (HS : zHS kd so po poy ln lny fi fiy sk sky ed edy ba bay ma may sb sby) (v1 : Int32) : wpX_due (fun r => wpY_due (fun r' => r' = r ∧ i_Rel (k + 4) (w, lf, rt, sr, nw, st, ic, pr, ss, sa, wa, wr, sh, ak, nx, li, pc, hd, go, tk, en, wh, ow, td, ob, sp, sc, sn, ib, hl, kd, so, bo, fr, tt, po, ln, fi, sk, ed, ba, ma, sb) (w, lf, rt, sr, nw, st, ic, pr, wr, ak, nx, li, pc, hd, tk, en, td, ss, say, way, sh, wh, ow, oby, iby, scy, sny, spy, hly, kd, so, bo, fr, tt, poy, lny, sky, edy, bay, may, fiy, sby)) (w, lf, rt, sr, nw, st, ic, pr, wr, ak, nx, li, pc, hd, tk, en, td, ss, say, way, sh, wh, ow, oby, iby, scy, sny, spy, hly, kd, so, bo, fr, tt, poy, lny, sky, edy, bay, may, fiy, sby) v1) (w, lf, rt, sr, nw, st, ic, pr, ss, sa, wa, wr, sh, ak, nx, li, pc, hd, go, tk, en, wh, ow, td, ob, sp, sc, sn, ib, hl, kd, so, bo, fr, tt, po, ln, fi, sk, ed, ba, ma, sb) v1 := by
  unfold wpX_due
  dsimp only
  rcases zz_end v1 with ⟨e, he, rfl⟩ | ⟨n0, n1⟩
  · obtain ⟨S, W, A, N, T, G, ⟨hS, hW, hA, hN, hT, hG⟩, ⟨bS, bW, bA, bN, bT, bG⟩, ⟨hsy, hwa⟩, ⟨rsp, rsc, rhl⟩, hsn, hob, hib, hg1, hg0, hhb⟩ := HE e he
    refine zx_isEnd he (br_f (by decide) (zx_due he hS bS hA bA hN (by omega) (zy_due he hN (by omega) ?_ ⟨?_, zz_in HE HS⟩)))
    · rw [rsp]; exact fun p hp => rX_h hp
    · rw [rsp, rsc, zz_st_e hN (by omega) hsn, zz_sd_e hsy]
  · unfold wpY_due
    dsimp only
    exact zx_isEnd0 n0 n1 (br_t rfl (zy_good0 n0 n1 (br_t rfl ⟨rfl, zz_in HE HS⟩)))
end
end
section
section
variable {k : Nat} {w lf rt sr nw : Int32} {st ic pr ss sa wa wr sh ak nx li pc hd go tk en wh ow td ob sp sc sn ib hl kd so bo fr tt po ln fi sk ed ba ma sb say way oby iby scy sny spy hly poy lny sky edy bay may fiy sby : Nat → Int32}
theorem zm_view_in (HE : zHE st ss sa say wa way wr ak nx tk go ob oby sp spy sc scy sn sny ib iby hl hly) (HS : zHS kd so po poy ln lny fi fiy sk sky ed edy ba bay ma may sb sby) {e : Nat} (he : e < 2) {j : Nat} (hj : j ≤ 15) : wpX_view (fun r => wpY_view (fun r' => r' = r ∧ i_Rel (k + 4) (w, lf, rt, sr, nw, st, ic, pr, ss, sa, wa, wr, sh, ak, nx, li, pc, hd, go, tk, en, wh, ow, td, ob, sp, sc, sn, ib, hl, kd, so, bo, fr, tt, po, ln, fi, sk, ed, ba, ma, sb) (w, lf, rt, sr, nw, st, ic, pr, wr, ak, nx, li, pc, hd, tk, en, td, ss, say, way, sh, wh, ow, oby, iby, scy, sny, spy, hly, kd, so, bo, fr, tt, poy, lny, sky, edy, bay, may, fiy, sby)) (w, lf, rt, sr, nw, st, ic, pr, wr, ak, nx, li, pc, hd, tk, en, td, ss, say, way, sh, wh, ow, oby, iby, scy, sny, spy, hly, kd, so, bo, fr, tt, poy, lny, sky, edy, bay, may, fiy, sby) (nI e) (nI j)) (w, lf, rt, sr, nw, st, ic, pr, ss, sa, wa, wr, sh, ak, nx, li, pc, hd, go, tk, en, wh, ow, td, ob, sp, sc, sn, ib, hl, kd, so, bo, fr, tt, po, ln, fi, sk, ed, ba, ma, sb) (nI e) (nI j) := by
  have ve : vp_in (nI e) 2 := vp_in_nI he (by decide)
  have ce : (nI e).toNatClampNeg = e := nI_clamp (by omega)
  obtain ⟨S, W, A, N, T, G, ⟨hS, hW, hA, hN, hT, hG⟩, ⟨bS, bW, bA, bN, bT, bG⟩, ⟨hsy, hwa⟩, ⟨rsp, rsc, rhl⟩, hsn, hob, hib, hg1, hg0, hhb⟩ := HE e he
  have g1 : ∀ q, q < G → ¬ rY hly e q = 0 := by rw [rhl]; exact hg1
  have g0 : rY hly e G = 0 := by rw [rhl]; exact hg0
  have R : i_Rel (k + 4) (w, lf, rt, sr, nw, st, ic, pr, ss, sa, wa, wr, sh, ak, nx, li, pc, hd, go, tk, en, wh, ow, td, ob, sp, sc, sn, ib, hl, kd, so, bo, fr, tt, po, ln, fi, sk, ed, ba, ma, sb) (w, lf, rt, sr, nw, st, ic, pr, wr, ak, nx, li, pc, hd, tk, en, td, ss, say, way, sh, wh, ow, oby, iby, scy, sny, spy, hly, kd, so, bo, fr, tt, poy, lny, sky, edy, bay, may, fiy, sby) := zz_in HE HS
  have hj' : j = 0 ∨ j = 1 ∨ j = 2 ∨ j = 3 ∨ j = 4 ∨ j = 5 ∨ j = 6 ∨ j = 7 ∨ j = 8 ∨ j = 9 ∨ j = 10 ∨ j = 11 ∨ j = 12 ∨ j = 13 ∨ j = 14 ∨ j = 15 := by omega
  unfold wpX_view
  simp only [ce]
  refine zx_isEnd he (br_f (by decide) ?_)
  rcases hj' with rfl | rfl | rfl | rfl | rfl | rfl | rfl | rfl | rfl | rfl | rfl | rfl | rfl | rfl | rfl | rfl
  · refine br_f (by decide) (br_f (by decide) ((br_t (by trivial) (⟨ve, ?_⟩))))
    unfold wpY_view; simp only [ce]
    exact zy_good he (br_f (by decide) (br_f (by decide) (br_t (by decide) ((br_t (by trivial) (⟨ve, by trivial, R⟩))))))
  · refine br_f (by decide) (br_f (by decide) (br_f (by decide) ((br_t (by trivial) (⟨ve, ?_⟩)))))
    unfold wpY_view; simp only [ce]
    exact zy_good he (br_f (by decide) (br_f (by decide) (br_t (by decide) (br_f (by decide) ((br_t (by trivial) (⟨ve, by trivial, R⟩)))))))
  · refine br_f (by decide) (br_f (by decide) (br_f (by decide) (br_f (by decide) ((br_t (by trivial) (⟨ve, ?_⟩))))))
    unfold wpY_view; simp only [ce]
    exact zy_good he (br_f (by decide) (br_f (by decide) (br_t (by decide) (br_f (by decide) (br_f (by decide) ((br_t (by trivial) (⟨ve, by trivial, R⟩))))))))
  · exact br_f (by decide) (br_f (by decide) (br_f (by decide) (br_f (by decide) (br_f (by decide) ((br_t (by trivial) (zx_room he (zy_room he ⟨by trivial, R⟩))))))))
  · refine br_f (by decide) (br_f (by decide) (br_f (by decide) (br_f (by decide) (br_f (by decide) (br_f (by decide) ((br_t (by trivial) (⟨ve, ?_⟩))))))))
    unfold wpY_view; simp only [ce]
    exact zy_good he (br_f (by decide) (br_f (by decide) (br_t (by decide) (br_f (by decide) (br_f (by decide) (br_f (by decide) (br_f (by decide) ((br_t (by trivial) (⟨ve, by trivial, R⟩))))))))))
  · refine br_f (by decide) (br_f (by decide) (br_f (by decide) (br_f (by decide) (br_f (by decide) (br_f (by decide) (br_f (by decide) ((br_t (by trivial) (⟨ve, ve, ?_⟩)))))))))
    unfold wpY_view; simp only [ce]
    exact zy_good he (br_f (by decide) (br_f (by decide) (br_t (by decide) (br_f (by decide) (br_f (by decide) (br_f (by decide) (br_f (by decide) (br_f (by decide) ((br_t (by trivial) (⟨ve, ve, by trivial, R⟩)))))))))))
  · refine br_f (by decide) (br_f (by decide) (br_f (by decide) (br_f (by decide) (br_f (by decide) (br_f (by decide) (br_f (by decide) (br_f (by decide) ((br_t (by trivial) (⟨ve, ve, ?_⟩))))))))))
    unfold wpY_view; simp only [ce]
    exact zy_good he (br_f (by decide) (br_f (by decide) (br_t (by decide) (br_f (by decide) (br_f (by decide) (br_f (by decide) (br_f (by decide) (br_f (by decide) (br_f (by decide) ((br_t (by trivial) (⟨ve, ve, by trivial, R⟩))))))))))))
  · refine br_f (by decide) (br_f (by decide) (br_f (by decide) (br_f (by decide) (br_f (by decide) (br_f (by decide) (br_f (by decide) (br_f (by decide) (br_f (by decide) ((br_t (by trivial) (⟨ve, ?_⟩)))))))))))
    unfold wpY_view; simp only [ce]
    exact zy_good he (br_f (by decide) (br_f (by decide) (br_t (by decide) (br_f (by decide) (br_f (by decide) (br_f (by decide) (br_f (by decide) (br_f (by decide) (br_f (by decide) (br_f (by decide) ((br_t (by trivial) (⟨ve, by trivial, R⟩)))))))))))))
  · refine br_f (by decide) (br_f (by decide) (br_f (by decide) (br_f (by decide) (br_f (by decide) (br_f (by decide) (br_f (by decide) (br_f (by decide) (br_f (by decide) (br_f (by decide) ((br_t (by trivial) (⟨ve, ?_⟩))))))))))))
    unfold wpY_view; simp only [ce]
    exact zy_good he (br_f (by decide) (br_f (by decide) (br_t (by decide) (br_f (by decide) (br_f (by decide) (br_f (by decide) (br_f (by decide) (br_f (by decide) (br_f (by decide) (br_f (by decide) (br_f (by decide) ((br_t (by trivial) (⟨ve, by trivial, R⟩))))))))))))))
  · refine br_f (by decide) (br_f (by decide) (br_f (by decide) (br_f (by decide) (br_f (by decide) (br_f (by decide) (br_f (by decide) (br_f (by decide) (br_f (by decide) (br_f (by decide) (br_f (by decide) ((br_t (by trivial) (⟨ve, ve, ?_⟩)))))))))))))
    unfold wpY_view; simp only [ce]
    exact zy_good he (br_f (by decide) (br_f (by decide) (br_t (by decide) (br_f (by decide) (br_f (by decide) (br_f (by decide) (br_f (by decide) (br_f (by decide) (br_f (by decide) (br_f (by decide) (br_f (by decide) (br_f (by decide) ((br_t (by trivial) (zy_got he g1 g0 bG ⟨ve, by rw [hG], R⟩)))))))))))))))
  · refine br_f (by decide) (br_f (by decide) (br_f (by decide) (br_f (by decide) (br_f (by decide) (br_f (by decide) (br_f (by decide) (br_f (by decide) (br_f (by decide) (br_f (by decide) (br_f (by decide) (br_f (by decide) ((br_t (by trivial) (zx_mask he hhb hG bG ?_))))))))))))))
    unfold wpY_view; simp only [ce]
    exact zy_good he (br_f (by decide) (br_f (by decide) (br_t (by decide) (br_f (by decide) (br_f (by decide) (br_f (by decide) (br_f (by decide) (br_f (by decide) (br_f (by decide) (br_f (by decide) (br_f (by decide) (br_f (by decide) (br_f (by decide) ((br_t (by trivial) (zy_gaps he g1 g0 bG ⟨by rw [rhl], R⟩))))))))))))))))
  · refine br_f (by decide) (br_f (by decide) (br_f (by decide) (br_f (by decide) (br_f (by decide) (br_f (by decide) (br_f (by decide) (br_f (by decide) (br_f (by decide) (br_f (by decide) (br_f (by decide) (br_f (by decide) (br_f (by decide) ((br_t (by trivial) (⟨ve, br_c (fun h => ?_) (fun h => ⟨ve, ve, ?_⟩)⟩)))))))))))))))
    · unfold wpY_view; simp only [ce]
      exact zy_good he (br_f (by decide) (br_f (by decide) (br_t (by decide) (br_f (by decide) (br_f (by decide) (br_f (by decide) (br_f (by decide) (br_f (by decide) (br_f (by decide) (br_f (by decide) (br_f (by decide) (br_f (by decide) (br_f (by decide) (br_f (by decide) ((br_t (by trivial) (⟨ve, br_t h ⟨by trivial, R⟩⟩)))))))))))))))))
    · unfold wpY_view; simp only [ce]
      exact zy_good he (br_f (by decide) (br_f (by decide) (br_t (by decide) (br_f (by decide) (br_f (by decide) (br_f (by decide) (br_f (by decide) (br_f (by decide) (br_f (by decide) (br_f (by decide) (br_f (by decide) (br_f (by decide) (br_f (by decide) (br_f (by decide) ((br_t (by trivial) (⟨ve, br_f h ⟨ve, zy_got he g1 g0 bG ⟨by rw [hG], R⟩⟩⟩)))))))))))))))))
  · refine br_f (by decide) (br_f (by decide) (br_f (by decide) (br_f (by decide) (br_f (by decide) (br_f (by decide) (br_f (by decide) (br_f (by decide) (br_f (by decide) (br_f (by decide) (br_f (by decide) (br_f (by decide) (br_f (by decide) (br_f (by decide) ((br_t (by trivial) (⟨ve, ve, ?_⟩))))))))))))))))
    unfold wpY_view; simp only [ce]
    exact zy_good he (br_f (by decide) (br_f (by decide) (br_t (by decide) (br_f (by decide) (br_f (by decide) (br_f (by decide) (br_f (by decide) (br_f (by decide) (br_f (by decide) (br_f (by decide) (br_f (by decide) (br_f (by decide) (br_f (by decide) (br_f (by decide) (br_f (by decide) ((br_t (by trivial) (⟨ve, zy_got he g1 g0 bG ⟨by rw [hG], R⟩⟩))))))))))))))))))
  · refine br_f (by decide) (br_f (by decide) (br_f (by decide) (br_f (by decide) (br_f (by decide) (br_f (by decide) (br_f (by decide) (br_f (by decide) (br_f (by decide) (br_f (by decide) (br_f (by decide) (br_f (by decide) (br_f (by decide) (br_f (by decide) (br_f (by decide) ((br_t (by trivial) (zx_conn he (fun h => br_f (by decide) ⟨ve, br_c (fun h2 => ?_) (fun h2 => ?_)⟩) (fun h => br_t (by trivial) ?_))))))))))))))))))
    · unfold wpY_view; simp only [ce]
      exact zy_good he (br_f (by decide) (br_f (by decide) (br_t (by decide) (br_f (by decide) (br_f (by decide) (br_f (by decide) (br_f (by decide) (br_f (by decide) (br_f (by decide) (br_f (by decide) (br_f (by decide) (br_f (by decide) (br_f (by decide) (br_f (by decide) (br_f (by decide) (br_f (by decide) ((br_t (by trivial) (⟨ve, br_f h ⟨ve, br_t h2 ⟨by trivial, R⟩⟩⟩)))))))))))))))))))
    · unfold wpY_view; simp only [ce]
      exact zy_good he (br_f (by decide) (br_f (by decide) (br_t (by decide) (br_f (by decide) (br_f (by decide) (br_f (by decide) (br_f (by decide) (br_f (by decide) (br_f (by decide) (br_f (by decide) (br_f (by decide) (br_f (by decide) (br_f (by decide) (br_f (by decide) (br_f (by decide) (br_f (by decide) ((br_t (by trivial) (⟨ve, br_f h ⟨ve, br_f h2 ⟨by trivial, R⟩⟩⟩)))))))))))))))))))
    · unfold wpY_view; simp only [ce]
      exact zy_good he (br_f (by decide) (br_f (by decide) (br_t (by decide) (br_f (by decide) (br_f (by decide) (br_f (by decide) (br_f (by decide) (br_f (by decide) (br_f (by decide) (br_f (by decide) (br_f (by decide) (br_f (by decide) (br_f (by decide) (br_f (by decide) (br_f (by decide) (br_f (by decide) ((br_t (by trivial) (⟨ve, br_t h ⟨by trivial, R⟩⟩)))))))))))))))))))
  · refine br_f (by decide) (br_f (by decide) (br_f (by decide) (br_f (by decide) (br_f (by decide) (br_f (by decide) (br_f (by decide) (br_f (by decide) (br_f (by decide) (br_f (by decide) (br_f (by decide) (br_f (by decide) (br_f (by decide) (br_f (by decide) (br_f (by decide) (br_f (by decide) ((br_t (by trivial) (zx_alarm he hS bS ?_))))))))))))))))))
    unfold wpY_view; simp only [ce]
    exact zy_good he (br_f (by decide) (br_f (by decide) (br_t (by decide) (br_f (by decide) (br_f (by decide) (br_f (by decide) (br_f (by decide) (br_f (by decide) (br_f (by decide) (br_f (by decide) (br_f (by decide) (br_f (by decide) (br_f (by decide) (br_f (by decide) (br_f (by decide) (br_f (by decide) (br_f (by decide) ((br_t (by trivial) (zy_alarm he ⟨zz_al_e hsy hwa, R⟩))))))))))))))))))))
  · refine br_f (by decide) (br_f (by decide) (br_f (by decide) (br_f (by decide) (br_f (by decide) (br_f (by decide) (br_f (by decide) (br_f (by decide) (br_f (by decide) (br_f (by decide) (br_f (by decide) (br_f (by decide) (br_f (by decide) (br_f (by decide) (br_f (by decide) (br_f (by decide) (br_f (by decide) ((br_t (by trivial) (⟨ve, ?_⟩)))))))))))))))))))
    unfold wpY_view; simp only [ce]
    exact zy_good he (br_f (by decide) (br_f (by decide) (br_t (by decide) (br_f (by decide) (br_f (by decide) (br_f (by decide) (br_f (by decide) (br_f (by decide) (br_f (by decide) (br_f (by decide) (br_f (by decide) (br_f (by decide) (br_f (by decide) (br_f (by decide) (br_f (by decide) (br_f (by decide) (br_f (by decide) (br_f (by decide) ((⟨ve, by trivial, R⟩))))))))))))))))))))
theorem zm_view (HE : zHE st ss sa say wa way wr ak nx tk go ob oby sp spy sc scy sn sny ib iby hl hly) (HS : zHS kd so po poy ln lny fi fiy sk sky ed edy ba bay ma may sb sby) (v1 v2 : Int32) : wpX_view (fun r => wpY_view (fun r' => r' = r ∧ i_Rel (k + 4) (w, lf, rt, sr, nw, st, ic, pr, ss, sa, wa, wr, sh, ak, nx, li, pc, hd, go, tk, en, wh, ow, td, ob, sp, sc, sn, ib, hl, kd, so, bo, fr, tt, po, ln, fi, sk, ed, ba, ma, sb) (w, lf, rt, sr, nw, st, ic, pr, wr, ak, nx, li, pc, hd, tk, en, td, ss, say, way, sh, wh, ow, oby, iby, scy, sny, spy, hly, kd, so, bo, fr, tt, poy, lny, sky, edy, bay, may, fiy, sby)) (w, lf, rt, sr, nw, st, ic, pr, wr, ak, nx, li, pc, hd, tk, en, td, ss, say, way, sh, wh, ow, oby, iby, scy, sny, spy, hly, kd, so, bo, fr, tt, poy, lny, sky, edy, bay, may, fiy, sby) v1 v2) (w, lf, rt, sr, nw, st, ic, pr, ss, sa, wa, wr, sh, ak, nx, li, pc, hd, go, tk, en, wh, ow, td, ob, sp, sc, sn, ib, hl, kd, so, bo, fr, tt, po, ln, fi, sk, ed, ba, ma, sb) v1 v2 := by
  rcases zz_end v1 with ⟨e, he, rfl⟩ | ⟨n0, n1⟩
  · by_cases h0 : v2 < 0
    · unfold wpX_view wpY_view
      dsimp only
      exact zx_isEnd he (br_f (by decide) (br_t h0 (zy_good he (br_f (by decide) (br_t h0 ⟨by trivial, zz_in HE HS⟩)))))
    · by_cases h1 : 15 < v2
      · unfold wpX_view wpY_view
        dsimp only
        exact zx_isEnd he (br_f (by decide) (br_f h0 (br_t h1 (zy_good he (br_f (by decide) (br_f h0 (br_f (Int32.not_le.mpr h1) ⟨by trivial, zz_in HE HS⟩)))))))
      · obtain ⟨j, hj, rfl⟩ := nI_of2 (M := 15) (n := 15) (by decide) h0 (Int32.not_lt.mp h1)
        exact zm_view_in HE HS he hj
  · unfold wpX_view wpY_view
    dsimp only
    exact zx_isEnd0 n0 n1 (br_t (by trivial) (zy_good0 n0 n1 (br_t (by trivial) ⟨by trivial, zz_in HE HS⟩)))
theorem zm_sends (HE : zHE st ss sa say wa way wr ak nx tk go ob oby sp spy sc scy sn sny ib iby hl hly) (HS : zHS kd so po poy ln lny fi fiy sk sky ed edy ba bay ma may sb sby) (v1 v2 : Int32) : wpX_sends (fun r => wpY_sends (fun r' => r' = r ∧ i_Rel (k + 4) (w, lf, rt, sr, nw, st, ic, pr, ss, sa, wa, wr, sh, ak, nx, li, pc, hd, go, tk, en, wh, ow, td, ob, sp, sc, sn, ib, hl, kd, so, bo, fr, tt, po, ln, fi, sk, ed, ba, ma, sb) (w, lf, rt, sr, nw, st, ic, pr, wr, ak, nx, li, pc, hd, tk, en, td, ss, say, way, sh, wh, ow, oby, iby, scy, sny, spy, hly, kd, so, bo, fr, tt, poy, lny, sky, edy, bay, may, fiy, sby)) (w, lf, rt, sr, nw, st, ic, pr, wr, ak, nx, li, pc, hd, tk, en, td, ss, say, way, sh, wh, ow, oby, iby, scy, sny, spy, hly, kd, so, bo, fr, tt, poy, lny, sky, edy, bay, may, fiy, sby) v1 v2) (w, lf, rt, sr, nw, st, ic, pr, ss, sa, wa, wr, sh, ak, nx, li, pc, hd, go, tk, en, wh, ow, td, ob, sp, sc, sn, ib, hl, kd, so, bo, fr, tt, po, ln, fi, sk, ed, ba, ma, sb) v1 v2 := by
  unfold wpX_sends wpX_isInFlight wpY_sends
  dsimp only
  rcases zz_end v1 with ⟨e, he, rfl⟩ | ⟨n0, n1⟩
  · have ve : vp_in (nI e) 2 := vp_in_nI he (by decide)
    have ce : (nI e).toNatClampNeg = e := nI_clamp (by omega)
    simp only [ce]
    obtain ⟨S, W, A, N, T, G, ⟨hS, hW, hA, hN, hT, hG⟩, ⟨bS, bW, bA, bN, bT, bG⟩, ⟨hsy, hwa⟩, ⟨rsp, rsc, rhl⟩, hsn, hob, hib, hg1, hg0, hhb⟩ := HE e he
    refine zx_isEnd he (br_f (by decide) ?_)
    by_cases h0 : v2 < 0
    · exact br_t h0 (br_t (by trivial) (zy_good he (br_f (by decide) (br_t h0 ⟨by trivial, zz_in HE HS⟩))))
    · refine br_f h0 ⟨ve, ve, ?_⟩
      by_cases h1 : v2 < nx e - ak e
      · refine br_t h1 ⟨ve, ?_⟩
        have h2 := h1
        rw [hN, hA] at h2
        obtain ⟨j, rfl, hj⟩ := zz_fl bA (by omega) h0 h2
        have ea : ak e + nI j = nI (A + j) := by rw [hA, nI_add]
        have ei : nI e * 160 + ak e + nI j = nI (e * 160 + (A + j)) := by
          rw [hA, zz_i160, nI_add]
          exact congrArg nI (by omega)
        rw [ea]
        refine zx_pos1 (by omega) ⟨by trivial, br_f (by decide) ⟨ve, ?_⟩⟩
        refine zx_cell ⟨vp_in_nI (by omega) (by decide), ?_⟩
        rw [nI_clamp (by omega)]
        refine zy_good he (br_f (by decide) (br_f h0 ⟨ve, ve, br_t h1 ⟨ve, ?_⟩⟩))
        rw [ei]
        refine ⟨vp_in_nI (by omega) (by decide), ?_, zz_in HE HS⟩
        rw [nI_clamp (by omega), ← rY_g (a := scy) (by omega), rsc, rX_g (by omega)]
      · exact br_f h1 (br_t (by trivial) (zy_good he (br_f (by decide) (br_f h0 ⟨ve, ve, br_f h1 ⟨by trivial, zz_in HE HS⟩⟩))))
  · exact zx_isEnd0 n0 n1 (br_t (by trivial) (br_t (by trivial) (zy_good0 n0 n1 (br_t (by trivial) ⟨by trivial, zz_in HE HS⟩))))
theorem zm_ticksLeft (HE : zHE st ss sa say wa way wr ak nx tk go ob oby sp spy sc scy sn sny ib iby hl hly) (HS : zHS kd so po poy ln lny fi fiy sk sky ed edy ba bay ma may sb sby) (v1 v2 : Int32) : wpX_ticksLeft (fun r => wpY_ticksLeft (fun r' => r' = r ∧ i_Rel (k + 4) (w, lf, rt, sr, nw, st, ic, pr, ss, sa, wa, wr, sh, ak, nx, li, pc, hd, go, tk, en, wh, ow, td, ob, sp, sc, sn, ib, hl, kd, so, bo, fr, tt, po, ln, fi, sk, ed, ba, ma, sb) (w, lf, rt, sr, nw, st, ic, pr, wr, ak, nx, li, pc, hd, tk, en, td, ss, say, way, sh, wh, ow, oby, iby, scy, sny, spy, hly, kd, so, bo, fr, tt, poy, lny, sky, edy, bay, may, fiy, sby)) (w, lf, rt, sr, nw, st, ic, pr, wr, ak, nx, li, pc, hd, tk, en, td, ss, say, way, sh, wh, ow, oby, iby, scy, sny, spy, hly, kd, so, bo, fr, tt, poy, lny, sky, edy, bay, may, fiy, sby) v1 v2) (w, lf, rt, sr, nw, st, ic, pr, ss, sa, wa, wr, sh, ak, nx, li, pc, hd, go, tk, en, wh, ow, td, ob, sp, sc, sn, ib, hl, kd, so, bo, fr, tt, po, ln, fi, sk, ed, ba, ma, sb) v1 v2 := by
  unfold wpX_ticksLeft wpX_isInFlight wpY_ticksLeft
  dsimp only
  rcases zz_end v1 with ⟨e, he, rfl⟩ | ⟨n0, n1⟩
  · have ve : vp_in (nI e) 2 := vp_in_nI he (by decide)
    have ce : (nI e).toNatClampNeg = e := nI_clamp (by omega)
    simp only [ce]
    obtain ⟨S, W, A, N, T, G, ⟨hS, hW, hA, hN, hT, hG⟩, ⟨bS, bW, bA, bN, bT, bG⟩, ⟨hsy, hwa⟩, ⟨rsp, rsc, rhl⟩, hsn, hob, hib, hg1, hg0, hhb⟩ := HE e he
    have hz : ∀ p, 121 ≤ p → rY spy e p = 0 := by rw [rsp]; exact fun p hp => rX_h hp
    refine zx_isEnd he (br_f (by decide) ?_)
    by_cases h0 : v2 < 0
    · exact br_t h0 (br_t (by trivial) (zy_good he (br_f (by decide) (br_t h0 ⟨by trivial, zz_in HE HS⟩))))
    · refine br_f h0 ⟨ve, ve, ?_⟩
      by_cases h1 : v2 < nx e - ak e
      · refine br_t h1 ⟨ve, ?_⟩
        have h2 := h1
        rw [hN, hA] at h2
        obtain ⟨j, rfl, hj⟩ := zz_fl bA (by omega) h0 h2
        have ea : ak e + nI j = nI (A + j) := by rw [hA, nI_add]
        rw [ea]
        have vc : vp_in (nI (e * 121 + (A + j))) 242 := vp_in_nI (by omega) (by decide)
        have vd : vp_in (nI (e * 160 + (A + j))) 320 := vp_in_nI (by omega) (by decide)
        have c1 : (nI (e * 121 + (A + j))).toNatClampNeg = e * 121 + (A + j) := nI_clamp (by omega)
        have c2 : (nI (e * 160 + (A + j))).toNatClampNeg = e * 160 + (A + j) := nI_clamp (by omega)
        have s1 : spy (e * 160 + (A + j)) = sp (e * 121 + (A + j)) := by rw [← rY_g (a := spy) (by omega), rsp, rX_g (by omega)]
        have s2 : scy (e * 160 + (A + j)) = sc (e * 121 + (A + j)) := by rw [← rY_g (a := scy) (by omega), rsc, rX_g (by omega)]
        have s3 : sny (e * 160 + (A + j)) = sn (e * 121 + (A + j)) := by rw [← rY_g (a := sny) (by omega), hsn _ hj, rX_g (by omega)]
        have es : zz_st nw rt (ak e) (nx e) (rY spy e) (rY sny e) (rY scy e) (A + j) = zz_st nw rt (ak e) (nx e) (rX sp e) (rX sn e) (rX sc e) (A + j) := by rw [rsp, rsc, zz_st_e hN (by omega) hsn]
        refine zx_pos1 (by omega) ⟨by trivial, br_f (by decide) ⟨ve, nm_e (zx_cell ⟨vc, ?_⟩)⟩⟩
        rw [c1]
        by_cases z : sp (e * 121 + (A + j)) = 0
        · refine br_t z (zx_stale he (by omega) hN (by omega) ?_)
          by_cases z2 : zz_st nw rt (ak e) (nx e) (rX sp e) (rX sn e) (rX sc e) (A + j) = 0
          · refine br_t z2 ⟨vc, vc, zx_backoff ?_⟩
            refine zy_good he (br_f (by decide) (br_f h0 ⟨ve, ve, br_t h1 ⟨ve, nm_e ?_⟩⟩))
            rw [zz_i160]
            refine ⟨vd, ?_⟩
            rw [c2, s1, s2, s3]
            refine br_t z (zy_stale he (by omega) hN (by omega) hz ?_)
            rw [es]
            exact br_t z2 ⟨vd, vd, zy_min ⟨by trivial, zz_in HE HS⟩⟩
          · refine br_f z2 ?_
            refine zy_good he (br_f (by decide) (br_f h0 ⟨ve, ve, br_t h1 ⟨ve, nm_e ?_⟩⟩))
            rw [zz_i160]
            refine ⟨vd, ?_⟩
            rw [c2, s1]
            refine br_t z (zy_stale he (by omega) hN (by omega) hz ?_)
            rw [es]
            exact br_f z2 ⟨by trivial, zz_in HE HS⟩
        · refine br_f z ?_
          refine zy_good he (br_f (by decide) (br_f h0 ⟨ve, ve, br_t h1 ⟨ve, nm_e ?_⟩⟩))
          rw [zz_i160]
          refine ⟨vd, ?_⟩
          rw [c2, s1]
          exact br_f z ⟨by trivial, zz_in HE HS⟩
      · exact br_f h1 (br_t (by trivial) (zy_good he (br_f (by decide) (br_f h0 ⟨ve, ve, br_f h1 ⟨by trivial, zz_in HE HS⟩⟩))))
  · exact zx_isEnd0 n0 n1 (br_t (by trivial) (br_t (by trivial) (zy_good0 n0 n1 (br_t (by trivial) ⟨by trivial, zz_in HE HS⟩))))
theorem zz_slot (kd : Nat → Int32) (v : Int32) : (∃ s, s < 12 ∧ v = nI s ∧ ¬ kd s = 0) ∨ ¬ ∃ s, s < 12 ∧ v = nI s ∧ ¬ kd s = 0 := Classical.em _
theorem zm_segByte (HE : zHE st ss sa say wa way wr ak nx tk go ob oby sp spy sc scy sn sny ib iby hl hly) (HS : zHS kd so po poy ln lny fi fiy sk sky ed edy ba bay ma may sb sby) (v1 v2 : Int32) : wpX_segByte (fun r => wpY_segByte (fun r' => r' = r ∧ i_Rel (k + 4) (w, lf, rt, sr, nw, st, ic, pr, ss, sa, wa, wr, sh, ak, nx, li, pc, hd, go, tk, en, wh, ow, td, ob, sp, sc, sn, ib, hl, kd, so, bo, fr, tt, po, ln, fi, sk, ed, ba, ma, sb) (w, lf, rt, sr, nw, st, ic, pr, wr, ak, nx, li, pc, hd, tk, en, td, ss, say, way, sh, wh, ow, oby, iby, scy, sny, spy, hly, kd, so, bo, fr, tt, poy, lny, sky, edy, bay, may, fiy, sby)) (w, lf, rt, sr, nw, st, ic, pr, wr, ak, nx, li, pc, hd, tk, en, td, ss, say, way, sh, wh, ow, oby, iby, scy, sny, spy, hly, kd, so, bo, fr, tt, poy, lny, sky, edy, bay, may, fiy, sby) v1 v2) (w, lf, rt, sr, nw, st, ic, pr, ss, sa, wa, wr, sh, ak, nx, li, pc, hd, go, tk, en, wh, ow, td, ob, sp, sc, sn, ib, hl, kd, so, bo, fr, tt, po, ln, fi, sk, ed, ba, ma, sb) v1 v2 := by
  unfold wpX_segByte wpY_segByte
  dsimp only
  rcases zz_slot kd v1 with ⟨s, hs, rfl, hk⟩ | hno
  · have vs : vp_in (nI s) 12 := vp_in_nI hs (by decide)
    have cs : (nI s).toNatClampNeg = s := nI_clamp (by omega)
    simp only [cs]
    refine zx_isSeg hs hk (br_f (by decide) ⟨vs, ?_⟩)
    obtain ⟨_, _, _, hd3⟩ := HS s hs hk
    by_cases h3 : kd s = 3
    · obtain ⟨⟨_, _, eln, _⟩, P, L, K, B, M, ⟨_, hL, _⟩, ⟨bL, _⟩, hby⟩ := hd3 h3
      refine br_t h3 ?_
      by_cases h0 : v2 < 0
      · exact br_t h0 (zy_goodS hs hk (br_f (by decide) ⟨vs, br_t h3 (br_t h0 ⟨by trivial, zz_in HE HS⟩)⟩))
      · refine br_f h0 ⟨vs, ?_⟩
        by_cases h1 : ln s ≤ v2
        · exact br_t h1 (zy_goodS hs hk (br_f (by decide) ⟨vs, br_t h3 (br_f h0 ⟨vs, br_f (by rw [eln]; exact Int32.not_lt.mpr h1) ⟨by trivial, zz_in HE HS⟩⟩)⟩))
        · obtain ⟨j, hj, rfl⟩ := nI_of h0
          have h2 : j < L := by
            rw [hL, nI_leI (by omega) (by omega)] at h1
            omega
          refine br_f h1 (br_t (nI_lt (b := 4) (by omega) (by decide)) ?_)
          have vc : vp_in (nI (s * 4 + j)) 48 := vp_in_nI (by omega) (by decide)
          have c1 : (nI (s * 4 + j)).toNatClampNeg = s * 4 + j := nI_clamp (by omega)
          rw [zz_i4, c1]
          refine ⟨vc, zy_goodS hs hk (br_f (by decide) ⟨vs, br_t h3 (br_f h0 ⟨vs, br_t (by rw [eln]; exact Int32.not_le.mp h1) ?_⟩)⟩)⟩
          refine ⟨vc, ?_, zz_in HE HS⟩
          rw [← rB_g (a := sby) (by omega), hby j h2, rB_g (by omega)]
    · exact br_f h3 (zy_goodS hs hk (br_f (by decide) ⟨vs, br_f h3 ⟨by trivial, zz_in HE HS⟩⟩))
  · exact zx_isSeg0 hno (br_t (by trivial) (zy_goodS0 hno (br_t (by trivial) ⟨by trivial, zz_in HE HS⟩)))
theorem zm_seg1 (HE : zHE st ss sa say wa way wr ak nx tk go ob oby sp spy sc scy sn sny ib iby hl hly) (HS : zHS kd so po poy ln lny fi fiy sk sky ed edy ba bay ma may sb sby) {s : Nat} (hs : s < 12) (h3 : kd s = 1) {j : Nat} (hj : j ≤ 10) : wpX_segment (fun r => wpY_segment (fun r' => r' = r ∧ i_Rel (k + 4) (w, lf, rt, sr, nw, st, ic, pr, ss, sa, wa, wr, sh, ak, nx, li, pc, hd, go, tk, en, wh, ow, td, ob, sp, sc, sn, ib, hl, kd, so, bo, fr, tt, po, ln, fi, sk, ed, ba, ma, sb) (w, lf, rt, sr, nw, st, ic, pr, wr, ak, nx, li, pc, hd, tk, en, td, ss, say, way, sh, wh, ow, oby, iby, scy, sny, spy, hly, kd, so, bo, fr, tt, poy, lny, sky, edy, bay, may, fiy, sby)) (w, lf, rt, sr, nw, st, ic, pr, wr, ak, nx, li, pc, hd, tk, en, td, ss, say, way, sh, wh, ow, oby, iby, scy, sny, spy, hly, kd, so, bo, fr, tt, poy, lny, sky, edy, bay, may, fiy, sby) (nI s) (nI j)) (w, lf, rt, sr, nw, st, ic, pr, ss, sa, wa, wr, sh, ak, nx, li, pc, hd, go, tk, en, wh, ow, td, ob, sp, sc, sn, ib, hl, kd, so, bo, fr, tt, po, ln, fi, sk, ed, ba, ma, sb) (nI s) (nI j) := by
  have vs : vp_in (nI s) 12 := vp_in_nI hs (by decide)
  have cs : (nI s).toNatClampNeg = s := nI_clamp (by omega)
  have hk : ¬ kd s = 0 := by rw [h3]; decide
  obtain ⟨_, _, hd2, hd3⟩ := HS s hs hk
  have R : i_Rel (k + 4) (w, lf, rt, sr, nw, st, ic, pr, ss, sa, wa, wr, sh, ak, nx, li, pc, hd, go, tk, en, wh, ow, td, ob, sp, sc, sn, ib, hl, kd, so, bo, fr, tt, po, ln, fi, sk, ed, ba, ma, sb) (w, lf, rt, sr, nw, st, ic, pr, wr, ak, nx, li, pc, hd, tk, en, td, ss, say, way, sh, wh, ow, oby, iby, scy, sny, spy, hly, kd, so, bo, fr, tt, poy, lny, sky, edy, bay, may, fiy, sby) := zz_in HE HS
  have hj' : j = 0 ∨ j = 1 ∨ j = 2 ∨ j = 3 ∨ j = 4 ∨ j = 5 ∨ j = 6 ∨ j = 7 ∨ j = 8 ∨ j = 9 ∨ j = 10 := by omega
  unfold wpX_segment wX_segment_26 wpX_shownNumber wpX_shownAck wpX_shownWindow wpY_segment wY_segment_38 wY_segment_193
  simp only [cs, h3]
  refine zx_isSeg hs hk (br_f (by decide) ⟨vs, ?_⟩)
  refine br_f (by decide) ?_
  rcases hj' with rfl | rfl | rfl | rfl | rfl | rfl | rfl | rfl | rfl | rfl | rfl
  · exact br_f (by decide) (br_f (by decide) ((br_t (by trivial) (⟨vs, zy_goodS hs hk (br_f (by decide) (br_f (by decide) (br_t (by decide) ⟨vs, nm_e (br_f (by decide) ((br_t (by trivial) (⟨by trivial, R⟩))))⟩)))⟩))))
  · exact br_f (by decide) (br_f (by decide) (br_f (by decide) ((br_t (by trivial) (⟨vs, zy_goodS hs hk (br_f (by decide) (br_f (by decide) (br_t (by decide) ⟨vs, nm_e (br_f (by decide) (br_f (by decide) ((br_t (by trivial) (⟨vs, by trivial, R⟩)))))⟩)))⟩)))))
  · exact br_f (by decide) (br_f (by decide) (br_f (by decide) (br_f (by decide) ((br_t (by trivial) (⟨vs, zy_goodS hs hk (br_f (by decide) (br_f (by decide) (br_t (by decide) ⟨vs, nm_e (br_f (by decide) (br_f (by decide) (br_f (by decide) ((br_t (by trivial) (⟨vs, by trivial, R⟩))))))⟩)))⟩))))))
  · exact br_f (by decide) (br_f (by decide) (br_f (by decide) (br_f (by decide) (br_f (by decide) ((br_t (by trivial) (⟨vs, zy_goodS hs hk (br_f (by decide) (br_f (by decide) (br_t (by decide) ⟨vs, nm_e (br_f (by decide) (br_f (by decide) (br_f (by decide) (br_f (by decide) ((br_t (by trivial) (⟨vs, by trivial, R⟩)))))))⟩)))⟩)))))))
  · exact br_f (by decide) (br_f (by decide) (br_f (by decide) (br_f (by decide) (br_f (by decide) (br_f (by decide) ((br_t (by trivial) (⟨vs, nm_e ⟨vs, nm_e (br_t (by trivial) (zy_goodS hs hk (br_f (by decide) (br_f (by decide) (br_t (by decide) ⟨vs, nm_e (br_f (by decide) (br_f (by decide) (br_f (by decide) (br_f (by decide) (br_f (by decide) ((br_t (by trivial) (br_f (by decide) ⟨vs, br_t (by trivial) ⟨by rw [Int32.add_zero], R⟩⟩))))))))⟩)))))⟩⟩))))))))
  · exact br_f (by decide) (br_f (by decide) (br_f (by decide) (br_f (by decide) (br_f (by decide) (br_f (by decide) (br_f (by decide) ((br_t (by trivial) (br_t (by trivial) (zy_goodS hs hk (br_f (by decide) (br_f (by decide) (br_t (by decide) ⟨vs, nm_e (br_f (by decide) (br_f (by decide) (br_f (by decide) (br_f (by decide) (br_f (by decide) (br_f (by decide) ((br_t (by trivial) (br_t (by trivial) ⟨by trivial, R⟩)))))))))⟩)))))))))))))
  · exact br_f (by decide) (br_f (by decide) (br_f (by decide) (br_f (by decide) (br_f (by decide) (br_f (by decide) (br_f (by decide) (br_f (by decide) ((br_t (by trivial) (br_t (by trivial) (zy_goodS hs hk (br_f (by decide) (br_f (by decide) (br_t (by decide) ⟨vs, nm_e (br_f (by decide) (br_f (by decide) (br_f (by decide) (br_f (by decide) (br_f (by decide) (br_f (by decide) (br_f (by decide) ((br_t (by trivial) (br_t (by trivial) ⟨by trivial, R⟩))))))))))⟩))))))))))))))
  · exact br_f (by decide) (br_f (by decide) (br_f (by decide) (br_f (by decide) (br_f (by decide) (br_f (by decide) (br_f (by decide) (br_f (by decide) (br_f (by decide) ((br_t (by trivial) (⟨vs, nm_e ⟨vs, nm_e (br_f (by decide) (br_f (by decide) (zy_goodS hs hk (br_f (by decide) (br_f (by decide) (br_t (by decide) ⟨vs, nm_e (br_f (by decide) (br_f (by decide) (br_f (by decide) (br_f (by decide) (br_f (by decide) (br_f (by decide) (br_f (by decide) (br_f (by decide) ((br_t (by trivial) (br_t (by trivial) (br_f (by decide) ⟨by trivial, R⟩))))))))))))⟩))))))⟩⟩)))))))))))
  · exact br_f (by decide) (br_f (by decide) (br_f (by decide) (br_f (by decide) (br_f (by decide) (br_f (by decide) (br_f (by decide) (br_f (by decide) (br_f (by decide) (br_f (by decide) ((br_t (by trivial) (⟨vs, nm_e (br_f (by decide) (br_f (by decide) (zy_goodS hs hk (br_f (by decide) (br_f (by decide) (br_t (by decide) ⟨vs, nm_e (br_f (by decide) (br_f (by decide) (br_f (by decide) (br_f (by decide) (br_f (by decide) (br_f (by decide) (br_f (by decide) (br_f (by decide) (br_f (by decide) ((br_t (by trivial) (br_t (by trivial) (br_f (by decide) ⟨by trivial, R⟩)))))))))))))⟩))))))⟩))))))))))))
  · exact br_f (by decide) (br_f (by decide) (br_f (by decide) (br_f (by decide) (br_f (by decide) (br_f (by decide) (br_f (by decide) (br_f (by decide) (br_f (by decide) (br_f (by decide) (br_f (by decide) ((br_t (by trivial) (br_t (by trivial) (zy_goodS hs hk (br_f (by decide) (br_f (by decide) (br_t (by decide) ⟨vs, nm_e (br_f (by decide) (br_f (by decide) (br_f (by decide) (br_f (by decide) (br_f (by decide) (br_f (by decide) (br_f (by decide) (br_f (by decide) (br_f (by decide) (br_f (by decide) ((br_t (by trivial) (br_t (by trivial) ⟨by trivial, R⟩)))))))))))))⟩)))))))))))))))))
  · exact br_f (by decide) (br_f (by decide) (br_f (by decide) (br_f (by decide) (br_f (by decide) (br_f (by decide) (br_f (by decide) (br_f (by decide) (br_f (by decide) (br_f (by decide) (br_f (by decide) (br_f (by decide) ((br_t (by trivial) (⟨vs, zy_goodS hs hk (br_f (by decide) (br_f (by decide) (br_t (by decide) ⟨vs, nm_e (br_f (by decide) (br_f (by decide) (br_f (by decide) (br_f (by decide) (br_f (by decide) (br_f (by decide) (br_f (by decide) (br_f (by decide) (br_f (by decide) (br_f (by decide) (br_f (by decide) ((⟨vs, by trivial, R⟩)))))))))))))⟩)))⟩))))))))))))))
theorem zm_seg2 (HE : zHE st ss sa say wa way wr ak nx tk go ob oby sp spy sc scy sn sny ib iby hl hly) (HS : zHS kd so po poy ln lny fi fiy sk sky ed edy ba bay ma may sb sby) {s : Nat} (hs : s < 12) (h3 : kd s = 2) {j : Nat} (hj : j ≤ 10) : wpX_segment (fun r => wpY_segment (fun r' => r' = r ∧ i_Rel (k + 4) (w, lf, rt, sr, nw, st, ic, pr, ss, sa, wa, wr, sh, ak, nx, li, pc, hd, go, tk, en, wh, ow, td, ob, sp, sc, sn, ib, hl, kd, so, bo, fr, tt, po, ln, fi, sk, ed, ba, ma, sb) (w, lf, rt, sr, nw, st, ic, pr, wr, ak, nx, li, pc, hd, tk, en, td, ss, say, way, sh, wh, ow, oby, iby, scy, sny, spy, hly, kd, so, bo, fr, tt, poy, lny, sky, edy, bay, may, fiy, sby)) (w, lf, rt, sr, nw, st, ic, pr, wr, ak, nx, li, pc, hd, tk, en, td, ss, say, way, sh, wh, ow, oby, iby, scy, sny, spy, hly, kd, so, bo, fr, tt, poy, lny, sky, edy, bay, may, fiy, sby) (nI s) (nI j)) (w, lf, rt, sr, nw, st, ic, pr, ss, sa, wa, wr, sh, ak, nx, li, pc, hd, go, tk, en, wh, ow, td, ob, sp, sc, sn, ib, hl, kd, so, bo, fr, tt, po, ln, fi, sk, ed, ba, ma, sb) (nI s) (nI j) := by
  have vs : vp_in (nI s) 12 := vp_in_nI hs (by decide)
  have cs : (nI s).toNatClampNeg = s := nI_clamp (by omega)
  have hk : ¬ kd s = 0 := by rw [h3]; decide
  obtain ⟨_, _, hd2, hd3⟩ := HS s hs hk
  have R : i_Rel (k + 4) (w, lf, rt, sr, nw, st, ic, pr, ss, sa, wa, wr, sh, ak, nx, li, pc, hd, go, tk, en, wh, ow, td, ob, sp, sc, sn, ib, hl, kd, so, bo, fr, tt, po, ln, fi, sk, ed, ba, ma, sb) (w, lf, rt, sr, nw, st, ic, pr, wr, ak, nx, li, pc, hd, tk, en, td, ss, say, way, sh, wh, ow, oby, iby, scy, sny, spy, hly, kd, so, bo, fr, tt, poy, lny, sky, edy, bay, may, fiy, sby) := zz_in HE HS
  have hj' : j = 0 ∨ j = 1 ∨ j = 2 ∨ j = 3 ∨ j = 4 ∨ j = 5 ∨ j = 6 ∨ j = 7 ∨ j = 8 ∨ j = 9 ∨ j = 10 := by omega
  unfold wpX_segment wX_segment_26 wpX_shownNumber wpX_shownAck wpX_shownWindow wpY_segment wY_segment_38 wY_segment_193
  simp only [cs, h3]
  refine zx_isSeg hs hk (br_f (by decide) ⟨vs, ?_⟩)
  refine br_f (by decide) ?_
  have eed := hd2 h3
  rcases hj' with rfl | rfl | rfl | rfl | rfl | rfl | rfl | rfl | rfl | rfl | rfl
  · exact br_f (by decide) (br_f (by decide) ((br_t (by trivial) (⟨vs, zy_goodS hs hk (br_f (by decide) (br_f (by decide) (br_t (by decide) ⟨vs, nm_e (br_f (by decide) ((br_t (by trivial) (⟨by trivial, R⟩))))⟩)))⟩))))
  · exact br_f (by decide) (br_f (by decide) (br_f (by decide) ((br_t (by trivial) (⟨vs, zy_goodS hs hk (br_f (by decide) (br_f (by decide) (br_t (by decide) ⟨vs, nm_e (br_f (by decide) (br_f (by decide) ((br_t (by trivial) (⟨vs, by trivial, R⟩)))))⟩)))⟩)))))
  · exact br_f (by decide) (br_f (by decide) (br_f (by decide) (br_f (by decide) ((br_t (by trivial) (⟨vs, zy_goodS hs hk (br_f (by decide) (br_f (by decide) (br_t (by decide) ⟨vs, nm_e (br_f (by decide) (br_f (by decide) (br_f (by decide) ((br_t (by trivial) (⟨vs, by trivial, R⟩))))))⟩)))⟩))))))
  · exact br_f (by decide) (br_f (by decide) (br_f (by decide) (br_f (by decide) (br_f (by decide) ((br_t (by trivial) (⟨vs, zy_goodS hs hk (br_f (by decide) (br_f (by decide) (br_t (by decide) ⟨vs, nm_e (br_f (by decide) (br_f (by decide) (br_f (by decide) (br_f (by decide) ((br_t (by trivial) (⟨vs, by trivial, R⟩)))))))⟩)))⟩)))))))
  · exact br_f (by decide) (br_f (by decide) (br_f (by decide) (br_f (by decide) (br_f (by decide) (br_f (by decide) ((br_t (by trivial) (⟨vs, nm_e ⟨vs, nm_e (br_f (by decide) (br_t (by trivial) (zy_goodS hs hk (br_f (by decide) (br_f (by decide) (br_t (by decide) ⟨vs, nm_e (br_f (by decide) (br_f (by decide) (br_f (by decide) (br_f (by decide) (br_f (by decide) ((br_t (by trivial) (br_f (by decide) ⟨vs, br_t (by trivial) ⟨by rw [Int32.add_zero], R⟩⟩))))))))⟩))))))⟩⟩))))))))
  · exact br_f (by decide) (br_f (by decide) (br_f (by decide) (br_f (by decide) (br_f (by decide) (br_f (by decide) (br_f (by decide) ((br_t (by trivial) (br_t (by trivial) (zy_goodS hs hk (br_f (by decide) (br_f (by decide) (br_t (by decide) ⟨vs, nm_e (br_f (by decide) (br_f (by decide) (br_f (by decide) (br_f (by decide) (br_f (by decide) (br_f (by decide) ((br_t (by trivial) (br_t (by trivial) ⟨by trivial, R⟩)))))))))⟩)))))))))))))
  · exact br_f (by decide) (br_f (by decide) (br_f (by decide) (br_f (by decide) (br_f (by decide) (br_f (by decide) (br_f (by decide) (br_f (by decide) ((br_t (by trivial) (br_t (by trivial) (zy_goodS hs hk (br_f (by decide) (br_f (by decide) (br_t (by decide) ⟨vs, nm_e (br_f (by decide) (br_f (by decide) (br_f (by decide) (br_f (by decide) (br_f (by decide) (br_f (by decide) (br_f (by decide) ((br_t (by trivial) (br_t (by trivial) ⟨by trivial, R⟩))))))))))⟩))))))))))))))
  · exact br_f (by decide) (br_f (by decide) (br_f (by decide) (br_f (by decide) (br_f (by decide) (br_f (by decide) (br_f (by decide) (br_f (by decide) (br_f (by decide) ((br_t (by trivial) (⟨vs, nm_e ⟨vs, nm_e (br_t (by trivial) (zy_goodS hs hk (br_f (by decide) (br_f (by decide) (br_t (by decide) ⟨vs, nm_e (br_f (by decide) (br_f (by decide) (br_f (by decide) (br_f (by decide) (br_f (by decide) (br_f (by decide) (br_f (by decide) (br_f (by decide) ((br_t (by trivial) (br_t (by trivial) (br_t (by trivial) ⟨vs, br_t (by trivial) ⟨by rw [Int32.add_zero], R⟩⟩))))))))))))⟩)))))⟩⟩)))))))))))
  · exact br_f (by decide) (br_f (by decide) (br_f (by decide) (br_f (by decide) (br_f (by decide) (br_f (by decide) (br_f (by decide) (br_f (by decide) (br_f (by decide) (br_f (by decide) ((br_t (by trivial) (⟨vs, nm_e (br_t (by trivial) ⟨vs, zy_goodS hs hk (br_f (by decide) (br_f (by decide) (br_t (by decide) ⟨vs, nm_e (br_f (by decide) (br_f (by decide) (br_f (by decide) (br_f (by decide) (br_f (by decide) (br_f (by decide) (br_f (by decide) (br_f (by decide) (br_f (by decide) ((br_t (by trivial) (br_t (by trivial) (br_t (by trivial) ⟨vs, eed, R⟩)))))))))))))⟩)))⟩)⟩))))))))))))
  · exact br_f (by decide) (br_f (by decide) (br_f (by decide) (br_f (by decide) (br_f (by decide) (br_f (by decide) (br_f (by decide) (br_f (by decide) (br_f (by decide) (br_f (by decide) (br_f (by decide) ((br_t (by trivial) (br_t (by trivial) (zy_goodS hs hk (br_f (by decide) (br_f (by decide) (br_t (by decide) ⟨vs, nm_e (br_f (by decide) (br_f (by decide) (br_f (by decide) (br_f (by decide) (br_f (by decide) (br_f (by decide) (br_f (by decide) (br_f (by decide) (br_f (by decide) (br_f (by decide) ((br_t (by trivial) (br_t (by trivial) ⟨by trivial, R⟩)))))))))))))⟩)))))))))))))))))
  · exact br_f (by decide) (br_f (by decide) (br_f (by decide) (br_f (by decide) (br_f (by decide) (br_f (by decide) (br_f (by decide) (br_f (by decide) (br_f (by decide) (br_f (by decide) (br_f (by decide) (br_f (by decide) ((br_t (by trivial) (⟨vs, zy_goodS hs hk (br_f (by decide) (br_f (by decide) (br_t (by decide) ⟨vs, nm_e (br_f (by decide) (br_f (by decide) (br_f (by decide) (br_f (by decide) (br_f (by decide) (br_f (by decide) (br_f (by decide) (br_f (by decide) (br_f (by decide) (br_f (by decide) (br_f (by decide) ((⟨vs, by trivial, R⟩)))))))))))))⟩)))⟩))))))))))))))
theorem zm_seg3 (HE : zHE st ss sa say wa way wr ak nx tk go ob oby sp spy sc scy sn sny ib iby hl hly) (HS : zHS kd so po poy ln lny fi fiy sk sky ed edy ba bay ma may sb sby) {s : Nat} (hs : s < 12) (h3 : kd s = 3) {j : Nat} (hj : j ≤ 10) : wpX_segment (fun r => wpY_segment (fun r' => r' = r ∧ i_Rel (k + 4) (w, lf, rt, sr, nw, st, ic, pr, ss, sa, wa, wr, sh, ak, nx, li, pc, hd, go, tk, en, wh, ow, td, ob, sp, sc, sn, ib, hl, kd, so, bo, fr, tt, po, ln, fi, sk, ed, ba, ma, sb) (w, lf, rt, sr, nw, st, ic, pr, wr, ak, nx, li, pc, hd, tk, en, td, ss, say, way, sh, wh, ow, oby, iby, scy, sny, spy, hly, kd, so, bo, fr, tt, poy, lny, sky, edy, bay, may, fiy, sby)) (w, lf, rt, sr, nw, st, ic, pr, wr, ak, nx, li, pc, hd, tk, en, td, ss, say, way, sh, wh, ow, oby, iby, scy, sny, spy, hly, kd, so, bo, fr, tt, poy, lny, sky, edy, bay, may, fiy, sby) (nI s) (nI j)) (w, lf, rt, sr, nw, st, ic, pr, ss, sa, wa, wr, sh, ak, nx, li, pc, hd, go, tk, en, wh, ow, td, ob, sp, sc, sn, ib, hl, kd, so, bo, fr, tt, po, ln, fi, sk, ed, ba, ma, sb) (nI s) (nI j) := by
  have vs : vp_in (nI s) 12 := vp_in_nI hs (by decide)
  have cs : (nI s).toNatClampNeg = s := nI_clamp (by omega)
  have hk : ¬ kd s = 0 := by rw [h3]; decide
  obtain ⟨_, _, hd2, hd3⟩ := HS s hs hk
  have R : i_Rel (k + 4) (w, lf, rt, sr, nw, st, ic, pr, ss, sa, wa, wr, sh, ak, nx, li, pc, hd, go, tk, en, wh, ow, td, ob, sp, sc, sn, ib, hl, kd, so, bo, fr, tt, po, ln, fi, sk, ed, ba, ma, sb) (w, lf, rt, sr, nw, st, ic, pr, wr, ak, nx, li, pc, hd, tk, en, td, ss, say, way, sh, wh, ow, oby, iby, scy, sny, spy, hly, kd, so, bo, fr, tt, poy, lny, sky, edy, bay, may, fiy, sby) := zz_in HE HS
  have hj' : j = 0 ∨ j = 1 ∨ j = 2 ∨ j = 3 ∨ j = 4 ∨ j = 5 ∨ j = 6 ∨ j = 7 ∨ j = 8 ∨ j = 9 ∨ j = 10 := by omega
  unfold wpX_segment wX_segment_26 wpX_shownNumber wpX_shownAck wpX_shownWindow wpY_segment wY_segment_38 wY_segment_193
  simp only [cs, h3]
  refine zx_isSeg hs hk (br_f (by decide) ⟨vs, ?_⟩)
  obtain ⟨⟨eed, epo, eln, efi, esk, eba, ema⟩, _⟩ := hd3 h3
  refine br_t (by trivial) ?_
  rcases hj' with rfl | rfl | rfl | rfl | rfl | rfl | rfl | rfl | rfl | rfl | rfl
  · exact br_f (by decide) (br_f (by decide) ((br_t (by trivial) (⟨vs, zy_goodS hs hk (br_f (by decide) (br_f (by decide) (br_t (by decide) ⟨vs, nm_e (br_t (by trivial) ((br_t (by trivial) (⟨by trivial, R⟩))))⟩)))⟩))))
  · exact br_f (by decide) (br_f (by decide) (br_f (by decide) ((br_t (by trivial) (⟨vs, zy_goodS hs hk (br_f (by decide) (br_f (by decide) (br_t (by decide) ⟨vs, nm_e (br_t (by trivial) (br_f (by decide) ((br_t (by trivial) (⟨vs, by trivial, R⟩)))))⟩)))⟩)))))
  · exact br_f (by decide) (br_f (by decide) (br_f (by decide) (br_f (by decide) ((br_t (by trivial) (⟨vs, zy_goodS hs hk (br_f (by decide) (br_f (by decide) (br_t (by decide) ⟨vs, nm_e (br_t (by trivial) (br_f (by decide) (br_f (by decide) ((br_t (by trivial) (⟨vs, by trivial, R⟩))))))⟩)))⟩))))))
  · exact br_f (by decide) (br_f (by decide) (br_f (by decide) (br_f (by decide) (br_f (by decide) ((br_t (by trivial) (⟨vs, zy_goodS hs hk (br_f (by decide) (br_f (by decide) (br_t (by decide) ⟨vs, nm_e (br_t (by trivial) (br_f (by decide) (br_f (by decide) (br_f (by decide) ((br_t (by trivial) (⟨vs, by trivial, R⟩)))))))⟩)))⟩)))))))
  · exact br_f (by decide) (br_f (by decide) (br_f (by decide) (br_f (by decide) (br_f (by decide) (br_f (by decide) ((br_t (by trivial) (⟨vs, nm_e ⟨vs, nm_e (br_f (by decide) (br_f (by decide) (br_t (by trivial) ⟨vs, zy_goodS hs hk (br_f (by decide) (br_f (by decide) (br_t (by decide) ⟨vs, nm_e (br_t (by trivial) (br_f (by decide) (br_f (by decide) (br_f (by decide) (br_f (by decide) ((br_t (by trivial) (br_f (by decide) ⟨vs, br_f (by decide) ⟨vs, by rw [epo], R⟩⟩))))))))⟩)))⟩)))⟩⟩))))))))
  · exact br_f (by decide) (br_f (by decide) (br_f (by decide) (br_f (by decide) (br_f (by decide) (br_f (by decide) (br_f (by decide) ((br_t (by trivial) (br_f (by decide) ⟨vs, zy_goodS hs hk (br_f (by decide) (br_f (by decide) (br_t (by decide) ⟨vs, nm_e (br_t (by trivial) (br_f (by decide) (br_f (by decide) (br_f (by decide) (br_f (by decide) (br_f (by decide) ((br_t (by trivial) (br_f (by decide) ⟨vs, eln, R⟩)))))))))⟩)))⟩)))))))))
  · refine br_f (by decide) (br_f (by decide) (br_f (by decide) (br_f (by decide) (br_f (by decide) (br_f (by decide) (br_f (by decide) (br_f (by decide) ((br_t (by trivial) (br_f (by decide) ⟨vs, br_c (fun h => ?_) (fun h => ?_)⟩))))))))))
    · exact zy_goodS hs hk (br_f (by decide) (br_f (by decide) (br_t (by decide) ⟨vs, nm_e (br_t (by trivial) (br_f (by decide) (br_f (by decide) (br_f (by decide) (br_f (by decide) (br_f (by decide) (br_f (by decide) ((br_t (by trivial) (br_f (by decide) ⟨vs, br_t (by rw [efi]; exact h) ⟨by trivial, R⟩⟩))))))))))⟩)))
    · exact zy_goodS hs hk (br_f (by decide) (br_f (by decide) (br_t (by decide) ⟨vs, nm_e (br_t (by trivial) (br_f (by decide) (br_f (by decide) (br_f (by decide) (br_f (by decide) (br_f (by decide) (br_f (by decide) ((br_t (by trivial) (br_f (by decide) ⟨vs, br_f (by rw [efi]; exact h) ⟨by trivial, R⟩⟩))))))))))⟩)))
  · exact br_f (by decide) (br_f (by decide) (br_f (by decide) (br_f (by decide) (br_f (by decide) (br_f (by decide) (br_f (by decide) (br_f (by decide) (br_f (by decide) ((br_t (by trivial) (⟨vs, nm_e ⟨vs, nm_e (br_f (by decide) (br_t (by trivial) ⟨vs, zy_goodS hs hk (br_f (by decide) (br_f (by decide) (br_t (by decide) ⟨vs, nm_e (br_t (by trivial) (br_f (by decide) (br_f (by decide) (br_f (by decide) (br_f (by decide) (br_f (by decide) (br_f (by decide) (br_f (by decide) ((br_t (by trivial) (br_f (by decide) ⟨vs, br_f (by decide) ⟨vs, by rw [esk], R⟩⟩)))))))))))⟩)))⟩))⟩⟩)))))))))))
  · exact br_f (by decide) (br_f (by decide) (br_f (by decide) (br_f (by decide) (br_f (by decide) (br_f (by decide) (br_f (by decide) (br_f (by decide) (br_f (by decide) (br_f (by decide) ((br_t (by trivial) (⟨vs, nm_e (br_f (by decide) (br_t (by trivial) ⟨vs, vs, zy_goodS hs hk (br_f (by decide) (br_f (by decide) (br_t (by decide) ⟨vs, nm_e (br_t (by trivial) (br_f (by decide) (br_f (by decide) (br_f (by decide) (br_f (by decide) (br_f (by decide) (br_f (by decide) (br_f (by decide) (br_f (by decide) ((br_t (by trivial) (br_f (by decide) ⟨vs, vs, by rw [eed, eba], R⟩))))))))))))⟩)))⟩))⟩))))))))))))
  · exact br_f (by decide) (br_f (by decide) (br_f (by decide) (br_f (by decide) (br_f (by decide) (br_f (by decide) (br_f (by decide) (br_f (by decide) (br_f (by decide) (br_f (by decide) (br_f (by decide) ((br_t (by trivial) (br_f (by decide) ⟨vs, zy_goodS hs hk (br_f (by decide) (br_f (by decide) (br_t (by decide) ⟨vs, nm_e (br_t (by trivial) (br_f (by decide) (br_f (by decide) (br_f (by decide) (br_f (by decide) (br_f (by decide) (br_f (by decide) (br_f (by decide) (br_f (by decide) (br_f (by decide) ((br_t (by trivial) (br_f (by decide) ⟨vs, ema, R⟩)))))))))))))⟩)))⟩)))))))))))))
  · exact br_f (by decide) (br_f (by decide) (br_f (by decide) (br_f (by decide) (br_f (by decide) (br_f (by decide) (br_f (by decide) (br_f (by decide) (br_f (by decide) (br_f (by decide) (br_f (by decide) (br_f (by decide) ((br_t (by trivial) (⟨vs, zy_goodS hs hk (br_f (by decide) (br_f (by decide) (br_t (by decide) ⟨vs, nm_e (br_t (by trivial) (br_f (by decide) (br_f (by decide) (br_f (by decide) (br_f (by decide) (br_f (by decide) (br_f (by decide) (br_f (by decide) (br_f (by decide) (br_f (by decide) (br_f (by decide) ((⟨vs, by trivial, R⟩)))))))))))))⟩)))⟩))))))))))))))
theorem zm_seg4 (HE : zHE st ss sa say wa way wr ak nx tk go ob oby sp spy sc scy sn sny ib iby hl hly) (HS : zHS kd so po poy ln lny fi fiy sk sky ed edy ba bay ma may sb sby) {s : Nat} (hs : s < 12) (h3 : kd s = 4) {j : Nat} (hj : j ≤ 10) : wpX_segment (fun r => wpY_segment (fun r' => r' = r ∧ i_Rel (k + 4) (w, lf, rt, sr, nw, st, ic, pr, ss, sa, wa, wr, sh, ak, nx, li, pc, hd, go, tk, en, wh, ow, td, ob, sp, sc, sn, ib, hl, kd, so, bo, fr, tt, po, ln, fi, sk, ed, ba, ma, sb) (w, lf, rt, sr, nw, st, ic, pr, wr, ak, nx, li, pc, hd, tk, en, td, ss, say, way, sh, wh, ow, oby, iby, scy, sny, spy, hly, kd, so, bo, fr, tt, poy, lny, sky, edy, bay, may, fiy, sby)) (w, lf, rt, sr, nw, st, ic, pr, wr, ak, nx, li, pc, hd, tk, en, td, ss, say, way, sh, wh, ow, oby, iby, scy, sny, spy, hly, kd, so, bo, fr, tt, poy, lny, sky, edy, bay, may, fiy, sby) (nI s) (nI j)) (w, lf, rt, sr, nw, st, ic, pr, ss, sa, wa, wr, sh, ak, nx, li, pc, hd, go, tk, en, wh, ow, td, ob, sp, sc, sn, ib, hl, kd, so, bo, fr, tt, po, ln, fi, sk, ed, ba, ma, sb) (nI s) (nI j) := by
  have vs : vp_in (nI s) 12 := vp_in_nI hs (by decide)
  have cs : (nI s).toNatClampNeg = s := nI_clamp (by omega)
  have hk : ¬ kd s = 0 := by rw [h3]; decide
  obtain ⟨_, _, hd2, hd3⟩ := HS s hs hk
  have R : i_Rel (k + 4) (w, lf, rt, sr, nw, st, ic, pr, ss, sa, wa, wr, sh, ak, nx, li, pc, hd, go, tk, en, wh, ow, td, ob, sp, sc, sn, ib, hl, kd, so, bo, fr, tt, po, ln, fi, sk, ed, ba, ma, sb) (w, lf, rt, sr, nw, st, ic, pr, wr, ak, nx, li, pc, hd, tk, en, td, ss, say, way, sh, wh, ow, oby, iby, scy, sny, spy, hly, kd, so, bo, fr, tt, poy, lny, sky, edy, bay, may, fiy, sby) := zz_in HE HS
  have hj' : j = 0 ∨ j = 1 ∨ j = 2 ∨ j = 3 ∨ j = 4 ∨ j = 5 ∨ j = 6 ∨ j = 7 ∨ j = 8 ∨ j = 9 ∨ j = 10 := by omega
  unfold wpX_segment wX_segment_26 wpX_shownNumber wpX_shownAck wpX_shownWindow wpY_segment wY_segment_38 wY_segment_193
  simp only [cs, h3]
  refine zx_isSeg hs hk (br_f (by decide) ⟨vs, ?_⟩)
  refine br_f (by decide) ?_
  rcases hj' with rfl | rfl | rfl | rfl | rfl | rfl | rfl | rfl | rfl | rfl | rfl
  · exact br_f (by decide) (br_f (by decide) ((br_t (by trivial) (⟨vs, zy_goodS hs hk (br_f (by decide) (br_f (by decide) (br_t (by decide) ⟨vs, nm_e (br_f (by decide) ((br_t (by trivial) (⟨by trivial, R⟩))))⟩)))⟩))))
  · exact br_f (by decide) (br_f (by decide) (br_f (by decide) ((br_t (by trivial) (⟨vs, zy_goodS hs hk (br_f (by decide) (br_f (by decide) (br_t (by decide) ⟨vs, nm_e (br_f (by decide) (br_f (by decide) ((br_t (by trivial) (⟨vs, by trivial, R⟩)))))⟩)))⟩)))))
  · exact br_f (by decide) (br_f (by decide) (br_f (by decide) (br_f (by decide) ((br_t (by trivial) (⟨vs, zy_goodS hs hk (br_f (by decide) (br_f (by decide) (br_t (by decide) ⟨vs, nm_e (br_f (by decide) (br_f (by decide) (br_f (by decide) ((br_t (by trivial) (⟨vs, by trivial, R⟩))))))⟩)))⟩))))))
  · exact br_f (by decide) (br_f (by decide) (br_f (by decide) (br_f (by decide) (br_f (by decide) ((br_t (by trivial) (⟨vs, zy_goodS hs hk (br_f (by decide) (br_f (by decide) (br_t (by decide) ⟨vs, nm_e (br_f (by decide) (br_f (by decide) (br_f (by decide) (br_f (by decide) ((br_t (by trivial) (⟨vs, by trivial, R⟩)))))))⟩)))⟩)))))))
  · exact br_f (by decide) (br_f (by decide) (br_f (by decide) (br_f (by decide) (br_f (by decide) (br_f (by decide) ((br_t (by trivial) (⟨vs, nm_e ⟨vs, nm_e (br_f (by decide) (br_f (by decide) (br_f (by decide) (zy_goodS hs hk (br_f (by decide) (br_f (by decide) (br_t (by decide) ⟨vs, nm_e (br_f (by decide) (br_f (by decide) (br_f (by decide) (br_f (by decide) (br_f (by decide) ((br_t (by trivial) (br_t (by trivial) ⟨by trivial, R⟩))))))))⟩)))))))⟩⟩))))))))
  · exact br_f (by decide) (br_f (by decide) (br_f (by decide) (br_f (by decide) (br_f (by decide) (br_f (by decide) (br_f (by decide) ((br_t (by trivial) (br_t (by trivial) (zy_goodS hs hk (br_f (by decide) (br_f (by decide) (br_t (by decide) ⟨vs, nm_e (br_f (by decide) (br_f (by decide) (br_f (by decide) (br_f (by decide) (br_f (by decide) (br_f (by decide) ((br_t (by trivial) (br_t (by trivial) ⟨by trivial, R⟩)))))))))⟩)))))))))))))
  · exact br_f (by decide) (br_f (by decide) (br_f (by decide) (br_f (by decide) (br_f (by decide) (br_f (by decide) (br_f (by decide) (br_f (by decide) ((br_t (by trivial) (br_t (by trivial) (zy_goodS hs hk (br_f (by decide) (br_f (by decide) (br_t (by decide) ⟨vs, nm_e (br_f (by decide) (br_f (by decide) (br_f (by decide) (br_f (by decide) (br_f (by decide) (br_f (by decide) (br_f (by decide) ((br_t (by trivial) (br_t (by trivial) ⟨by trivial, R⟩))))))))))⟩))))))))))))))
  · exact br_f (by decide) (br_f (by decide) (br_f (by decide) (br_f (by decide) (br_f (by decide) (br_f (by decide) (br_f (by decide) (br_f (by decide) (br_f (by decide) ((br_t (by trivial) (⟨vs, nm_e ⟨vs, nm_e (br_f (by decide) (br_f (by decide) (zy_goodS hs hk (br_f (by decide) (br_f (by decide) (br_t (by decide) ⟨vs, nm_e (br_f (by decide) (br_f (by decide) (br_f (by decide) (br_f (by decide) (br_f (by decide) (br_f (by decide) (br_f (by decide) (br_f (by decide) ((br_t (by trivial) (br_t (by trivial) (br_f (by decide) ⟨by trivial, R⟩))))))))))))⟩))))))⟩⟩)))))))))))
  · exact br_f (by decide) (br_f (by decide) (br_f (by decide) (br_f (by decide) (br_f (by decide) (br_f (by decide) (br_f (by decide) (br_f (by decide) (br_f (by decide) (br_f (by decide) ((br_t (by trivial) (⟨vs, nm_e (br_f (by decide) (br_f (by decide) (zy_goodS hs hk (br_f (by decide) (br_f (by decide) (br_t (by decide) ⟨vs, nm_e (br_f (by decide) (br_f (by decide) (br_f (by decide) (br_f (by decide) (br_f (by decide) (br_f (by decide) (br_f (by decide) (br_f (by decide) (br_f (by decide) ((br_t (by trivial) (br_t (by trivial) (br_f (by decide) ⟨by trivial, R⟩)))))))))))))⟩))))))⟩))))))))))))
  · exact br_f (by decide) (br_f (by decide) (br_f (by decide) (br_f (by decide) (br_f (by decide) (br_f (by decide) (br_f (by decide) (br_f (by decide) (br_f (by decide) (br_f (by decide) (br_f (by decide) ((br_t (by trivial) (br_t (by trivial) (zy_goodS hs hk (br_f (by decide) (br_f (by decide) (br_t (by decide) ⟨vs, nm_e (br_f (by decide) (br_f (by decide) (br_f (by decide) (br_f (by decide) (br_f (by decide) (br_f (by decide) (br_f (by decide) (br_f (by decide) (br_f (by decide) (br_f (by decide) ((br_t (by trivial) (br_t (by trivial) ⟨by trivial, R⟩)))))))))))))⟩)))))))))))))))))
  · exact br_f (by decide) (br_f (by decide) (br_f (by decide) (br_f (by decide) (br_f (by decide) (br_f (by decide) (br_f (by decide) (br_f (by decide) (br_f (by decide) (br_f (by decide) (br_f (by decide) (br_f (by decide) ((br_t (by trivial) (⟨vs, zy_goodS hs hk (br_f (by decide) (br_f (by decide) (br_t (by decide) ⟨vs, nm_e (br_f (by decide) (br_f (by decide) (br_f (by decide) (br_f (by decide) (br_f (by decide) (br_f (by decide) (br_f (by decide) (br_f (by decide) (br_f (by decide) (br_f (by decide) (br_f (by decide) ((⟨vs, by trivial, R⟩)))))))))))))⟩)))⟩))))))))))))))
theorem zm_segment (HE : zHE st ss sa say wa way wr ak nx tk go ob oby sp spy sc scy sn sny ib iby hl hly) (HS : zHS kd so po poy ln lny fi fiy sk sky ed edy ba bay ma may sb sby) (v1 v2 : Int32) : wpX_segment (fun r => wpY_segment (fun r' => r' = r ∧ i_Rel (k + 4) (w, lf, rt, sr, nw, st, ic, pr, ss, sa, wa, wr, sh, ak, nx, li, pc, hd, go, tk, en, wh, ow, td, ob, sp, sc, sn, ib, hl, kd, so, bo, fr, tt, po, ln, fi, sk, ed, ba, ma, sb) (w, lf, rt, sr, nw, st, ic, pr, wr, ak, nx, li, pc, hd, tk, en, td, ss, say, way, sh, wh, ow, oby, iby, scy, sny, spy, hly, kd, so, bo, fr, tt, poy, lny, sky, edy, bay, may, fiy, sby)) (w, lf, rt, sr, nw, st, ic, pr, wr, ak, nx, li, pc, hd, tk, en, td, ss, say, way, sh, wh, ow, oby, iby, scy, sny, spy, hly, kd, so, bo, fr, tt, poy, lny, sky, edy, bay, may, fiy, sby) v1 v2) (w, lf, rt, sr, nw, st, ic, pr, ss, sa, wa, wr, sh, ak, nx, li, pc, hd, go, tk, en, wh, ow, td, ob, sp, sc, sn, ib, hl, kd, so, bo, fr, tt, po, ln, fi, sk, ed, ba, ma, sb) v1 v2 := by
  rcases zz_slot kd v1 with ⟨s, hs, rfl, hk⟩ | hno
  · have vs : vp_in (nI s) 12 := vp_in_nI hs (by decide)
    obtain ⟨_, hkk, _, _⟩ := HS s hs hk
    by_cases h0 : v2 < 0
    · unfold wpX_segment wX_segment_26 wpY_segment
      dsimp only
      exact zx_isSeg hs hk (br_f (by decide) ⟨vs, br_c (fun _ => br_t h0 (zy_goodS hs hk (br_f (by decide) (br_t h0 ⟨by trivial, zz_in HE HS⟩)))) (fun _ => br_t h0 (zy_goodS hs hk (br_f (by decide) (br_t h0 ⟨by trivial, zz_in HE HS⟩))))⟩)
    · by_cases h1 : 10 < v2
      · unfold wpX_segment wX_segment_26 wpY_segment
        dsimp only
        exact zx_isSeg hs hk (br_f (by decide) ⟨vs, br_c (fun _ => br_f h0 (br_t h1 (zy_goodS hs hk (br_f (by decide) (br_f h0 (br_f (Int32.not_le.mpr h1) ⟨by trivial, zz_in HE HS⟩)))))) (fun _ => br_f h0 (br_t h1 (zy_goodS hs hk (br_f (by decide) (br_f h0 (br_f (Int32.not_le.mpr h1) ⟨by trivial, zz_in HE HS⟩))))))⟩)
      · obtain ⟨j, hj, rfl⟩ := nI_of2 (M := 10) (n := 10) (by decide) h0 (Int32.not_lt.mp h1)
        rcases hkk with h | h | h | h
        · exact zm_seg1 HE HS hs h hj
        · exact zm_seg2 HE HS hs h hj
        · exact zm_seg3 HE HS hs h hj
        · exact zm_seg4 HE HS hs h hj
  · unfold wpX_segment wpY_segment
    dsimp only
    exact zx_isSeg0 hno (br_t (by trivial) (zy_goodS0 hno (br_t (by trivial) ⟨by trivial, zz_in HE HS⟩)))
end
end
section
/-! segments without data; refusing -/
theorem zS_nd {K po poy ln lny fi fiy sk sky ed edy ba bay ma may : Int32} {sb sby : Nat → Int32} {e : Nat} (hK : K = 1 ∨ K = 4) (he : e < 2) : zS K (nI e) po poy ln lny fi fiy sk sky ed edy ba bay ma may sb sby := by
  intro _
  rcases hK with rfl | rfl
  · exact ⟨⟨e, he, rfl⟩, Or.inl rfl, fun h => absurd h (by decide), fun h => absurd h (by decide)⟩
  · exact ⟨⟨e, he, rfl⟩, Or.inr (Or.inr (Or.inr rfl)), fun h => absurd h (by decide), fun h => absurd h (by decide)⟩
theorem zS_2 {po poy ln lny fi fiy sk sky ed edy ba bay ma may : Int32} {sb sby : Nat → Int32} {e : Nat} (he : e < 2) (h2 : edy = ed) : zS 2 (nI e) po poy ln lny fi fiy sk sky ed edy ba bay ma may sb sby :=
  fun _ => ⟨⟨e, he, rfl⟩, Or.inr (Or.inl rfl), fun _ => h2, fun h => absurd h (by decide)⟩
section
variable {w lf rt sr nw : Int32} {st ic pr ss sa wa wr sh ak nx li pc hd go tk en wh ow td ob sp sc sn ib hl kd so bo fr tt po ln fi sk ed ba ma sb : Nat → Int32} {e s : Nat} {K a b c v : Int32}
theorem zx_put_l (hs : s < 12) : ∀ d i (sb : Nat → Int32), i + d = 4 → ∃ sb', (∀ s', s' ≠ s → rB sb' s' = rB sb s') ∧ ∀ post : SX → Prop, post (w, lf, rt, sr, nw, st, ic, pr, ss, sa, wa, wr, sh, ak, nx, li, pc, hd, go, tk, en, wh, ow, td, ob, sp, sc, sn, ib, hl, kd, so, bo, fr, tt, po, ln, fi, sk, ed, ba, ma, sb') → wX_putSegment_92 post (nI s) w lf rt sr nw (d + 1) (nI i) st ic pr ss sa wa wr sh ak nx li pc hd go tk en wh ow td ob sp sc sn ib hl kd so bo fr tt po ln fi sk ed ba ma sb := by
  intro d
  induction d with
  | zero => intro i sb hi; exact ⟨sb, fun _ _ => rfl, fun post h => br_t (nI_le (a := 4) (by omega) (by omega)) h⟩
  | succ d ih =>
    intro i sb hi
    obtain ⟨sb', h1, h2⟩ := ih (i + 1) (upd sb (s * 4 + i) 0) (by omega)
    refine ⟨sb', fun s' n => (h1 s' n).trans (rB_un (by omega) n), fun post h => br_f (nI_ge (a := i) (b := 4) (by omega) (by decide)) ?_⟩
    rw [zz_i4, nI_clamp (by omega)]
    exact ⟨vp_in_nI (by omega) (by decide), nm_e (nm_r (nI_1 i) (h2 post h))⟩
theorem zx_put (hs : s < 12) : ∃ sb', (∀ s', s' ≠ s → rB sb' s' = rB sb s') ∧ ∀ post : SX → Prop, post (w, lf, rt, sr, nw, st, ic, pr, ss, sa, wa, wr, sh, ak, nx, li, pc, hd, go, tk, en, wh, ow, td, ob, sp, sc, sn, ib, hl, upd kd s K, upd so s a, upd bo s nw, upd fr s b, upd tt s c, upd po s 0, upd ln s 0, upd fi s (vp_nar .boolean 0), upd sk s 0, upd ed s 0, upd ba s 0, upd ma s 0, sb') → wpX_putSegment post (w, lf, rt, sr, nw, st, ic, pr, ss, sa, wa, wr, sh, ak, nx, li, pc, hd, go, tk, en, wh, ow, td, ob, sp, sc, sn, ib, hl, kd, so, bo, fr, tt, po, ln, fi, sk, ed, ba, ma, sb) (nI s) K a b c := by
  have vs : vp_in (nI s) 12 := vp_in_nI hs (by decide)
  have cs : (nI s).toNatClampNeg = s := nI_clamp (by omega)
  obtain ⟨sb', h1, h2⟩ := zx_put_l (w := w) (lf := lf) (rt := rt) (sr := sr) (nw := nw) (st := st) (ic := ic) (pr := pr) (ss := ss) (sa := sa) (wa := wa) (wr := wr) (sh := sh) (ak := ak) (nx := nx) (li := li) (pc := pc) (hd := hd) (go := go) (tk := tk) (en := en) (wh := wh) (ow := ow) (td := td) (ob := ob) (sp := sp) (sc := sc) (sn := sn) (ib := ib) (hl := hl) (kd := upd kd s K) (so := upd so s a) (bo := upd bo s nw) (fr := upd fr s b) (tt := upd tt s c) (po := upd po s 0) (ln := upd ln s 0) (fi := upd fi s (vp_nar .boolean 0)) (sk := upd sk s 0) (ed := upd ed s 0) (ba := upd ba s 0) (ma := upd ma s 0) hs 4 0 sb rfl
  refine ⟨sb', h1, fun post h => ?_⟩
  unfold wpX_putSegment
  simp only [cs]
  exact ⟨vs, nm_e ⟨vs, nm_e ⟨vs, nm_e ⟨vs, nm_e ⟨vs, nm_e ⟨vs, nm_e ⟨vs, nm_e ⟨vs, nm_e ⟨vs, nm_e ⟨vs, nm_e ⟨vs, nm_e ⟨vs, nm_e ⟨5, h2 post h⟩⟩⟩⟩⟩⟩⟩⟩⟩⟩⟩⟩⟩
theorem zx_refuse (hs : s < 12) : ∃ sb', (∀ s', s' ≠ s → rB sb' s' = rB sb s') ∧ ∀ post : Int32 → SX → Prop, post 2 (w, lf, rt, sr, nw, st, ic, pr, ss, sa, wa, wr, sh, ak, nx, li, pc, hd, go, tk, en, wh, ow, td, ob, sp, sc, sn, ib, hl, upd kd s 4, upd so s v, upd bo s nw, upd fr s (tt s), upd tt s (fr s), upd po s 0, upd ln s 0, upd fi s (vp_nar .boolean 0), upd sk s 0, upd ed s 0, upd ba s 0, upd ma s 0, sb') → wpX_refuse post (w, lf, rt, sr, nw, st, ic, pr, ss, sa, wa, wr, sh, ak, nx, li, pc, hd, go, tk, en, wh, ow, td, ob, sp, sc, sn, ib, hl, kd, so, bo, fr, tt, po, ln, fi, sk, ed, ba, ma, sb) (nI s) v := by
  have vs : vp_in (nI s) 12 := vp_in_nI hs (by decide)
  have cs : (nI s).toNatClampNeg = s := nI_clamp (by omega)
  obtain ⟨sb', h1, h2⟩ := zx_put (K := 4) (a := v) (b := tt s) (c := fr s) (w := w) (lf := lf) (rt := rt) (sr := sr) (nw := nw) (st := st) (ic := ic) (pr := pr) (ss := ss) (sa := sa) (wa := wa) (wr := wr) (sh := sh) (ak := ak) (nx := nx) (li := li) (pc := pc) (hd := hd) (go := go) (tk := tk) (en := en) (wh := wh) (ow := ow) (td := td) (ob := ob) (sp := sp) (sc := sc) (sn := sn) (ib := ib) (hl := hl) (kd := kd) (so := so) (bo := bo) (fr := fr) (tt := tt) (po := po) (ln := ln) (fi := fi) (sk := sk) (ed := ed) (ba := ba) (ma := ma) (sb := sb) hs
  refine ⟨sb', h1, fun post h => ?_⟩
  unfold wpX_refuse
  simp only [cs]
  exact ⟨vs, nm_e ⟨vs, nm_e (h2 _ h)⟩⟩
end
section
variable {w lf rt sr nw : Int32} {st ic pr wr ak nx li pc hd tk en td ss say way sh wh ow oby iby scy sny spy hly kd so bo fr tt poy lny sky edy bay may fiy sby : Nat → Int32} {e s : Nat} {K a b c v : Int32}
theorem zy_refuse {post : Int32 → SY → Prop} (hs : s < 12) (h : post 2 (w, lf, rt, sr, nw, st, ic, pr, wr, ak, nx, li, pc, hd, tk, en, td, ss, say, way, sh, wh, ow, oby, iby, scy, sny, spy, hly, upd kd s 4, upd so s v, upd bo s nw, upd fr s (tt s), upd tt s (fr s), poy, lny, sky, edy, bay, may, fiy, sby)) : wpY_refuse post (w, lf, rt, sr, nw, st, ic, pr, wr, ak, nx, li, pc, hd, tk, en, td, ss, say, way, sh, wh, ow, oby, iby, scy, sny, spy, hly, kd, so, bo, fr, tt, poy, lny, sky, edy, bay, may, fiy, sby) v (nI s) := by
  have vs : vp_in (nI s) 12 := vp_in_nI hs (by decide)
  have cs : (nI s).toNatClampNeg = s := nI_clamp (by omega)
  unfold wpY_refuse
  simp only [cs]
  exact ⟨vs, nm_e ⟨vs, vs, nm_e ⟨vs, nm_e ⟨vs, nm_e ⟨vs, nm_e ⟨vs, nm_e h⟩⟩⟩⟩⟩⟩
end
/-! ends: what keeps zE -/
section
variable {st ss sa say wa way wr ak nx tk go : Int32} {ob oby sp spy sc scy sn sny ib iby hl hly : Nat → Int32}
theorem zE_st {S' : Nat} (H : zE st ss sa say wa way wr ak nx tk go ob oby sp spy sc scy sn sny ib iby hl hly) (b : S' ≤ 11) (n : S' ≠ 9) : zE (nI S') ss sa say wa way wr ak nx tk go ob oby sp spy sc scy sn sny ib iby hl hly := by
  obtain ⟨S, W, A, N, T, G, ⟨hS, hW, hA, hN, hT, hG⟩, ⟨bS, bW, bA, bN, bT, bG⟩, ⟨hsy, hwa⟩, ⟨rsp, rsc, rhl⟩, hsn, hob, hib, hg1, hg0, hhb⟩ := H
  exact ⟨S', W, A, N, T, G, ⟨rfl, hW, hA, hN, hT, hG⟩, ⟨b, bW, bA, bN, bT, bG⟩, ⟨hsy, fun h => absurd ((nI_eq (b := 9) (by omega) (by decide)).mp h) n⟩, ⟨rsp, rsc, rhl⟩, hsn, hob, hib, hg1, hg0, hhb⟩
theorem zE_wt {S' : Nat} {x : Int32} (H : zE st ss sa say wa way wr ak nx tk go ob oby sp spy sc scy sn sny ib iby hl hly) (b : S' ≤ 11) : zE (nI S') ss sa say x x wr ak nx tk go ob oby sp spy sc scy sn sny ib iby hl hly := by
  obtain ⟨S, W, A, N, T, G, ⟨hS, hW, hA, hN, hT, hG⟩, ⟨bS, bW, bA, bN, bT, bG⟩, ⟨hsy, hwa⟩, ⟨rsp, rsc, rhl⟩, hsn, hob, hib, hg1, hg0, hhb⟩ := H
  exact ⟨S', W, A, N, T, G, ⟨rfl, hW, hA, hN, hT, hG⟩, ⟨b, bW, bA, bN, bT, bG⟩, ⟨hsy, fun _ => rfl⟩, ⟨rsp, rsc, rhl⟩, hsn, hob, hib, hg1, hg0, hhb⟩
theorem zE_wt' {x : Int32} (H : zE st ss sa say wa way wr ak nx tk go ob oby sp spy sc scy sn sny ib iby hl hly) : zE st ss sa say x x wr ak nx tk go ob oby sp spy sc scy sn sny ib iby hl hly := by
  obtain ⟨S, W, A, N, T, G, ⟨hS, hW, hA, hN, hT, hG⟩, ⟨bS, bW, bA, bN, bT, bG⟩, ⟨hsy, hwa⟩, ⟨rsp, rsc, rhl⟩, hsn, hob, hib, hg1, hg0, hhb⟩ := H
  exact ⟨S, W, A, N, T, G, ⟨hS, hW, hA, hN, hT, hG⟩, ⟨bS, bW, bA, bN, bT, bG⟩, ⟨hsy, fun _ => rfl⟩, ⟨rsp, rsc, rhl⟩, hsn, hob, hib, hg1, hg0, hhb⟩
theorem zE_syn {x y : Int32} (H : zE st ss sa say wa way wr ak nx tk go ob oby sp spy sc scy sn sny ib iby hl hly) : zE st x y y wa way wr ak nx tk go ob oby sp spy sc scy sn sny ib iby hl hly := by
  obtain ⟨S, W, A, N, T, G, ⟨hS, hW, hA, hN, hT, hG⟩, ⟨bS, bW, bA, bN, bT, bG⟩, ⟨hsy, hwa⟩, ⟨rsp, rsc, rhl⟩, hsn, hob, hib, hg1, hg0, hhb⟩ := H
  exact ⟨S, W, A, N, T, G, ⟨hS, hW, hA, hN, hT, hG⟩, ⟨bS, bW, bA, bN, bT, bG⟩, ⟨fun _ => rfl, hwa⟩, ⟨rsp, rsc, rhl⟩, hsn, hob, hib, hg1, hg0, hhb⟩
theorem zE_s0 (H : zE st ss sa say wa way wr ak nx tk go ob oby sp spy sc scy sn sny ib iby hl hly) : zE st 0 sa say wa way wr ak nx tk go ob oby sp spy sc scy sn sny ib iby hl hly := by
  obtain ⟨S, W, A, N, T, G, ⟨hS, hW, hA, hN, hT, hG⟩, ⟨bS, bW, bA, bN, bT, bG⟩, ⟨hsy, hwa⟩, ⟨rsp, rsc, rhl⟩, hsn, hob, hib, hg1, hg0, hhb⟩ := H
  exact ⟨S, W, A, N, T, G, ⟨hS, hW, hA, hN, hT, hG⟩, ⟨bS, bW, bA, bN, bT, bG⟩, ⟨fun h => absurd rfl h, hwa⟩, ⟨rsp, rsc, rhl⟩, hsn, hob, hib, hg1, hg0, hhb⟩
theorem zE_tk {T' G' : Nat} (H : zE st ss sa say wa way wr ak nx tk go ob oby sp spy sc scy sn sny ib iby hl hly) (h1 : go = nI G') (b1 : G' ≤ 121) (h : T' ≤ G') : zE st ss sa say wa way wr ak nx (nI T') go ob oby sp spy sc scy sn sny ib iby hl hly := by
  obtain ⟨S, W, A, N, T, G, ⟨hS, hW, hA, hN, hT, hG⟩, ⟨bS, bW, bA, bN, bT, bG⟩, ⟨hsy, hwa⟩, ⟨rsp, rsc, rhl⟩, hsn, hob, hib, hg1, hg0, hhb⟩ := H
  have e1 : G' = G := (nI_eq (by omega) (by omega)).mp (h1.symm.trans hG)
  subst e1
  exact ⟨S, W, A, N, T', G', ⟨hS, hW, hA, hN, rfl, hG⟩, ⟨bS, bW, bA, bN, h, bG⟩, ⟨hsy, hwa⟩, ⟨rsp, rsc, rhl⟩, hsn, hob, hib, hg1, hg0, hhb⟩
theorem zE_op {S' : Nat} (b : S' ≤ 11) (n : S' ≠ 9) : zE (nI S') 0 sa say wa way 0 0 0 0 0 (fun _ => 0) oby (fun _ => 0) (fun _ => 0) (fun _ => 0) (fun _ => 0) sn sny ib iby (fun _ => 0) (fun _ => 0) :=
  ⟨S', 0, 0, 0, 0, 0, ⟨rfl, rfl, rfl, rfl, rfl, rfl⟩, ⟨b, by omega, by omega, by omega, by omega, by omega⟩, ⟨fun h => absurd rfl h, fun h => absurd ((nI_eq (b := 9) (by omega) (by decide)).mp h) n⟩, ⟨rfl, rfl, rfl⟩,
    fun q h => absurd h (by omega), fun q h => absurd h (by omega), fun q h => absurd rfl h, fun q h => absurd h (by omega), rfl, fun _ => Or.inl rfl⟩
end
end
section
/-! opening -/
def zz_z (f : Nat → Int32) (q : Nat) : Nat → Int32 := fun p => if p < q then f p else 0
theorem zz_z_s (f : Nat → Int32) (q : Nat) : zz_z (upd f q 0) (q + 1) = zz_z f q := by
  funext p
  unfold zz_z
  by_cases h : p < q
  · rw [if_pos (by omega), if_pos h, pk_un (by omega)]
  · rw [if_neg h]
    by_cases h2 : p = q
    · rw [if_pos (by omega), h2, pk_us]
    · rw [if_neg (by omega)]
theorem zz_z_0 (f : Nat → Int32) : zz_z f 0 = fun _ => 0 := by
  funext p
  exact if_neg (by omega)
def zz_ZX (a a' : Nat → Int32) (e q : Nat) : Prop := rX a' e = zz_z (rX a e) q ∧ ∀ e', e' ≠ e → rX a' e' = rX a e'
def zz_ZY (a a' : Nat → Int32) (e q : Nat) : Prop := rY a' e = zz_z (rY a e) q ∧ ∀ e', e' ≠ e → rY a' e' = rY a e'
theorem zz_ZX_0 (a : Nat → Int32) (e : Nat) : zz_ZX a a e 121 := by
  refine ⟨?_, fun _ _ => rfl⟩
  funext p
  unfold zz_z
  by_cases h : p < 121
  · rw [if_pos h]
  · rw [if_neg h, rX_h (by omega)]
theorem zz_ZY_0 (a : Nat → Int32) (e : Nat) : zz_ZY a a e 160 := by
  refine ⟨?_, fun _ _ => rfl⟩
  funext p
  unfold zz_z
  by_cases h : p < 160
  · rw [if_pos h]
  · rw [if_neg h, rY_h (by omega)]
theorem zz_ZX_s {a a' : Nat → Int32} {e q : Nat} (hq : q < 121) (h : zz_ZX (upd a (e * 121 + q) 0) a' e (q + 1)) : zz_ZX a a' e q := by
  refine ⟨?_, fun e' n => (h.2 e' n).trans (rX_un hq n)⟩
  rw [h.1, rX_us hq, zz_z_s]
theorem zz_ZY_s {a a' : Nat → Int32} {e q : Nat} (hq : q < 160) (h : zz_ZY (upd a (e * 160 + q) 0) a' e (q + 1)) : zz_ZY a a' e q := by
  refine ⟨?_, fun e' n => (h.2 e' n).trans (rY_un hq n)⟩
  rw [h.1, rY_us hq, zz_z_s]
section
variable {w lf rt sr nw : Int32} {st ic pr ss sa wa wr sh ak nx li pc hd go tk en wh ow td ob sp sc sn ib hl kd so bo fr tt po ln fi sk ed ba ma sb : Nat → Int32} {e : Nat} {v : Int32}
theorem zx_open_l (he : e < 2) : ∀ d q (ob sp sc sn ib hl : Nat → Int32), q + d = 121 → ∃ ob' sp' sc' sn' ib' hl', (zz_ZX ob ob' e q ∧ zz_ZX sp sp' e q ∧ zz_ZX sc sc' e q ∧ zz_ZX sn sn' e q ∧ zz_ZX ib ib' e q ∧ zz_ZX hl hl' e q) ∧
    ∀ post : SX → Prop, post (w, lf, rt, sr, nw, st, ic, pr, ss, sa, wa, wr, sh, ak, nx, li, pc, hd, go, tk, en, wh, ow, td, ob', sp', sc', sn', ib', hl', kd, so, bo, fr, tt, po, ln, fi, sk, ed, ba, ma, sb) → wX_open_147 post (nI e) w lf rt sr nw (d + 1) (nI q) st ic pr ss sa wa wr sh ak nx li pc hd go tk en wh ow td ob sp sc sn ib hl kd so bo fr tt po ln fi sk ed ba ma sb := by
  intro d
  induction d with
  | zero =>
    intro q ob sp sc sn ib hl hq
    have e1 : q = 121 := by omega
    subst e1
    exact ⟨ob, sp, sc, sn, ib, hl, ⟨zz_ZX_0 _ _, zz_ZX_0 _ _, zz_ZX_0 _ _, zz_ZX_0 _ _, zz_ZX_0 _ _, zz_ZX_0 _ _⟩, fun post h => br_t (nI_lt (a := 120) (by decide) (by decide)) h⟩
  | succ d ih =>
    intro q ob sp sc sn ib hl hq
    obtain ⟨ob', sp', sc', sn', ib', hl', ⟨h1, h2, h3, h4, h5, h6⟩, H⟩ := ih (q + 1) (upd ob (e * 121 + q) 0) (upd sp (e * 121 + q) 0) (upd sc (e * 121 + q) 0) (upd sn (e * 121 + q) 0) (upd ib (e * 121 + q) 0) (upd hl (e * 121 + q) 0) (by omega)
    refine ⟨ob', sp', sc', sn', ib', hl', ⟨zz_ZX_s (by omega) h1, zz_ZX_s (by omega) h2, zz_ZX_s (by omega) h3, zz_ZX_s (by omega) h4, zz_ZX_s (by omega) h5, zz_ZX_s (by omega) h6⟩, fun post h => ?_⟩
    refine br_f (nI_nlt (a := 120) (by omega) (by decide)) (zx_cell ?_)
    have vc : vp_in (nI (e * 121 + q)) 242 := vp_in_nI (by omega) (by decide)
    rw [nI_clamp (by omega)]
    exact ⟨vc, nm_e ⟨vc, nm_e ⟨vc, nm_e ⟨vc, nm_e ⟨vc, nm_e ⟨vc, nm_e (nm_r (nI_1 q) (H post h))⟩⟩⟩⟩⟩⟩
theorem zx_open (he : e < 2) : ∃ ob' sp' sc' sn' ib' hl', (zz_ZX ob ob' e 0 ∧ zz_ZX sp sp' e 0 ∧ zz_ZX sc sc' e 0 ∧ zz_ZX sn sn' e 0 ∧ zz_ZX ib ib' e 0 ∧ zz_ZX hl hl' e 0) ∧
    ∀ post : SX → Prop, post (w, lf, rt, sr, nw, upd st e v, upd ic e (ic e + 1), upd pr e 0, upd ss e 0, upd sa e nw, upd wa e nw, upd wr e 0, upd sh e (vp_nar .boolean 0), upd ak e 0, upd nx e 0, upd li e 0, upd pc e 0, upd hd e nw, upd go e 0, upd tk e 0, upd en e (-1), upd wh e (vp_nar .boolean 0), upd ow e (vp_nar .boolean 0), upd td e 0, ob', sp', sc', sn', ib', hl', kd, so, bo, fr, tt, po, ln, fi, sk, ed, ba, ma, sb) → wpX_open post (w, lf, rt, sr, nw, st, ic, pr, ss, sa, wa, wr, sh, ak, nx, li, pc, hd, go, tk, en, wh, ow, td, ob, sp, sc, sn, ib, hl, kd, so, bo, fr, tt, po, ln, fi, sk, ed, ba, ma, sb) (nI e) v := by
  have ve : vp_in (nI e) 2 := vp_in_nI he (by decide)
  have ce : (nI e).toNatClampNeg = e := nI_clamp (by omega)
  obtain ⟨ob', sp', sc', sn', ib', hl', hh, H⟩ := zx_open_l (w := w) (lf := lf) (rt := rt) (sr := sr) (nw := nw) (st := upd st e v) (ic := upd ic e (ic e + 1)) (pr := upd pr e 0) (ss := upd ss e 0) (sa := upd sa e nw) (wa := upd wa e nw) (wr := upd wr e 0) (sh := upd sh e (vp_nar .boolean 0)) (ak := upd ak e 0) (nx := upd nx e 0) (li := upd li e 0) (pc := upd pc e 0) (hd := upd hd e nw) (go := upd go e 0) (tk := upd tk e 0) (en := upd en e (-1)) (wh := upd wh e (vp_nar .boolean 0)) (ow := upd ow e (vp_nar .boolean 0)) (td := upd td e 0) (kd := kd) (so := so) (bo := bo) (fr := fr) (tt := tt) (po := po) (ln := ln) (fi := fi) (sk := sk) (ed := ed) (ba := ba) (ma := ma) (sb := sb) he 121 0 ob sp sc sn ib hl rfl
  refine ⟨ob', sp', sc', sn', ib', hl', hh, fun post h => ?_⟩
  unfold wpX_open
  simp only [ce]
  exact ⟨ve, nm_e ⟨ve, ve, nm_e ⟨ve, nm_e ⟨ve, nm_e ⟨ve, nm_e ⟨ve, nm_e ⟨ve, nm_e ⟨ve, nm_e ⟨ve, nm_e ⟨ve, nm_e ⟨ve, nm_e ⟨ve, nm_e ⟨ve, nm_e ⟨ve, nm_e ⟨ve, nm_e ⟨ve, nm_e ⟨ve, nm_e ⟨ve, nm_e ⟨ve, nm_e ⟨122, H post h⟩⟩⟩⟩⟩⟩⟩⟩⟩⟩⟩⟩⟩⟩⟩⟩⟩⟩⟩⟩
end
section
variable {w lf rt sr nw : Int32} {st ic pr wr ak nx li pc hd tk en td ss say way sh wh ow oby iby scy sny spy hly kd so bo fr tt poy lny sky edy bay may fiy sby : Nat → Int32} {e : Nat} {v : Int32}
theorem zy_open_l (he : e < 2) : ∀ d q (spy hly scy : Nat → Int32), q + d = 160 → ∃ spy' hly' scy', (zz_ZY spy spy' e q ∧ zz_ZY hly hly' e q ∧ zz_ZY scy scy' e q) ∧
    ∀ post : Int32 → SY → Prop, post (ic e) (w, lf, rt, sr, nw, st, ic, pr, wr, ak, nx, li, pc, hd, tk, en, td, ss, say, way, sh, wh, ow, oby, iby, scy', sny, spy', hly', kd, so, bo, fr, tt, poy, lny, sky, edy, bay, may, fiy, sby) → wY_open_143 post (nI e) w lf rt sr nw (d + 1) (nI q) st ic pr wr ak nx li pc hd tk en td ss say way sh wh ow oby iby scy sny spy hly kd so bo fr tt poy lny sky edy bay may fiy sby := by
  have ve : vp_in (nI e) 2 := vp_in_nI he (by decide)
  have ce : (nI e).toNatClampNeg = e := nI_clamp (by omega)
  intro d
  induction d with
  | zero =>
    intro q spy hly scy hq
    have e1 : q = 160 := by omega
    subst e1
    refine ⟨spy, hly, scy, ⟨zz_ZY_0 _ _, zz_ZY_0 _ _, zz_ZY_0 _ _⟩, fun post h => br_t (nI_le (a := 160) (by decide) (by decide)) ⟨ve, ?_⟩⟩
    rw [ce]; exact h
  | succ d ih =>
    intro q spy hly scy hq
    obtain ⟨spy', hly', scy', ⟨h1, h2, h3⟩, H⟩ := ih (q + 1) (upd spy (e * 160 + q) 0) (upd hly (e * 160 + q) 0) (upd scy (e * 160 + q) 0) (by omega)
    refine ⟨spy', hly', scy', ⟨zz_ZY_s (by omega) h1, zz_ZY_s (by omega) h2, zz_ZY_s (by omega) h3⟩, fun post h => ?_⟩
    refine br_f (nI_ge (a := q) (b := 160) (by omega) (by decide)) ?_
    have vc : vp_in (nI (e * 160 + q)) 320 := vp_in_nI (by omega) (by decide)
    rw [zz_i160, nI_clamp (by omega)]
    exact ⟨vc, nm_e ⟨vc, nm_e ⟨vc, nm_e (nm_r (nI_1 q) (H post h))⟩⟩⟩
theorem zy_open (he : e < 2) (h0 : st e = 0) : ∃ spy' hly' scy', (zz_ZY spy spy' e 0 ∧ zz_ZY hly hly' e 0 ∧ zz_ZY scy scy' e 0) ∧
    ∀ post : Int32 → SY → Prop, post (upd ic e (ic e + 1) e) (w, lf, rt, sr, nw, upd st e v, upd ic e (ic e + 1), upd pr e 0, upd wr e 0, upd ak e 0, upd nx e 0, upd li e 0, upd pc e 0, upd hd e nw, upd tk e 0, upd en e (-1), upd td e 0, upd ss e 0, say, way, upd sh e (vp_nar .boolean 0), upd wh e (vp_nar .boolean 0), upd ow e (vp_nar .boolean 0), oby, iby, scy', sny, spy', hly', kd, so, bo, fr, tt, poy, lny, sky, edy, bay, may, fiy, sby) → wpY_open post (w, lf, rt, sr, nw, st, ic, pr, wr, ak, nx, li, pc, hd, tk, en, td, ss, say, way, sh, wh, ow, oby, iby, scy, sny, spy, hly, kd, so, bo, fr, tt, poy, lny, sky, edy, bay, may, fiy, sby) (nI e) v := by
  have ve : vp_in (nI e) 2 := vp_in_nI he (by decide)
  have ce : (nI e).toNatClampNeg = e := nI_clamp (by omega)
  obtain ⟨spy', hly', scy', hh, H⟩ := zy_open_l (w := w) (lf := lf) (rt := rt) (sr := sr) (nw := nw) (st := upd st e v) (ic := upd ic e (ic e + 1)) (pr := upd pr e 0) (ss := upd ss e 0) (say := say) (way := way) (wr := upd wr e 0) (sh := upd sh e (vp_nar .boolean 0)) (ak := upd ak e 0) (nx := upd nx e 0) (li := upd li e 0) (pc := upd pc e 0) (hd := upd hd e nw) (tk := upd tk e 0) (en := upd en e (-1)) (wh := upd wh e (vp_nar .boolean 0)) (ow := upd ow e (vp_nar .boolean 0)) (td := upd td e 0) (oby := oby) (iby := iby) (sny := sny) (kd := kd) (so := so) (bo := bo) (fr := fr) (tt := tt) (poy := poy) (lny := lny) (sky := sky) (edy := edy) (bay := bay) (may := may) (fiy := fiy) (sby := sby) he 160 0 spy hly scy rfl
  refine ⟨spy', hly', scy', hh, fun post h => ?_⟩
  unfold wpY_open
  simp only [ce]
  exact zy_good he (br_f (by decide) ⟨ve, br_t h0 ⟨ve, ve, nm_e ⟨ve, nm_e ⟨ve, nm_e ⟨ve, nm_e ⟨ve, nm_e ⟨ve, nm_e ⟨ve, nm_e ⟨ve, nm_e ⟨ve, nm_e ⟨ve, nm_e ⟨ve, nm_e ⟨ve, nm_e ⟨ve, nm_e ⟨ve, nm_e ⟨ve, nm_e ⟨ve, nm_e ⟨161, H post h⟩⟩⟩⟩⟩⟩⟩⟩⟩⟩⟩⟩⟩⟩⟩⟩⟩⟩)
theorem zy_open9 {post : Int32 → SY → Prop} (n0 : ¬ v = 0) (n1 : ¬ v = 1) {x : Int32} (h : post (-9) (w, lf, rt, sr, nw, st, ic, pr, wr, ak, nx, li, pc, hd, tk, en, td, ss, say, way, sh, wh, ow, oby, iby, scy, sny, spy, hly, kd, so, bo, fr, tt, poy, lny, sky, edy, bay, may, fiy, sby)) : wpY_open post (w, lf, rt, sr, nw, st, ic, pr, wr, ak, nx, li, pc, hd, tk, en, td, ss, say, way, sh, wh, ow, oby, iby, scy, sny, spy, hly, kd, so, bo, fr, tt, poy, lny, sky, edy, bay, may, fiy, sby) v x := by
  unfold wpY_open
  dsimp only
  exact zy_good0 n0 n1 (br_t (by trivial) h)
theorem zy_open8 {post : Int32 → SY → Prop} (he : e < 2) (h0 : ¬ st e = 0) {x : Int32} (h : post (-8) (w, lf, rt, sr, nw, st, ic, pr, wr, ak, nx, li, pc, hd, tk, en, td, ss, say, way, sh, wh, ow, oby, iby, scy, sny, spy, hly, kd, so, bo, fr, tt, poy, lny, sky, edy, bay, may, fiy, sby)) : wpY_open post (w, lf, rt, sr, nw, st, ic, pr, wr, ak, nx, li, pc, hd, tk, en, td, ss, say, way, sh, wh, ow, oby, iby, scy, sny, spy, hly, kd, so, bo, fr, tt, poy, lny, sky, edy, bay, may, fiy, sby) (nI e) x := by
  have ve : vp_in (nI e) 2 := vp_in_nI he (by decide)
  have ce : (nI e).toNatClampNeg = e := nI_clamp (by omega)
  unfold wpY_open
  simp only [ce]
  exact zy_good he (br_f (by decide) ⟨ve, br_f h0 h⟩)
end
section
variable {k : Nat} {w lf rt sr nw : Int32} {st ic pr ss sa wa wr sh ak nx li pc hd go tk en wh ow td ob sp sc sn ib hl kd so bo fr tt po ln fi sk ed ba ma sb say way oby iby scy sny spy hly poy lny sky edy bay may fiy sby : Nat → Int32}
theorem zm_connect (HE : zHE st ss sa say wa way wr ak nx tk go ob oby sp spy sc scy sn sny ib iby hl hly) (HS : zHS kd so po poy ln lny fi fiy sk sky ed edy ba bay ma may sb sby) (v1 : Int32) : wpX_connect (fun r u' => wpY_connect (fun r' v' => r' = r ∧ i_Rel (k + 4) u' v') (w, lf, rt, sr, nw, st, ic, pr, wr, ak, nx, li, pc, hd, tk, en, td, ss, say, way, sh, wh, ow, oby, iby, scy, sny, spy, hly, kd, so, bo, fr, tt, poy, lny, sky, edy, bay, may, fiy, sby) v1) (w, lf, rt, sr, nw, st, ic, pr, ss, sa, wa, wr, sh, ak, nx, li, pc, hd, go, tk, en, wh, ow, td, ob, sp, sc, sn, ib, hl, kd, so, bo, fr, tt, po, ln, fi, sk, ed, ba, ma, sb) v1 := by
  unfold wpX_connect wpY_connect
  dsimp only
  rcases zz_end v1 with ⟨e, he, rfl⟩ | ⟨n0, n1⟩
  · have ve : vp_in (nI e) 2 := vp_in_nI he (by decide)
    have ce : (nI e).toNatClampNeg = e := nI_clamp (by omega)
    simp only [ce]
    refine zx_isEnd he (br_f (by decide) ⟨ve, ?_⟩)
    by_cases h0 : st e = 0
    · refine br_t h0 ?_
      obtain ⟨ob', sp', sc', sn', ib', hl', ⟨h1, h2, h3, h4, h5, h6⟩, HX⟩ := zx_open (w := w) (lf := lf) (rt := rt) (sr := sr) (nw := nw) (st := st) (ic := ic) (pr := pr) (ss := ss) (sa := sa) (wa := wa) (wr := wr) (sh := sh) (ak := ak) (nx := nx) (li := li) (pc := pc) (hd := hd) (go := go) (tk := tk) (en := en) (wh := wh) (ow := ow) (td := td) (ob := ob) (sp := sp) (sc := sc) (sn := sn) (ib := ib) (hl := hl) (kd := kd) (so := so) (bo := bo) (fr := fr) (tt := tt) (po := po) (ln := ln) (fi := fi) (sk := sk) (ed := ed) (ba := ba) (ma := ma) (sb := sb) (v := 2) he
      obtain ⟨spy', hly', scy', ⟨h7, h8, h9⟩, HY⟩ := zy_open (w := w) (lf := lf) (rt := rt) (sr := sr) (nw := nw) (st := st) (ic := ic) (pr := pr) (wr := wr) (ak := ak) (nx := nx) (li := li) (pc := pc) (hd := hd) (tk := tk) (en := en) (td := td) (ss := ss) (say := say) (way := way) (sh := sh) (wh := wh) (ow := ow) (oby := oby) (iby := iby) (scy := scy) (sny := sny) (spy := spy) (hly := hly) (kd := kd) (so := so) (bo := bo) (fr := fr) (tt := tt) (poy := poy) (lny := lny) (sky := sky) (edy := edy) (bay := bay) (may := may) (fiy := fiy) (sby := sby) (v := 2) he h0
      refine HX _ ⟨ve, HY _ ⟨by trivial, zz_in (zHE_on HE ?_ (h_ob := h1.2) (h_sp := h2.2) (h_sc := h3.2) (h_sn := h4.2) (h_ib := h5.2) (h_hl := h6.2) (h_spy := h7.2) (h_hly := h8.2) (h_scy := h9.2)) HS⟩⟩
      simp only [pk_us]
      rw [h1.1, h2.1, h3.1, h6.1, h7.1, h8.1, h9.1]
      simp only [zz_z_0]
      exact zE_op (S' := 2) (by decide) (by decide)
    · exact br_f h0 (zy_open8 he h0 ⟨by trivial, zz_in HE HS⟩)
  · exact zx_isEnd0 n0 n1 (br_t (by trivial) (zy_open9 n0 n1 ⟨by trivial, zz_in HE HS⟩))
theorem zm_listen (HE : zHE st ss sa say wa way wr ak nx tk go ob oby sp spy sc scy sn sny ib iby hl hly) (HS : zHS kd so po poy ln lny fi fiy sk sky ed edy ba bay ma may sb sby) (v1 : Int32) : wpX_listen (fun r u' => wpY_listen (fun r' v' => r' = r ∧ i_Rel (k + 4) u' v') (w, lf, rt, sr, nw, st, ic, pr, wr, ak, nx, li, pc, hd, tk, en, td, ss, say, way, sh, wh, ow, oby, iby, scy, sny, spy, hly, kd, so, bo, fr, tt, poy, lny, sky, edy, bay, may, fiy, sby) v1) (w, lf, rt, sr, nw, st, ic, pr, ss, sa, wa, wr, sh, ak, nx, li, pc, hd, go, tk, en, wh, ow, td, ob, sp, sc, sn, ib, hl, kd, so, bo, fr, tt, po, ln, fi, sk, ed, ba, ma, sb) v1 := by
  unfold wpX_listen wpY_listen
  dsimp only
  rcases zz_end v1 with ⟨e, he, rfl⟩ | ⟨n0, n1⟩
  · have ve : vp_in (nI e) 2 := vp_in_nI he (by decide)
    have ce : (nI e).toNatClampNeg = e := nI_clamp (by omega)
    simp only [ce]
    refine zx_isEnd he (br_f (by decide) ⟨ve, ?_⟩)
    by_cases h0 : st e = 0
    · refine br_t h0 ?_
      obtain ⟨ob', sp', sc', sn', ib', hl', ⟨h1, h2, h3, h4, h5, h6⟩, HX⟩ := zx_open (w := w) (lf := lf) (rt := rt) (sr := sr) (nw := nw) (st := st) (ic := ic) (pr := pr) (ss := ss) (sa := sa) (wa := wa) (wr := wr) (sh := sh) (ak := ak) (nx := nx) (li := li) (pc := pc) (hd := hd) (go := go) (tk := tk) (en := en) (wh := wh) (ow := ow) (td := td) (ob := ob) (sp := sp) (sc := sc) (sn := sn) (ib := ib) (hl := hl) (kd := kd) (so := so) (bo := bo) (fr := fr) (tt := tt) (po := po) (ln := ln) (fi := fi) (sk := sk) (ed := ed) (ba := ba) (ma := ma) (sb := sb) (v := 1) he
      obtain ⟨spy', hly', scy', ⟨h7, h8, h9⟩, HY⟩ := zy_open (w := w) (lf := lf) (rt := rt) (sr := sr) (nw := nw) (st := st) (ic := ic) (pr := pr) (wr := wr) (ak := ak) (nx := nx) (li := li) (pc := pc) (hd := hd) (tk := tk) (en := en) (td := td) (ss := ss) (say := say) (way := way) (sh := sh) (wh := wh) (ow := ow) (oby := oby) (iby := iby) (scy := scy) (sny := sny) (spy := spy) (hly := hly) (kd := kd) (so := so) (bo := bo) (fr := fr) (tt := tt) (poy := poy) (lny := lny) (sky := sky) (edy := edy) (bay := bay) (may := may) (fiy := fiy) (sby := sby) (v := 1) he h0
      refine HX _ ⟨ve, HY _ ⟨by trivial, zz_in (zHE_on HE ?_ (h_ob := h1.2) (h_sp := h2.2) (h_sc := h3.2) (h_sn := h4.2) (h_ib := h5.2) (h_hl := h6.2) (h_spy := h7.2) (h_hly := h8.2) (h_scy := h9.2)) HS⟩⟩
      simp only [pk_us]
      rw [h1.1, h2.1, h3.1, h6.1, h7.1, h8.1, h9.1]
      simp only [zz_z_0]
      exact zE_op (S' := 1) (by decide) (by decide)
    · exact br_f h0 (zy_open8 he h0 ⟨by trivial, zz_in HE HS⟩)
  · exact zx_isEnd0 n0 n1 (br_t (by trivial) (zy_open9 n0 n1 ⟨by trivial, zz_in HE HS⟩))
end
end
section
/-! shut, abort, read, drop, duplicate -/
theorem zS_cg {kd so po poy ln lny fi fiy sk sky ed edy ba bay ma may : Int32} {sb sby : Nat → Int32} (f : Int32 → Int32) (H : zS kd so po poy ln lny fi fiy sk sky ed edy ba bay ma may sb sby) : zS kd so po poy ln lny (f fi) (f fiy) sk sky ed edy ba bay ma may sb sby := by
  intro h
  obtain ⟨h1, h2, h3, h4⟩ := H h
  refine ⟨h1, h2, h3, fun k => ?_⟩
  obtain ⟨⟨a, b, c, d, e, f', g⟩, r⟩ := h4 k
  exact ⟨⟨a, b, c, by rw [d], e, f', g⟩, r⟩
section
variable {w lf rt sr nw : Int32} {st ic pr ss sa wa wr sh ak nx li pc hd go tk en wh ow td ob sp sc sn ib hl kd so bo fr tt po ln fi sk ed ba ma sb : Nat → Int32} {s c : Nat}
theorem zx_dup_l (hs : s < 12) (hc : c < 12) (n : s ≠ c) : ∀ d i (sb : Nat → Int32), i + d = 4 → ∃ sb', (∀ s', s' ≠ c → rB sb' s' = rB sb s') ∧ (∀ j, j < i → rB sb' c j = rB sb c j) ∧ (∀ j, i ≤ j → rB sb' c j = rB sb s j) ∧
    ∀ post : Int32 → SX → Prop, post (nI c) (w, lf, rt, sr, nw, st, ic, pr, ss, sa, wa, wr, sh, ak, nx, li, pc, hd, go, tk, en, wh, ow, td, ob, sp, sc, sn, ib, hl, kd, so, bo, fr, tt, po, ln, fi, sk, ed, ba, ma, sb') → wX_duplicate_169 post (nI s) (nI c) w lf rt sr nw (d + 1) (nI i) st ic pr ss sa wa wr sh ak nx li pc hd go tk en wh ow td ob sp sc sn ib hl kd so bo fr tt po ln fi sk ed ba ma sb := by
  intro d
  induction d with
  | zero =>
    intro i sb hi
    refine ⟨sb, fun _ _ => rfl, fun _ _ => rfl, fun j hj => ?_, fun post h => br_t (nI_le (a := 4) (by omega) (by omega)) h⟩
    exact (if_neg (by omega)).trans (if_neg (by omega)).symm
  | succ d ih =>
    intro i sb hi
    obtain ⟨sb', h1, h2, h3, H⟩ := ih (i + 1) (upd sb (c * 4 + i) (sb (s * 4 + i))) (by omega)
    refine ⟨sb', fun s' m => (h1 s' m).trans (rB_un (by omega) m), fun j hj => ?_, fun j hj => ?_, fun post h => br_f (nI_ge (a := i) (b := 4) (by omega) (by decide)) ?_⟩
    · rw [h2 j (by omega), rB_us (by omega), pk_un (by omega)]
    · by_cases e1 : j = i
      · subst e1
        rw [h2 j (by omega), rB_us (by omega), pk_us, rB_g (by omega)]
      · rw [h3 j (by omega), rB_un (by omega) n]
    · have c1 : (nI (s * 4 + i)).toNatClampNeg = s * 4 + i := nI_clamp (by omega)
      have c2 : (nI (c * 4 + i)).toNatClampNeg = c * 4 + i := nI_clamp (by omega)
      rw [zz_i4, zz_i4, c1, c2]
      exact ⟨vp_in_nI (by omega) (by decide), vp_in_nI (by omega) (by decide), nm_e (nm_r (nI_1 i) (H post h))⟩
end
section
variable {w lf rt sr nw : Int32} {st ic pr wr ak nx li pc hd tk en td ss say way sh wh ow oby iby scy sny spy hly kd so bo fr tt poy lny sky edy bay may fiy sby : Nat → Int32} {s c : Nat}
theorem zy_dup_l (hs : s < 12) (hc : c < 12) (n : s ≠ c) : ∀ d i (sby : Nat → Int32), i + d = 4 → ∃ sby', (∀ s', s' ≠ c → rB sby' s' = rB sby s') ∧ (∀ j, j < i → rB sby' c j = rB sby c j) ∧ (∀ j, i ≤ j → rB sby' c j = rB sby s j) ∧
    ∀ post : Int32 → SY → Prop, post (nI c) (w, lf, rt, sr, nw, st, ic, pr, wr, ak, nx, li, pc, hd, tk, en, td, ss, say, way, sh, wh, ow, oby, iby, scy, sny, spy, hly, kd, so, bo, fr, tt, poy, lny, sky, edy, bay, may, fiy, sby') → wY_duplicate_169 post (nI s) (nI c) w lf rt sr nw (d + 1) (nI i) st ic pr wr ak nx li pc hd tk en td ss say way sh wh ow oby iby scy sny spy hly kd so bo fr tt poy lny sky edy bay may fiy sby := by
  intro d
  induction d with
  | zero =>
    intro i sby hi
    refine ⟨sby, fun _ _ => rfl, fun _ _ => rfl, fun j hj => ?_, fun post h => br_t (nI_le (a := 4) (by omega) (by omega)) h⟩
    exact (if_neg (by omega)).trans (if_neg (by omega)).symm
  | succ d ih =>
    intro i sby hi
    obtain ⟨sby', h1, h2, h3, H⟩ := ih (i + 1) (upd sby (c * 4 + i) (sby (s * 4 + i))) (by omega)
    refine ⟨sby', fun s' m => (h1 s' m).trans (rB_un (by omega) m), fun j hj => ?_, fun j hj => ?_, fun post h => br_f (nI_ge (a := i) (b := 4) (by omega) (by decide)) ?_⟩
    · rw [h2 j (by omega), rB_us (by omega), pk_un (by omega)]
    · by_cases e1 : j = i
      · subst e1
        rw [h2 j (by omega), rB_us (by omega), pk_us, rB_g (by omega)]
      · rw [h3 j (by omega), rB_un (by omega) n]
    · have c1 : (nI (s * 4 + i)).toNatClampNeg = s * 4 + i := nI_clamp (by omega)
      have c2 : (nI (c * 4 + i)).toNatClampNeg = c * 4 + i := nI_clamp (by omega)
      rw [zz_i4, zz_i4, c1, c2]
      exact ⟨vp_in_nI (by omega) (by decide), vp_in_nI (by omega) (by decide), nm_e (nm_r (nI_1 i) (H post h))⟩
end
def zz_ro (z go td : Int32) (ow : Nat → Int32) (e : Nat) : Nat → Int32 := if z = 0 then ow else if go < td then ow else upd ow e (vp_nar .boolean 1)
section
variable {w lf rt sr nw : Int32} {st ic pr ss sa wa wr sh ak nx li pc hd go tk en wh ow td ob sp sc sn ib hl kd so bo fr tt po ln fi sk ed ba ma sb : Nat → Int32} {e T : Nat} {z : Int32}
theorem zx_read94 {post : Int32 → SX → Prop} (he : e < 2) (hT : tk e = nI T) (bT : T ≤ 120) (h : post (ib (e * 121 + T)) (w, lf, rt, sr, nw, st, ic, pr, ss, sa, wa, wr, sh, ak, nx, li, pc, hd, go, upd tk e (tk e + 1), en, wh, ow, td, ob, sp, sc, sn, ib, hl, kd, so, bo, fr, tt, po, ln, fi, sk, ed, ba, ma, sb)) : wX_read_94 post (nI e) (tk e) w lf rt sr nw st ic pr ss sa wa wr sh ak nx li pc hd go tk en wh ow td ob sp sc sn ib hl kd so bo fr tt po ln fi sk ed ba ma sb := by
  have ve : vp_in (nI e) 2 := vp_in_nI he (by decide)
  have ce : (nI e).toNatClampNeg = e := nI_clamp (by omega)
  unfold wX_read_94
  rw [ce]
  refine ⟨ve, nm_e ?_⟩
  have hc : ∀ {P : Int32 → Prop} {u : SX}, wpX_cell P u (nI e) (nI T) → wpX_cell P u (nI e) (tk e) := fun h => by rw [hT]; exact h
  refine hc (zx_cell ⟨vp_in_nI (by omega) (by decide), ?_⟩)
  rw [nI_clamp (by omega)]
  exact h
theorem zx_read65 {post : Int32 → SX → Prop} (he : e < 2) (hT : tk e = nI T) (bT : T ≤ 120) (h : post (ib (e * 121 + T)) (w, lf, rt, sr, nw, st, ic, pr, ss, sa, wa, wr, sh, ak, nx, li, pc, hd, go, upd tk e (tk e + 1), en, wh, zz_ro z (go e) (td e) ow e, td, ob, sp, sc, sn, ib, hl, kd, so, bo, fr, tt, po, ln, fi, sk, ed, ba, ma, sb)) : wX_read_65 post (nI e) (tk e) z w lf rt sr nw st ic pr ss sa wa wr sh ak nx li pc hd go tk en wh ow td ob sp sc sn ib hl kd so bo fr tt po ln fi sk ed ba ma sb := by
  have ve : vp_in (nI e) 2 := vp_in_nI he (by decide)
  have ce : (nI e).toNatClampNeg = e := nI_clamp (by omega)
  unfold wX_read_65
  rw [ce]
  unfold zz_ro at h
  by_cases h0 : z = 0
  · rw [if_pos h0] at h
    exact br_t h0 (zx_read94 he hT bT h)
  · rw [if_neg h0] at h
    refine br_f h0 ⟨ve, ve, ?_⟩
    by_cases h8 : go e < td e
    · rw [if_pos h8] at h
      exact br_t h8 (zx_read94 he hT bT h)
    · rw [if_neg h8] at h
      exact br_f h8 ⟨ve, nm_e (zx_read94 he hT bT h)⟩
end
section
variable {w lf rt sr nw : Int32} {st ic pr wr ak nx li pc hd tk en td ss say way sh wh ow oby iby scy sny spy hly kd so bo fr tt poy lny sky edy bay may fiy sby : Nat → Int32} {e T : Nat} {z g : Int32}
theorem zy_read103 {post : Int32 → SY → Prop} (he : e < 2) (hT : tk e = nI T) (bT : T ≤ 120) (h : post (iby (e * 160 + T)) (w, lf, rt, sr, nw, st, ic, pr, wr, ak, nx, li, pc, hd, upd tk e (tk e + 1), en, td, ss, say, way, sh, wh, ow, oby, iby, scy, sny, spy, hly, kd, so, bo, fr, tt, poy, lny, sky, edy, bay, may, fiy, sby)) : wY_read_103 post (nI e) w lf rt sr nw st ic pr wr ak nx li pc hd tk en td ss say way sh wh ow oby iby scy sny spy hly kd so bo fr tt poy lny sky edy bay may fiy sby := by
  have ve : vp_in (nI e) 2 := vp_in_nI he (by decide)
  have ce : (nI e).toNatClampNeg = e := nI_clamp (by omega)
  have e1 : nI e * 160 + upd tk e (tk e + 1) e - 1 = nI (e * 160 + T) := by
    rw [pk_us, hT, nI_1, zz_i160, show e * 160 + (T + 1) = e * 160 + T + 1 from rfl, nI_pred]
  unfold wY_read_103
  rw [ce]
  refine ⟨ve, ve, nm_e ⟨ve, ?_⟩⟩
  rw [e1, nI_clamp (by omega)]
  exact ⟨vp_in_nI (by omega) (by decide), h⟩
theorem zy_read81 {post : Int32 → SY → Prop} (he : e < 2) (hT : tk e = nI T) (bT : T ≤ 120) (h : post (iby (e * 160 + T)) (w, lf, rt, sr, nw, st, ic, pr, wr, ak, nx, li, pc, hd, upd tk e (tk e + 1), en, td, ss, say, way, sh, wh, zz_ro z g (td e) ow e, oby, iby, scy, sny, spy, hly, kd, so, bo, fr, tt, poy, lny, sky, edy, bay, may, fiy, sby)) : wY_read_81 post (nI e) g z w lf rt sr nw st ic pr wr ak nx li pc hd tk en td ss say way sh wh ow oby iby scy sny spy hly kd so bo fr tt poy lny sky edy bay may fiy sby := by
  have ve : vp_in (nI e) 2 := vp_in_nI he (by decide)
  have ce : (nI e).toNatClampNeg = e := nI_clamp (by omega)
  unfold wY_read_81
  rw [ce]
  unfold zz_ro at h
  by_cases h0 : z = 0
  · rw [if_pos h0] at h
    exact br_t h0 (zy_read103 he hT bT h)
  · rw [if_neg h0] at h
    refine br_f h0 ⟨ve, ?_⟩
    by_cases h8 : g < td e
    · rw [if_pos h8] at h
      exact br_t h8 (zy_read103 he hT bT h)
    · rw [if_neg h8] at h
      exact br_f h8 ⟨ve, nm_e (zy_read103 he hT bT h)⟩
end
section
variable {k : Nat} {w lf rt sr nw : Int32} {st ic pr ss sa wa wr sh ak nx li pc hd go tk en wh ow td ob sp sc sn ib hl kd so bo fr tt po ln fi sk ed ba ma sb say way oby iby scy sny spy hly poy lny sky edy bay may fiy sby : Nat → Int32}
theorem zm_duplicate (HE : zHE st ss sa say wa way wr ak nx tk go ob oby sp spy sc scy sn sny ib iby hl hly) (HS : zHS kd so po poy ln lny fi fiy sk sky ed edy ba bay ma may sb sby) (v1 : Int32) : wpX_duplicate (fun r u' => wpY_duplicate (fun r' v' => r' = r ∧ i_Rel (k + 4) u' v') (w, lf, rt, sr, nw, st, ic, pr, wr, ak, nx, li, pc, hd, tk, en, td, ss, say, way, sh, wh, ow, oby, iby, scy, sny, spy, hly, kd, so, bo, fr, tt, poy, lny, sky, edy, bay, may, fiy, sby) v1) (w, lf, rt, sr, nw, st, ic, pr, ss, sa, wa, wr, sh, ak, nx, li, pc, hd, go, tk, en, wh, ow, td, ob, sp, sc, sn, ib, hl, kd, so, bo, fr, tt, po, ln, fi, sk, ed, ba, ma, sb) v1 := by
  unfold wpX_duplicate wpY_duplicate
  dsimp only
  rcases zz_slot kd v1 with ⟨s, hs, rfl, hk⟩ | hno
  · have vs : vp_in (nI s) 12 := vp_in_nI hs (by decide)
    have cs : (nI s).toNatClampNeg = s := nI_clamp (by omega)
    simp only [cs]
    refine zx_isSeg hs hk (br_f (by decide) (zx_free ?_))
    rcases zz_fr_p kd 12 0 rfl with h1 | ⟨c, hc, hk0, h1⟩
    · rw [h1]
      refine br_f (by decide) (zy_goodS hs hk (br_f (by decide) (zy_free ?_)))
      rw [h1]
      exact br_f (by decide) ⟨by trivial, zz_in HE HS⟩
    · rw [h1]
      have vc : vp_in (nI c) 12 := vp_in_nI hc (by decide)
      have cc : (nI c).toNatClampNeg = c := nI_clamp (by omega)
      have n : s ≠ c := fun e1 => hk (by rw [e1]; exact hk0)
      rw [cc]
      obtain ⟨sb', h2, _, h3, HX⟩ := zx_dup_l (w := w) (lf := lf) (rt := rt) (sr := sr) (nw := nw) (st := st) (ic := ic) (pr := pr) (ss := ss) (sa := sa) (wa := wa) (wr := wr) (sh := sh) (ak := ak) (nx := nx) (li := li) (pc := pc) (hd := hd) (go := go) (tk := tk) (en := en) (wh := wh) (ow := ow) (td := td) (ob := ob) (sp := sp) (sc := sc) (sn := sn) (ib := ib) (hl := hl) (kd := upd kd c (kd s)) (so := upd so c (so s)) (bo := upd bo c (bo s)) (fr := upd fr c (fr s)) (tt := upd tt c (tt s)) (po := upd po c (po s)) (ln := upd ln c (ln s)) (fi := upd fi c (vp_nar .boolean (fi s))) (sk := upd sk c (sk s)) (ed := upd ed c (ed s)) (ba := upd ba c (ba s)) (ma := upd ma c (ma s)) hs hc n 4 0 sb rfl
      obtain ⟨sby', h4, _, h5, HY⟩ := zy_dup_l (w := w) (lf := lf) (rt := rt) (sr := sr) (nw := nw) (st := st) (ic := ic) (pr := pr) (wr := wr) (ak := ak) (nx := nx) (li := li) (pc := pc) (hd := hd) (tk := tk) (en := en) (td := td) (ss := ss) (say := say) (way := way) (sh := sh) (wh := wh) (ow := ow) (oby := oby) (iby := iby) (scy := scy) (sny := sny) (spy := spy) (hly := hly) (kd := upd kd c (kd s)) (so := upd so c (so s)) (bo := upd bo c (bo s)) (fr := upd fr c (fr s)) (tt := upd tt c (tt s)) (poy := upd poy c (poy s)) (lny := upd lny c (lny s)) (sky := upd sky c (sky s)) (edy := upd edy c (edy s)) (bay := upd bay c (bay s)) (may := upd may c (may s)) (fiy := upd fiy c (vp_nar .boolean (fiy s))) hs hc n 4 0 sby rfl
      refine br_t (nI_pos' (by omega)) ⟨vs, vc, nm_e ⟨vs, vc, nm_e ⟨vs, vc, nm_e ⟨vs, vc, nm_e ⟨vs, vc, nm_e ⟨vs, vc, nm_e ⟨vs, vc, nm_e ⟨vs, vc, nm_e ⟨vs, vc, nm_e ⟨vs, vc, nm_e ⟨vs, vc, nm_e ⟨vs, vc, nm_e ⟨5, HX _ ?_⟩⟩⟩⟩⟩⟩⟩⟩⟩⟩⟩⟩⟩
      refine zy_goodS hs hk (br_f (by decide) (zy_free ?_))
      rw [h1, cc]
      refine br_t (nI_pos' (by omega)) ⟨vs, vc, nm_e ⟨vs, vc, nm_e ⟨vs, vc, nm_e ⟨vs, vc, nm_e ⟨vs, vc, nm_e ⟨vs, vc, nm_e ⟨vs, vc, nm_e ⟨vs, vc, nm_e ⟨vs, vc, nm_e ⟨vs, vc, nm_e ⟨vs, vc, nm_e ⟨vs, vc, nm_e ⟨5, HY _ ⟨by trivial, zz_in HE (zHS_on (s := c) HS ?_)⟩⟩⟩⟩⟩⟩⟩⟩⟩⟩⟩⟩⟩⟩
      have e1 : rB sb' c = rB sb s := funext fun j => h3 j (Nat.zero_le j)
      have e2 : rB sby' c = rB sby s := funext fun j => h5 j (Nat.zero_le j)
      simp only [pk_us, e1, e2]
      exact zS_cg _ (HS s hs)
  · exact zx_isSeg0 hno (br_t (by trivial) (zy_goodS0 hno (br_t (by trivial) ⟨by trivial, zz_in HE HS⟩)))
theorem zm_drop (HE : zHE st ss sa say wa way wr ak nx tk go ob oby sp spy sc scy sn sny ib iby hl hly) (HS : zHS kd so po poy ln lny fi fiy sk sky ed edy ba bay ma may sb sby) (v1 : Int32) : wpX_drop (fun r u' => wpY_drop (fun r' v' => r' = r ∧ i_Rel (k + 4) u' v') (w, lf, rt, sr, nw, st, ic, pr, wr, ak, nx, li, pc, hd, tk, en, td, ss, say, way, sh, wh, ow, oby, iby, scy, sny, spy, hly, kd, so, bo, fr, tt, poy, lny, sky, edy, bay, may, fiy, sby) v1) (w, lf, rt, sr, nw, st, ic, pr, ss, sa, wa, wr, sh, ak, nx, li, pc, hd, go, tk, en, wh, ow, td, ob, sp, sc, sn, ib, hl, kd, so, bo, fr, tt, po, ln, fi, sk, ed, ba, ma, sb) v1 := by
  unfold wpX_drop wpY_drop
  dsimp only
  rcases zz_slot kd v1 with ⟨s, hs, rfl, hk⟩ | hno
  · have vs : vp_in (nI s) 12 := vp_in_nI hs (by decide)
    have cs : (nI s).toNatClampNeg = s := nI_clamp (by omega)
    simp only [cs]
    exact zx_isSeg hs hk (br_f (by decide) ⟨vs, nm_e (zy_goodS hs hk (br_f (by decide) ⟨vs, nm_e ⟨by trivial, zz_in HE (zHS_on (s := s) HS (by rw [pk_us]; exact zS_0))⟩⟩))⟩)
  · exact zx_isSeg0 hno (br_t (by trivial) (zy_goodS0 hno (br_t (by trivial) ⟨by trivial, zz_in HE HS⟩)))
theorem zm_shut (HE : zHE st ss sa say wa way wr ak nx tk go ob oby sp spy sc scy sn sny ib iby hl hly) (HS : zHS kd so po poy ln lny fi fiy sk sky ed edy ba bay ma may sb sby) (v1 : Int32) : wpX_shut (fun r u' => wpY_shut (fun r' v' => r' = r ∧ i_Rel (k + 4) u' v') (w, lf, rt, sr, nw, st, ic, pr, wr, ak, nx, li, pc, hd, tk, en, td, ss, say, way, sh, wh, ow, oby, iby, scy, sny, spy, hly, kd, so, bo, fr, tt, poy, lny, sky, edy, bay, may, fiy, sby) v1) (w, lf, rt, sr, nw, st, ic, pr, ss, sa, wa, wr, sh, ak, nx, li, pc, hd, go, tk, en, wh, ow, td, ob, sp, sc, sn, ib, hl, kd, so, bo, fr, tt, po, ln, fi, sk, ed, ba, ma, sb) v1 := by
  unfold wpX_shut wpY_shut wX_shut_57 wY_shut_35
  dsimp only
  rcases zz_end v1 with ⟨e, he, rfl⟩ | ⟨n0, n1⟩
  · have ve : vp_in (nI e) 2 := vp_in_nI he (by decide)
    have ce : (nI e).toNatClampNeg = e := nI_clamp (by omega)
    simp only [ce]
    refine zx_isEnd he (br_f (by decide) ⟨ve, ?_⟩)
    by_cases h5 : st e = 5
    · refine br_t h5 ⟨ve, nm_e ⟨ve, nm_e ⟨ve, zy_good he (br_f (by decide) ⟨ve, br_t h5 ⟨ve, nm_e ⟨ve, br_t h5 ⟨ve, nm_e ⟨ve, by trivial, zz_in (zHE_on (e := e) HE ?_) HS⟩⟩⟩⟩⟩)⟩⟩⟩
      simp only [pk_us]
      exact zE_st (S' := 6) (HE e he) (by decide) (by decide)
    · refine br_f h5 ⟨ve, ?_⟩
      by_cases h10 : st e = 10
      · refine br_t h10 ⟨ve, nm_e ⟨ve, nm_e ⟨ve, zy_good he (br_f (by decide) ⟨ve, br_f h5 ⟨ve, br_t h10 ⟨ve, nm_e ⟨ve, br_f h5 ⟨ve, nm_e ⟨ve, by trivial, zz_in (zHE_on (e := e) HE ?_) HS⟩⟩⟩⟩⟩⟩)⟩⟩⟩
        simp only [pk_us]
        exact zE_st (S' := 11) (HE e he) (by decide) (by decide)
      · exact br_f h10 (zy_good he (br_f (by decide) ⟨ve, br_f h5 ⟨ve, br_f h10 ⟨by trivial, zz_in HE HS⟩⟩⟩))
  · exact zx_isEnd0 n0 n1 (br_t (by trivial) (zy_good0 n0 n1 (br_t (by trivial) ⟨by trivial, zz_in HE HS⟩)))
theorem zm_abort (HE : zHE st ss sa say wa way wr ak nx tk go ob oby sp spy sc scy sn sny ib iby hl hly) (HS : zHS kd so po poy ln lny fi fiy sk sky ed edy ba bay ma may sb sby) (v1 : Int32) : wpX_abort (fun r u' => wpY_abort (fun r' v' => r' = r ∧ i_Rel (k + 4) u' v') (w, lf, rt, sr, nw, st, ic, pr, wr, ak, nx, li, pc, hd, tk, en, td, ss, say, way, sh, wh, ow, oby, iby, scy, sny, spy, hly, kd, so, bo, fr, tt, poy, lny, sky, edy, bay, may, fiy, sby) v1) (w, lf, rt, sr, nw, st, ic, pr, ss, sa, wa, wr, sh, ak, nx, li, pc, hd, go, tk, en, wh, ow, td, ob, sp, sc, sn, ib, hl, kd, so, bo, fr, tt, po, ln, fi, sk, ed, ba, ma, sb) v1 := by
  unfold wpX_abort wpY_abort
  dsimp only
  rcases zz_end v1 with ⟨e, he, rfl⟩ | ⟨n0, n1⟩
  · have ve : vp_in (nI e) 2 := vp_in_nI he (by decide)
    have ce : (nI e).toNatClampNeg = e := nI_clamp (by omega)
    simp only [ce]
    refine zx_isEnd he (br_f (by decide) ⟨ve, nm_e ?_⟩)
    by_cases h0 : st e = 0
    · exact br_t h0 (zy_good he (br_f (by decide) ⟨ve, nm_e (br_t h0 ⟨by trivial, zz_in HE HS⟩)⟩))
    by_cases h9 : st e = 9
    · exact br_f h0 (br_t h9 (zy_good he (br_f (by decide) ⟨ve, nm_e (br_f h0 (br_t h9 ⟨by trivial, zz_in HE HS⟩))⟩)))
    have HE' : zHE (upd st e 0) ss sa say wa way wr ak nx tk go ob oby sp spy sc scy sn sny ib iby hl hly := by
      refine zHE_on (e := e) HE ?_
      simp only [pk_us]
      exact zE_st (S' := 0) (HE e he) (by decide) (by decide)
    refine br_f h0 (br_f h9 ⟨ve, nm_e ?_⟩)
    by_cases h1 : st e = 1
    · exact br_t h1 (zy_good he (br_f (by decide) ⟨ve, nm_e (br_f h0 (br_f h9 ⟨ve, nm_e (zy_free (br_t h1 ⟨by trivial, zz_in HE' HS⟩))⟩))⟩))
    refine br_f h1 ?_
    by_cases h2 : st e = 2
    · exact br_t h2 (zy_good he (br_f (by decide) ⟨ve, nm_e (br_f h0 (br_f h9 ⟨ve, nm_e (zy_free (br_f h1 (br_t h2 ⟨by trivial, zz_in HE' HS⟩)))⟩))⟩))
    refine br_f h2 (zx_free ?_)
    rcases zz_fr_p kd 12 0 rfl with k1 | ⟨s, hs, hk0, k1⟩
    · rw [k1]
      refine br_f (by decide) (zy_good he (br_f (by decide) ⟨ve, nm_e (br_f h0 (br_f h9 ⟨ve, nm_e (zy_free (br_f h1 (br_f h2 ?_)))⟩))⟩))
      rw [k1]
      exact br_f (by decide) ⟨by trivial, zz_in HE' HS⟩
    · rw [k1]
      have vs : vp_in (nI s) 12 := vp_in_nI hs (by decide)
      have cs : (nI s).toNatClampNeg = s := nI_clamp (by omega)
      obtain ⟨sb', h3, HX⟩ := zx_put (K := 4) (a := nI e) (b := ic e) (c := pr e) (w := w) (lf := lf) (rt := rt) (sr := sr) (nw := nw) (st := upd st e 0) (ic := ic) (pr := pr) (ss := ss) (sa := sa) (wa := wa) (wr := wr) (sh := sh) (ak := ak) (nx := nx) (li := li) (pc := pc) (hd := hd) (go := go) (tk := tk) (en := en) (wh := wh) (ow := ow) (td := td) (ob := ob) (sp := sp) (sc := sc) (sn := sn) (ib := ib) (hl := hl) (kd := kd) (so := so) (bo := bo) (fr := fr) (tt := tt) (po := po) (ln := ln) (fi := fi) (sk := sk) (ed := ed) (ba := ba) (ma := ma) (sb := sb) hs
      refine br_t (nI_pos' (by omega)) ⟨ve, ve, HX _ ?_⟩
      refine zy_good he (br_f (by decide) ⟨ve, nm_e (br_f h0 (br_f h9 ⟨ve, nm_e (zy_free (br_f h1 (br_f h2 ?_)))⟩))⟩)
      rw [k1, cs]
      refine br_t (nI_pos' (by omega)) ⟨vs, nm_e ⟨vs, nm_e ⟨ve, vs, nm_e ⟨ve, vs, nm_e ⟨vs, nm_e ⟨by trivial, zz_in HE' (zHS_on (s := s) HS ?_)⟩⟩⟩⟩⟩⟩
      simp only [pk_us]
      exact zS_nd (Or.inr rfl) he
  · exact zx_isEnd0 n0 n1 (br_t (by trivial) (zy_good0 n0 n1 (br_t (by trivial) ⟨by trivial, zz_in HE HS⟩)))
theorem zm_read (HE : zHE st ss sa say wa way wr ak nx tk go ob oby sp spy sc scy sn sny ib iby hl hly) (HS : zHS kd so po poy ln lny fi fiy sk sky ed edy ba bay ma may sb sby) (v1 : Int32) : wpX_read (fun r u' => wpY_read (fun r' v' => r' = r ∧ i_Rel (k + 4) u' v') (w, lf, rt, sr, nw, st, ic, pr, wr, ak, nx, li, pc, hd, tk, en, td, ss, say, way, sh, wh, ow, oby, iby, scy, sny, spy, hly, kd, so, bo, fr, tt, poy, lny, sky, edy, bay, may, fiy, sby) v1) (w, lf, rt, sr, nw, st, ic, pr, ss, sa, wa, wr, sh, ak, nx, li, pc, hd, go, tk, en, wh, ow, td, ob, sp, sc, sn, ib, hl, kd, so, bo, fr, tt, po, ln, fi, sk, ed, ba, ma, sb) v1 := by
  rcases zz_end v1 with ⟨e, he, rfl⟩ | ⟨n0, n1⟩
  · have ve : vp_in (nI e) 2 := vp_in_nI he (by decide)
    have ce : (nI e).toNatClampNeg = e := nI_clamp (by omega)
    obtain ⟨S, W, A, N, T, G, ⟨hS, hW, hA, hN, hT, hG⟩, ⟨bS, bW, bA, bN, bT, bG⟩, ⟨hsy, hwa⟩, ⟨rsp, rsc, rhl⟩, hsn, hob, hib, hg1, hg0, hhb⟩ := HE e he
    have g1 : ∀ q, q < G → ¬ rY hly e q = 0 := by rw [rhl]; exact hg1
    have g0 : rY hly e G = 0 := by rw [rhl]; exact hg0
    unfold wpX_read
    simp only [ce]
    refine zx_isEnd he (br_f (by decide) ⟨ve, nm_e ⟨ve, ?_⟩⟩)
    by_cases lT : T < G
    · have h1 : ¬ go e ≤ tk e := by rw [hG, hT]; exact nI_ge lT (by omega)
      have h1' : tk e < nI G := by rw [hT]; exact nI_lt lT (by omega)
      have e2 : iby (e * 160 + T) = ib (e * 121 + T) := by
        rw [← rY_g (a := iby) (by omega), hib T (hg1 T lT), rX_g (by omega)]
      have HE' : zHE st ss sa say wa way wr ak nx (upd tk e (tk e + 1)) go ob oby sp spy sc scy sn sny ib iby hl hly := by
        refine zHE_on (e := e) HE ?_
        simp only [pk_us]
        rw [hT, nI_1]
        exact zE_tk (HE e he) hG bG (by omega)
      have R : ∀ ow' : Nat → Int32, i_Rel (k + 4) (w, lf, rt, sr, nw, st, ic, pr, ss, sa, wa, wr, sh, ak, nx, li, pc, hd, go, upd tk e (tk e + 1), en, wh, ow', td, ob, sp, sc, sn, ib, hl, kd, so, bo, fr, tt, po, ln, fi, sk, ed, ba, ma, sb) (w, lf, rt, sr, nw, st, ic, pr, wr, ak, nx, li, pc, hd, upd tk e (tk e + 1), en, td, ss, say, way, sh, wh, ow', oby, iby, scy, sny, spy, hly, kd, so, bo, fr, tt, poy, lny, sky, edy, bay, may, fiy, sby) := fun ow' => zz_in HE' HS
      refine br_f h1 ?_
      have hp : ∀ {P : Int32 → Prop} , P 1 → wpX_isPosition P (w, lf, rt, sr, nw, st, ic, pr, ss, sa, wa, wr, sh, ak, nx, li, pc, hd, go, tk, en, wh, ow, td, ob, sp, sc, sn, ib, hl, kd, so, bo, fr, tt, po, ln, fi, sk, ed, ba, ma, sb) (tk e) := fun h => by rw [hT]; exact zx_pos1 (by omega) h
      refine hp (br_f (by decide) ⟨ve, nm_e ?_⟩)
      have Y81 : ∀ z : Int32, ∀ P : Int32 → SY → Prop, P (ib (e * 121 + T)) (w, lf, rt, sr, nw, st, ic, pr, wr, ak, nx, li, pc, hd, upd tk e (tk e + 1), en, td, ss, say, way, sh, wh, zz_ro z (go e) (td e) ow e, oby, iby, scy, sny, spy, hly, kd, so, bo, fr, tt, poy, lny, sky, edy, bay, may, fiy, sby) → wY_read_81 P (nI e) (nI G) z w lf rt sr nw st ic pr wr ak nx li pc hd tk en td ss say way sh wh ow oby iby scy sny spy hly kd so bo fr tt poy lny sky edy bay may fiy sby := fun z P h => by
        rw [hG, ← e2] at h
        exact zy_read81 he hT (by omega) h
      by_cases h5 : st e = 5
      · refine br_t h5 (zx_read65 (z := 1) he hT (by omega) ?_)
        unfold wpY_read
        simp only [ce]
        exact zy_good he (br_f (by decide) (zy_got he g1 g0 bG ⟨ve, br_t h1' ⟨ve, br_t h5 (Y81 1 _ ⟨by trivial, R _⟩)⟩⟩))
      refine br_f h5 ?_
      by_cases h6 : st e = 6
      · refine br_t h6 (zx_read65 (z := 1) he hT (by omega) ?_)
        unfold wpY_read
        simp only [ce]
        exact zy_good he (br_f (by decide) (zy_got he g1 g0 bG ⟨ve, br_t h1' ⟨ve, br_f h5 ⟨ve, br_t h6 (Y81 1 _ ⟨by trivial, R _⟩)⟩⟩⟩))
      refine br_f h6 ?_
      by_cases h7 : st e = 7
      · refine br_t h7 (zx_read65 (z := 1) he hT (by omega) ?_)
        unfold wpY_read
        simp only [ce]
        exact zy_good he (br_f (by decide) (zy_got he g1 g0 bG ⟨ve, br_t h1' ⟨ve, br_f h5 ⟨ve, br_f h6 ⟨ve, br_t h7 (Y81 1 _ ⟨by trivial, R _⟩)⟩⟩⟩⟩))
      · refine br_f h7 (zx_read65 (z := 0) he hT (by omega) ?_)
        unfold wpY_read
        simp only [ce]
        exact zy_good he (br_f (by decide) (zy_got he g1 g0 bG ⟨ve, br_t h1' ⟨ve, br_f h5 ⟨ve, br_f h6 ⟨ve, br_f h7 (Y81 0 _ ⟨by trivial, R _⟩)⟩⟩⟩⟩))
    · have h1 : go e ≤ tk e := by rw [hG, hT]; exact nI_le (by omega) (by omega)
      have h1' : ¬ tk e < nI G := by rw [hT]; exact nI_nlt (by omega) (by omega)
      refine br_t h1 ?_
      unfold wX_read_119 wpY_read
      simp only [ce]
      refine ⟨ve, ?_⟩
      by_cases z : wh e = 0
      · exact br_t z (zy_good he (br_f (by decide) (zy_got he g1 g0 bG ⟨ve, br_f h1' ⟨ve, br_t z ⟨by trivial, zz_in HE HS⟩⟩⟩)))
      · exact br_f z (zy_good he (br_f (by decide) (zy_got he g1 g0 bG ⟨ve, br_f h1' ⟨ve, br_f z ⟨by trivial, zz_in HE HS⟩⟩⟩)))
  · unfold wpX_read wpY_read
    dsimp only
    exact zx_isEnd0 n0 n1 (br_t (by trivial) (zy_good0 n0 n1 (br_t (by trivial) ⟨by trivial, zz_in HE HS⟩)))
end
end
section
/-! write -/
def zz_by (word : Int32) (i : Nat) : Int32 := ((word.toUInt32 >>> ((8 * nI i).toUInt32 &&& Int32.toUInt32 31)).toInt32) &&& 255
/-- the counter after d more bytes; the row -/
def zz_wu (wr : Nat → Int32) (e : Nat) : Nat → Nat → (Nat → Int32)
  | _, 0 => wr
  | W, d + 1 => zz_wu (upd wr e (nI (W + 1))) e (W + 1) d
def zz_wo (word : Int32) : (Nat → Int32) → Nat → Nat → Nat → (Nat → Int32)
  | f, _, _, 0 => f
  | f, W, i, d + 1 => zz_wo word (upd f W (zz_by word i)) (W + 1) (i + 1) d
theorem zz_wu_p (e : Nat) : ∀ d W (wr : Nat → Int32), wr e = nI W → zz_wu wr e W d e = nI (W + d) ∧ ∀ e', e' ≠ e → zz_wu wr e W d e' = wr e' := by
  intro d
  induction d with
  | zero => intro W wr h; exact ⟨h, fun _ _ => rfl⟩
  | succ d ih =>
    intro W wr h
    obtain ⟨h1, h2⟩ := ih (W + 1) (upd wr e (nI (W + 1))) pk_us
    refine ⟨h1.trans (congrArg nI (by omega)), fun e' n => (h2 e' n).trans (pk_un n)⟩
theorem zz_wo_e (word : Int32) : ∀ d W i (f g : Nat → Int32), (∀ q, q < W → g q = f q) → ∀ q, q < W + d → zz_wo word g W i d q = zz_wo word f W i d q := by
  intro d
  induction d with
  | zero => intro W i f g h q hq; exact h q (by omega)
  | succ d ih =>
    intro W i f g h q hq
    refine ih (W + 1) (i + 1) (upd f W (zz_by word i)) (upd g W (zz_by word i)) (fun p hp => ?_) q (by omega)
    by_cases e1 : p = W
    · rw [e1, pk_us, pk_us]
    · rw [pk_un e1, pk_un e1]; exact h p (by omega)
section
variable {w lf rt sr nw : Int32} {st ic pr ss sa wa wr sh ak nx li pc hd go tk en wh ow td ob sp sc sn ib hl kd so bo fr tt po ln fi sk ed ba ma sb : Nat → Int32} {e : Nat} {word : Int32} {m : Nat}
theorem zx_write_l (he : e < 2) (hm : m ≤ 4) : ∀ d i W (wr ob : Nat → Int32), i + d = m → wr e = nI W → W + d ≤ 120 → ∃ ob', rX ob' e = zz_wo word (rX ob e) W i d ∧ (∀ e', e' ≠ e → rX ob' e' = rX ob e') ∧
    ∀ post : Int32 → SX → Prop, post (nI m) (w, lf, rt, sr, nw, st, ic, pr, ss, sa, wa, zz_wu wr e W d, sh, ak, nx, li, pc, hd, go, tk, en, wh, ow, td, ob', sp, sc, sn, ib, hl, kd, so, bo, fr, tt, po, ln, fi, sk, ed, ba, ma, sb) → wX_write_64 post (nI e) word (nI m) w lf rt sr nw (d + 1) (nI i) st ic pr ss sa wa wr sh ak nx li pc hd go tk en wh ow td ob sp sc sn ib hl kd so bo fr tt po ln fi sk ed ba ma sb := by
  have ve : vp_in (nI e) 2 := vp_in_nI he (by decide)
  have ce : (nI e).toNatClampNeg = e := nI_clamp (by omega)
  intro d
  induction d with
  | zero => intro i W wr ob hi hW hb; exact ⟨ob, rfl, fun _ _ => rfl, fun post h => br_t (nI_le (by omega) (by omega)) h⟩
  | succ d ih =>
    intro i W wr ob hi hW hb
    obtain ⟨ob', h1, h2, H⟩ := ih (i + 1) (W + 1) (upd wr e (nI (W + 1))) (upd ob (e * 121 + W) (zz_by word i)) (by omega) pk_us (by omega)
    refine ⟨ob', ?_, fun e' n => (h2 e' n).trans (rX_un (by omega) n), fun post h => ?_⟩
    · rw [h1, rX_us (by omega)]; rfl
    · refine br_f (nI_ge (by omega) (by omega)) (br_f (nI_ge (a := i) (b := 4) (by omega) (by decide)) ⟨ve, nm_r (e' := nI W) (by rw [ce, hW]) ?_⟩)
      refine zx_pos1 (by omega) (br_f (by decide) (zx_cell ⟨vp_in_nI (by omega) (by decide), ?_⟩))
      rw [nI_clamp (by omega), ce, nI_1]
      exact nm_e ⟨ve, nm_e (nm_r (nI_1 i) (H post h))⟩
end
section
variable {w lf rt sr nw : Int32} {st ic pr wr ak nx li pc hd tk en td ss say way sh wh ow oby iby scy sny spy hly kd so bo fr tt poy lny sky edy bay may fiy sby : Nat → Int32} {e : Nat} {word : Int32} {m : Nat}
theorem zy_write_l (he : e < 2) (hm : m ≤ 4) : ∀ d i W (wr oby : Nat → Int32), i + d = m → wr e = nI W → W + d ≤ 120 → ∃ oby', rY oby' e = zz_wo word (rY oby e) W i d ∧ (∀ e', e' ≠ e → rY oby' e' = rY oby e') ∧
    ∀ post : Int32 → SY → Prop, post (nI m) (w, lf, rt, sr, nw, st, ic, pr, zz_wu wr e W d, ak, nx, li, pc, hd, tk, en, td, ss, say, way, sh, wh, ow, oby', iby, scy, sny, spy, hly, kd, so, bo, fr, tt, poy, lny, sky, edy, bay, may, fiy, sby) → wY_write_65 post (nI e) word (nI m) w lf rt sr nw (d + 1) (nI i) st ic pr wr ak nx li pc hd tk en td ss say way sh wh ow oby iby scy sny spy hly kd so bo fr tt poy lny sky edy bay may fiy sby := by
  have ve : vp_in (nI e) 2 := vp_in_nI he (by decide)
  have ce : (nI e).toNatClampNeg = e := nI_clamp (by omega)
  intro d
  induction d with
  | zero =>
    intro i W wr oby hi hW hb
    refine ⟨oby, rfl, fun _ _ => rfl, fun post h => ?_⟩
    by_cases h4 : (4 : Int32) ≤ nI i
    · exact br_t h4 h
    · exact br_f h4 (br_t (nI_le (by omega) (by omega)) h)
  | succ d ih =>
    intro i W wr oby hi hW hb
    obtain ⟨oby', h1, h2, H⟩ := ih (i + 1) (W + 1) (upd wr e (nI (W + 1))) (upd oby (e * 160 + W) (zz_by word i)) (by omega) pk_us (by omega)
    refine ⟨oby', ?_, fun e' n => (h2 e' n).trans (rY_un (by omega) n), fun post h => ?_⟩
    · rw [h1, rY_us (by omega)]; rfl
    · refine br_f (nI_ge (a := i) (b := 4) (by omega) (by decide)) (br_f (nI_ge (by omega) (by omega)) ⟨ve, ?_⟩)
      rw [ce, hW, zz_i160, nI_clamp (by omega), nI_1]
      exact ⟨vp_in_nI (by omega) (by decide), nm_e ⟨ve, ve, nm_e (nm_r (nI_1 i) (H post h))⟩⟩
end
theorem zz_mn_a (a b : Int32) : zz_mn a b ≤ a := by
  unfold zz_mn
  by_cases h : b ≤ a
  · rw [if_pos h]; exact h
  · rw [if_neg h]; exact Int32.le_refl a
theorem zz_mn_b (a b : Int32) : zz_mn a b ≤ b := by
  unfold zz_mn
  by_cases h : b ≤ a
  · rw [if_pos h]; exact Int32.le_refl b
  · rw [if_neg h]; exact Int32.le_of_lt (Int32.not_le.mp h)
/-- how many bytes are written: none, or m with room for them -/
theorem zz_wk {c x : Int32} {W : Nat} (bW : W ≤ 120) (h4 : c ≤ 4) (hx : x ≤ 120 - nI W) : zz_mn c x ≤ 0 ∨ ∃ m, m ≤ 4 ∧ W + m ≤ 120 ∧ zz_mn c x = nI m := by
  by_cases h : zz_mn c x ≤ 0
  · exact Or.inl h
  · refine Or.inr ?_
    have h0 : ¬ zz_mn c x < 0 := fun l => h (Int32.le_of_lt l)
    obtain ⟨m, hm, e1⟩ := nI_of h0
    have k1 := Int32.le_trans (zz_mn_a c x) h4
    have k2 := Int32.le_trans (zz_mn_b c x) hx
    rw [e1] at k1 k2
    have k3 : m ≤ 4 := (nI_leI (b := 4) hm (by decide)).mp k1
    have e2 : (120 : Int32) - nI W = nI (120 - W) := pk_sub (a := 120) bW
    rw [e2] at k2
    have k4 : m ≤ 120 - W := (nI_leI hm (by omega)).mp k2
    exact ⟨m, k3, by omega, e1⟩
section
variable {st ss sa say wa way wr ak nx tk go : Int32} {ob oby sp spy sc scy sn sny ib iby hl hly : Nat → Int32}
theorem zE_wr {W' d i : Nat} {word : Int32} (H : zE st ss sa say wa way wr ak nx tk go ob oby sp spy sc scy sn sny ib iby hl hly) (h1 : wr = nI W') (b1 : W' + d ≤ 120) :
    zE st ss sa say wa way (nI (W' + d)) ak nx tk go (zz_wo word ob W' i d) (zz_wo word oby W' i d) sp spy sc scy sn sny ib iby hl hly := by
  obtain ⟨S, W, A, N, T, G, ⟨hS, hW, hA, hN, hT, hG⟩, ⟨bS, bW, bA, bN, bT, bG⟩, ⟨hsy, hwa⟩, ⟨rsp, rsc, rhl⟩, hsn, hob, hib, hg1, hg0, hhb⟩ := H
  have e1 : W' = W := (nI_eq (by omega) (by omega)).mp (h1.symm.trans hW)
  subst e1
  exact ⟨S, W' + d, A, N, T, G, ⟨hS, rfl, hA, hN, hT, hG⟩, ⟨bS, b1, bA, by omega, bT, bG⟩, ⟨hsy, hwa⟩, ⟨rsp, rsc, rhl⟩, hsn, zz_wo_e word d W' i ob oby hob, hib, hg1, hg0, hhb⟩
end
section
variable {k : Nat} {w lf rt sr nw : Int32} {st ic pr ss sa wa wr sh ak nx li pc hd go tk en wh ow td ob sp sc sn ib hl kd so bo fr tt po ln fi sk ed ba ma sb say way oby iby scy sny spy hly poy lny sky edy bay may fiy sby : Nat → Int32}
theorem zm_write_go (HE : zHE st ss sa say wa way wr ak nx tk go ob oby sp spy sc scy sn sny ib iby hl hly) (HS : zHS kd so po poy ln lny fi fiy sk sky ed edy ba bay ma may sb sby) {e : Nat} (he : e < 2) {v2 v3 : Int32} (h4 : v3 ≤ 4) (hr : zz_rm (st e) (wr e) (ak e) ≤ 120 - wr e) :
    ∃ r u v, i_Rel (k + 4) u v ∧ (∀ P : Int32 → SX → Prop, P r u → wX_write_45 P (nI e) v2 v3 w lf rt sr nw st ic pr ss sa wa wr sh ak nx li pc hd go tk en wh ow td ob sp sc sn ib hl kd so bo fr tt po ln fi sk ed ba ma sb) ∧ (∀ P : Int32 → SY → Prop, P r v → wY_write_45 P (nI e) v2 v3 w lf rt sr nw st ic pr wr ak nx li pc hd tk en td ss say way sh wh ow oby iby scy sny spy hly kd so bo fr tt poy lny sky edy bay may fiy sby) := by
  obtain ⟨S, W, A, N, T, G, ⟨hS, hW, hA, hN, hT, hG⟩, ⟨bS, bW, bA, bN, bT, bG⟩, ⟨hsy, hwa⟩, ⟨rsp, rsc, rhl⟩, hsn, hob, hib, hg1, hg0, hhb⟩ := HE e he
  rw [hW] at hr
  rcases zz_wk bW h4 hr with h0 | ⟨m, hm, hb, em⟩
  · refine ⟨zz_mn v3 (zz_rm (st e) (nI W) (ak e)), (w, lf, rt, sr, nw, st, ic, pr, ss, sa, wa, wr, sh, ak, nx, li, pc, hd, go, tk, en, wh, ow, td, ob, sp, sc, sn, ib, hl, kd, so, bo, fr, tt, po, ln, fi, sk, ed, ba, ma, sb), (w, lf, rt, sr, nw, st, ic, pr, wr, ak, nx, li, pc, hd, tk, en, td, ss, say, way, sh, wh, ow, oby, iby, scy, sny, spy, hly, kd, so, bo, fr, tt, poy, lny, sky, edy, bay, may, fiy, sby), zz_in HE HS, fun P hP => ?_, fun P hP => ?_⟩
    · unfold wX_write_45
      refine zx_room he (zx_lesser ⟨1, ?_⟩)
      rw [hW]
      exact br_t h0 hP
    · unfold wY_write_45
      refine zy_room he (zy_min ⟨1, ?_⟩)
      rw [hW]
      exact br_f (by decide) (br_t h0 hP)
  · obtain ⟨ob', h1, h2, HX⟩ := zx_write_l (w := w) (lf := lf) (rt := rt) (sr := sr) (nw := nw) (st := st) (ic := ic) (pr := pr) (ss := ss) (sa := sa) (wa := wa) (sh := sh) (ak := ak) (nx := nx) (li := li) (pc := pc) (hd := hd) (go := go) (tk := tk) (en := en) (wh := wh) (ow := ow) (td := td) (sp := sp) (sc := sc) (sn := sn) (ib := ib) (hl := hl) (kd := kd) (so := so) (bo := bo) (fr := fr) (tt := tt) (po := po) (ln := ln) (fi := fi) (sk := sk) (ed := ed) (ba := ba) (ma := ma) (sb := sb) (word := v2) he hm m 0 W wr ob (by omega) hW hb
    obtain ⟨oby', h3, h4, HY⟩ := zy_write_l (w := w) (lf := lf) (rt := rt) (sr := sr) (nw := nw) (st := st) (ic := ic) (pr := pr) (ss := ss) (say := say) (way := way) (sh := sh) (ak := ak) (nx := nx) (li := li) (pc := pc) (hd := hd) (tk := tk) (en := en) (wh := wh) (ow := ow) (td := td) (iby := iby) (scy := scy) (sny := sny) (spy := spy) (hly := hly) (kd := kd) (so := so) (bo := bo) (fr := fr) (tt := tt) (poy := poy) (lny := lny) (sky := sky) (edy := edy) (bay := bay) (may := may) (fiy := fiy) (sby := sby) (word := v2) he hm m 0 W wr oby (by omega) hW hb
    obtain ⟨w1, w2⟩ := zz_wu_p e m W wr hW
    refine ⟨nI m, (w, lf, rt, sr, nw, st, ic, pr, ss, sa, wa, zz_wu wr e W m, sh, ak, nx, li, pc, hd, go, tk, en, wh, ow, td, ob', sp, sc, sn, ib, hl, kd, so, bo, fr, tt, po, ln, fi, sk, ed, ba, ma, sb), (w, lf, rt, sr, nw, st, ic, pr, zz_wu wr e W m, ak, nx, li, pc, hd, tk, en, td, ss, say, way, sh, wh, ow, oby', iby, scy, sny, spy, hly, kd, so, bo, fr, tt, poy, lny, sky, edy, bay, may, fiy, sby), zz_in (zHE_on (e := e) HE ?_ (h_wr := w2) (h_ob := h2) (h_oby := h4)) HS, fun P hP => ?_, fun P hP => ?_⟩
    · rw [w1, h1, h3]
      exact zE_wr (HE e he) hW hb
    · unfold wX_write_45
      refine zx_room he (zx_lesser ⟨m + 1, ?_⟩)
      rw [hW, em]
      exact HX P hP
    · unfold wY_write_45
      refine zy_room he (zy_min ⟨m + 1, ?_⟩)
      rw [hW, em]
      exact HY P hP
theorem zm_write (HE : zHE st ss sa say wa way wr ak nx tk go ob oby sp spy sc scy sn sny ib iby hl hly) (HS : zHS kd so po poy ln lny fi fiy sk sky ed edy ba bay ma may sb sby) (v1 v2 v3 : Int32) : wpX_write (fun r u' => wpY_write (fun r' v' => r' = r ∧ i_Rel (k + 4) u' v') (w, lf, rt, sr, nw, st, ic, pr, wr, ak, nx, li, pc, hd, tk, en, td, ss, say, way, sh, wh, ow, oby, iby, scy, sny, spy, hly, kd, so, bo, fr, tt, poy, lny, sky, edy, bay, may, fiy, sby) v1 v2 v3) (w, lf, rt, sr, nw, st, ic, pr, ss, sa, wa, wr, sh, ak, nx, li, pc, hd, go, tk, en, wh, ow, td, ob, sp, sc, sn, ib, hl, kd, so, bo, fr, tt, po, ln, fi, sk, ed, ba, ma, sb) v1 v2 v3 := by
  unfold wpX_write wpY_write
  dsimp only
  rcases zz_end v1 with ⟨e, he, rfl⟩ | ⟨n0, n1⟩
  · have ve : vp_in (nI e) 2 := vp_in_nI he (by decide)
    have ce : (nI e).toNatClampNeg = e := nI_clamp (by omega)
    simp only [ce]
    refine zx_isEnd he (br_f (by decide) ?_)
    by_cases h1 : v3 < 1
    · exact br_t h1 (zy_good he (br_f (by decide) (br_t h1 ⟨by trivial, zz_in HE HS⟩)))
    refine br_f h1 ?_
    by_cases h4 : v3 ≤ 4
    · refine br_t h4 ⟨ve, ?_⟩
      by_cases h5 : st e = 5
      · obtain ⟨r, u, v, R, hx, hy⟩ := zm_write_go (k := k) HE HS he (v2 := v2) h4 (by rw [zz_rm, if_pos h5]; exact zz_mn_b _ _)
        exact br_t h5 (hx _ (zy_good he (br_f (by decide) (br_f h1 (br_t h4 ⟨ve, br_t h5 (hy _ ⟨by trivial, R⟩)⟩)))))
      · refine br_f h5 ⟨ve, ?_⟩
        by_cases h10 : st e = 10
        · obtain ⟨r, u, v, R, hx, hy⟩ := zm_write_go (k := k) HE HS he (v2 := v2) h4 (by rw [zz_rm, if_neg h5, if_pos h10]; exact zz_mn_b _ _)
          exact br_t h10 (hx _ (zy_good he (br_f (by decide) (br_f h1 (br_t h4 ⟨ve, br_f h5 ⟨ve, br_t h10 (hy _ ⟨by trivial, R⟩)⟩⟩)))))
        · exact br_f h10 (zy_good he (br_f (by decide) (br_f h1 (br_t h4 ⟨ve, br_f h5 ⟨ve, br_f h10 ⟨by trivial, zz_in HE HS⟩⟩⟩))))
    · exact br_f h4 (zy_good he (br_f (by decide) (br_f h1 (br_f h4 ⟨by trivial, zz_in HE HS⟩))))
  · exact zx_isEnd0 n0 n1 (br_t (by trivial) (zy_good0 n0 n1 (br_t (by trivial) ⟨by trivial, zz_in HE HS⟩)))
end
end
section
/-! tick -/
def zz_ex (bo : Nat → Int32) (nw lf : Int32) : Nat → Nat → (Nat → Int32) → (Nat → Int32)
  | 0, _, kd => kd
  | d + 1, s, kd => zz_ex bo nw lf d (s + 1) (if kd s = 0 then kd else if nw - bo s < lf then kd else upd kd s 0)
def zz_ec (bo : Nat → Int32) (nw lf : Int32) : Int32 → Nat → Nat → (Nat → Int32) → Int32
  | c, 0, _, _ => c
  | c, d + 1, s, kd => zz_ec bo nw lf (if kd s = 0 then c else if nw - bo s < lf then c else c + 1) d (s + 1) (if kd s = 0 then kd else if nw - bo s < lf then kd else upd kd s 0)
theorem zz_ex_p (bo : Nat → Int32) (nw lf : Int32) : ∀ d s (kd : Nat → Int32) j, zz_ex bo nw lf d s kd j = 0 ∨ zz_ex bo nw lf d s kd j = kd j := by
  intro d
  induction d with
  | zero => intro s kd j; exact Or.inr rfl
  | succ d ih =>
    intro s kd j
    show zz_ex bo nw lf d (s + 1) (if kd s = 0 then kd else if nw - bo s < lf then kd else upd kd s 0) j = 0 ∨ zz_ex bo nw lf d (s + 1) (if kd s = 0 then kd else if nw - bo s < lf then kd else upd kd s 0) j = kd j
    by_cases h1 : kd s = 0
    · rw [if_pos h1]; exact ih (s + 1) kd j
    · rw [if_neg h1]
      by_cases h2 : nw - bo s < lf
      · rw [if_pos h2]; exact ih (s + 1) kd j
      · rw [if_neg h2]
        rcases ih (s + 1) (upd kd s 0) j with k | k
        · exact Or.inl k
        · rw [k]
          by_cases e1 : j = s
          · rw [e1, pk_us]; exact Or.inl rfl
          · rw [pk_un e1]; exact Or.inr rfl
theorem zz_ec_a (bo : Nat → Int32) (nw lf : Int32) : ∀ d s (kd : Nat → Int32) c, zz_ec bo nw lf c d s kd = c + zz_ec bo nw lf 0 d s kd := by
  intro d
  induction d with
  | zero => intro s kd c; exact (Int32.add_zero c).symm
  | succ d ih =>
    intro s kd c
    show zz_ec bo nw lf (if kd s = 0 then c else if nw - bo s < lf then c else c + 1) d (s + 1) (if kd s = 0 then kd else if nw - bo s < lf then kd else upd kd s 0) = c + zz_ec bo nw lf (if kd s = 0 then 0 else if nw - bo s < lf then 0 else 0 + 1) d (s + 1) (if kd s = 0 then kd else if nw - bo s < lf then kd else upd kd s 0)
    by_cases h1 : kd s = 0
    · rw [if_pos h1, if_pos h1, if_pos h1]; exact ih _ _ _
    · rw [if_neg h1, if_neg h1, if_neg h1]
      by_cases h2 : nw - bo s < lf
      · rw [if_pos h2, if_pos h2, if_pos h2]; exact ih _ _ _
      · rw [if_neg h2, if_neg h2, if_neg h2, ih _ _ (c + 1), ih _ _ (0 + 1), Int32.zero_add, Int32.add_assoc]
/-- an end's time-wait runs out -/
def zz_t1 (wa : Nat → Int32) (nw lf : Int32) (st : Nat → Int32) (e : Nat) : Nat → Int32 := if st e = 9 then (if nw - wa e < 2 * lf then st else upd st e 0) else st
section
variable {w lf rt sr nw : Int32} {st ic pr ss sa wa wr sh ak nx li pc hd go tk en wh ow td ob sp sc sn ib hl kd so bo fr tt po ln fi sk ed ba ma sb : Nat → Int32}
theorem zx_exp_l : ∀ d s c (kd : Nat → Int32), s + d = 12 → ∀ post : Int32 → SX → Prop, post (zz_ec bo nw lf c d s kd) (w, lf, rt, sr, nw, st, ic, pr, ss, sa, wa, wr, sh, ak, nx, li, pc, hd, go, tk, en, wh, ow, td, ob, sp, sc, sn, ib, hl, zz_ex bo nw lf d s kd, so, bo, fr, tt, po, ln, fi, sk, ed, ba, ma, sb) → wX_expireSegments_4 post w lf rt sr nw (d + 1) c (nI s) st ic pr ss sa wa wr sh ak nx li pc hd go tk en wh ow td ob sp sc sn ib hl kd so bo fr tt po ln fi sk ed ba ma sb := by
  intro d
  induction d with
  | zero => intro s c kd hs post h; exact br_t (nI_le (a := 12) (by omega) (by omega)) h
  | succ d ih =>
    intro s c kd hs post h
    have vs : vp_in (nI s) 12 := vp_in_nI (by omega) (by decide)
    have cs : (nI s).toNatClampNeg = s := nI_clamp (by omega)
    have h' : post (zz_ec bo nw lf (if kd s = 0 then c else if nw - bo s < lf then c else c + 1) d (s + 1) (if kd s = 0 then kd else if nw - bo s < lf then kd else upd kd s 0)) (w, lf, rt, sr, nw, st, ic, pr, ss, sa, wa, wr, sh, ak, nx, li, pc, hd, go, tk, en, wh, ow, td, ob, sp, sc, sn, ib, hl, zz_ex bo nw lf d (s + 1) (if kd s = 0 then kd else if nw - bo s < lf then kd else upd kd s 0), so, bo, fr, tt, po, ln, fi, sk, ed, ba, ma, sb) := h
    refine br_f (nI_ge (a := s) (b := 12) (by omega) (by decide)) ⟨vs, ?_⟩
    rw [cs]
    by_cases h1 : kd s = 0
    · rw [if_pos h1, if_pos h1] at h'
      exact br_t h1 (nm_r (nI_1 s) (ih (s + 1) c kd (by omega) post h'))
    · rw [if_neg h1, if_neg h1] at h'
      refine br_f h1 ⟨vs, ?_⟩
      by_cases h2 : nw - bo s < lf
      · rw [if_pos h2, if_pos h2] at h'
        exact br_t h2 (nm_r (nI_1 s) (ih (s + 1) c kd (by omega) post h'))
      · rw [if_neg h2, if_neg h2] at h'
        exact br_f h2 ⟨vs, nm_e (nm_e (nm_r (nI_1 s) (ih (s + 1) (c + 1) (upd kd s 0) (by omega) post h')))⟩
theorem zx_exp {post : Int32 → SX → Prop} (h : post (zz_ec bo nw lf 0 12 0 kd) (w, lf, rt, sr, nw, st, ic, pr, ss, sa, wa, wr, sh, ak, nx, li, pc, hd, go, tk, en, wh, ow, td, ob, sp, sc, sn, ib, hl, zz_ex bo nw lf 12 0 kd, so, bo, fr, tt, po, ln, fi, sk, ed, ba, ma, sb)) : wpX_expireSegments post (w, lf, rt, sr, nw, st, ic, pr, ss, sa, wa, wr, sh, ak, nx, li, pc, hd, go, tk, en, wh, ow, td, ob, sp, sc, sn, ib, hl, kd, so, bo, fr, tt, po, ln, fi, sk, ed, ba, ma, sb) := Exists.intro 13 (zx_exp_l 12 0 0 kd rfl post h)
theorem zx_te {post : Int32 → SX → Prop} {J : Int32 → Int32 → Int32 → Int32 → Int32 → Int32 → Int32 → (Nat → Int32) → (Nat → Int32) → (Nat → Int32) → (Nat → Int32) → (Nat → Int32) → (Nat → Int32) → (Nat → Int32) → (Nat → Int32) → (Nat → Int32) → (Nat → Int32) → (Nat → Int32) → (Nat → Int32) → (Nat → Int32) → (Nat → Int32) → (Nat → Int32) → (Nat → Int32) → (Nat → Int32) → (Nat → Int32) → (Nat → Int32) → (Nat → Int32) → (Nat → Int32) → (Nat → Int32) → (Nat → Int32) → (Nat → Int32) → (Nat → Int32) → (Nat → Int32) → (Nat → Int32) → (Nat → Int32) → (Nat → Int32) → (Nat → Int32) → (Nat → Int32) → (Nat → Int32) → (Nat → Int32) → (Nat → Int32) → (Nat → Int32) → (Nat → Int32) → (Nat → Int32) → (Nat → Int32) → Prop} {x1 x2 x3 : Int32} {e n : Nat} (he : e < 2)
    (h : wX_tick_43 post J x1 x2 x3 w lf rt sr nw n (nI (e + 1)) (zz_t1 wa nw lf st e) ic pr ss sa wa wr sh ak nx li (upd pc e 0) hd go tk en wh ow td ob sp sc sn ib hl kd so bo fr tt po ln fi sk ed ba ma sb) : wX_tick_43 post J x1 x2 x3 w lf rt sr nw (n + 1) (nI e) st ic pr ss sa wa wr sh ak nx li pc hd go tk en wh ow td ob sp sc sn ib hl kd so bo fr tt po ln fi sk ed ba ma sb := by
  have ve : vp_in (nI e) 2 := vp_in_nI he (by decide)
  have ce : (nI e).toNatClampNeg = e := nI_clamp (by omega)
  refine br_f (nI_ge (a := e) (b := 2) (by omega) (by decide)) ⟨ve, ?_⟩
  rw [ce]
  refine nm_e ⟨ve, ?_⟩
  unfold zz_t1 at h
  by_cases h1 : st e = 9
  · rw [if_pos h1] at h
    refine br_t h1 ⟨ve, ?_⟩
    by_cases h2 : nw - wa e < 2 * lf
    · rw [if_pos h2] at h
      exact br_t h2 (nm_r (nI_1 e) h)
    · rw [if_neg h2] at h
      exact br_f h2 ⟨ve, nm_e (nm_r (nI_1 e) h)⟩
  · rw [if_neg h1] at h
    exact br_f h1 (nm_r (nI_1 e) h)
end
section
variable {w lf rt sr nw : Int32} {st ic pr wr ak nx li pc hd tk en td ss say way sh wh ow oby iby scy sny spy hly kd so bo fr tt poy lny sky edy bay may fiy sby : Nat → Int32}
theorem zy_exp_l {post : Int32 → SY → Prop} {J : Int32 → Int32 → Int32 → (Nat → Int32) → (Nat → Int32) → (Nat → Int32) → (Nat → Int32) → (Nat → Int32) → (Nat → Int32) → (Nat → Int32) → (Nat → Int32) → (Nat → Int32) → (Nat → Int32) → (Nat → Int32) → (Nat → Int32) → (Nat → Int32) → (Nat → Int32) → (Nat → Int32) → (Nat → Int32) → (Nat → Int32) → (Nat → Int32) → (Nat → Int32) → (Nat → Int32) → (Nat → Int32) → (Nat → Int32) → (Nat → Int32) → (Nat → Int32) → (Nat → Int32) → (Nat → Int32) → (Nat → Int32) → (Nat → Int32) → (Nat → Int32) → (Nat → Int32) → (Nat → Int32) → (Nat → Int32) → (Nat → Int32) → (Nat → Int32) → (Nat → Int32) → (Nat → Int32) → (Nat → Int32) → Prop} {x1 x3 : Int32} : ∀ d s c (kd : Nat → Int32), s + d = 12 → (∃ n, wY_tick_98 post J x1 (zz_ec bo nw lf c d s kd) x3 w lf rt sr nw n 0 st ic pr wr ak nx li pc hd tk en td ss say way sh wh ow oby iby scy sny spy hly (zz_ex bo nw lf d s kd) so bo fr tt poy lny sky edy bay may fiy sby) → wY_tick_42 post J x1 x3 w lf rt sr nw (d + 1) c (nI s) st ic pr wr ak nx li pc hd tk en td ss say way sh wh ow oby iby scy sny spy hly kd so bo fr tt poy lny sky edy bay may fiy sby := by
  intro d
  induction d with
  | zero => intro s c kd hs h; exact br_t (nI_le (a := 12) (by omega) (by omega)) h
  | succ d ih =>
    intro s c kd hs h
    have vs : vp_in (nI s) 12 := vp_in_nI (by omega) (by decide)
    have cs : (nI s).toNatClampNeg = s := nI_clamp (by omega)
    have h' : ∃ n, wY_tick_98 post J x1 (zz_ec bo nw lf (if kd s = 0 then c else if nw - bo s < lf then c else c + 1) d (s + 1) (if kd s = 0 then kd else if nw - bo s < lf then kd else upd kd s 0)) x3 w lf rt sr nw n 0 st ic pr wr ak nx li pc hd tk en td ss say way sh wh ow oby iby scy sny spy hly (zz_ex bo nw lf d (s + 1) (if kd s = 0 then kd else if nw - bo s < lf then kd else upd kd s 0)) so bo fr tt poy lny sky edy bay may fiy sby := h
    refine br_f (nI_ge (a := s) (b := 12) (by omega) (by decide)) ⟨vs, ?_⟩
    rw [cs]
    by_cases h1 : kd s = 0
    · rw [if_pos h1, if_pos h1] at h'
      exact br_t h1 (nm_r (nI_1 s) (ih (s + 1) c kd (by omega) h'))
    · rw [if_neg h1, if_neg h1] at h'
      refine br_f h1 ⟨vs, ?_⟩
      by_cases h2 : nw - bo s < lf
      · rw [if_pos h2, if_pos h2] at h'
        exact br_t h2 (nm_r (nI_1 s) (ih (s + 1) c kd (by omega) h'))
      · rw [if_neg h2, if_neg h2] at h'
        exact br_f h2 ⟨vs, nm_e (nm_e (nm_r (nI_1 s) (ih (s + 1) (c + 1) (upd kd s 0) (by omega) h')))⟩
theorem zy_te {post : Int32 → SY → Prop} {J : Int32 → Int32 → Int32 → (Nat → Int32) → (Nat → Int32) → (Nat → Int32) → (Nat → Int32) → (Nat → Int32) → (Nat → Int32) → (Nat → Int32) → (Nat → Int32) → (Nat → Int32) → (Nat → Int32) → (Nat → Int32) → (Nat → Int32) → (Nat → Int32) → (Nat → Int32) → (Nat → Int32) → (Nat → Int32) → (Nat → Int32) → (Nat → Int32) → (Nat → Int32) → (Nat → Int32) → (Nat → Int32) → (Nat → Int32) → (Nat → Int32) → (Nat → Int32) → (Nat → Int32) → (Nat → Int32) → (Nat → Int32) → (Nat → Int32) → (Nat → Int32) → (Nat → Int32) → (Nat → Int32) → (Nat → Int32) → (Nat → Int32) → (Nat → Int32) → (Nat → Int32) → (Nat → Int32) → (Nat → Int32) → Prop} {x1 x2 x3 : Int32} {e n : Nat} (he : e < 2)
    (h : wY_tick_98 post J x1 x2 x3 w lf rt sr nw n (nI (e + 1)) (zz_t1 way nw lf st e) ic pr wr ak nx li (upd pc e 0) hd tk en td ss say way sh wh ow oby iby scy sny spy hly kd so bo fr tt poy lny sky edy bay may fiy sby) : wY_tick_98 post J x1 x2 x3 w lf rt sr nw (n + 1) (nI e) st ic pr wr ak nx li pc hd tk en td ss say way sh wh ow oby iby scy sny spy hly kd so bo fr tt poy lny sky edy bay may fiy sby := by
  have ve : vp_in (nI e) 2 := vp_in_nI he (by decide)
  have ce : (nI e).toNatClampNeg = e := nI_clamp (by omega)
  refine br_f (nI_ge (a := e) (b := 2) (by omega) (by decide)) ⟨ve, ?_⟩
  rw [ce]
  refine nm_e ⟨ve, ?_⟩
  unfold zz_t1 at h
  by_cases h1 : st e = 9
  · rw [if_pos h1] at h
    refine br_t h1 ⟨ve, ?_⟩
    by_cases h2 : nw - way e < 2 * lf
    · rw [if_pos h2] at h
      exact br_t h2 (nm_r (nI_1 e) h)
    · rw [if_neg h2] at h
      exact br_f h2 ⟨ve, nm_e (nm_r (nI_1 e) h)⟩
  · rw [if_neg h1] at h
    exact br_f h1 (nm_r (nI_1 e) h)
end
theorem zz_t1_e {wa way st : Nat → Int32} {nw lf : Int32} {e : Nat} (h : st e = 9 → way e = wa e) : zz_t1 way nw lf st e = zz_t1 wa nw lf st e := by
  unfold zz_t1
  by_cases h1 : st e = 9
  · rw [h h1]
  · rw [if_neg h1, if_neg h1]
section
variable {k : Nat} {w lf rt sr nw : Int32} {st ic pr ss sa wa wr sh ak nx li pc hd go tk en wh ow td ob sp sc sn ib hl kd so bo fr tt po ln fi sk ed ba ma sb say way oby iby scy sny spy hly poy lny sky edy bay may fiy sby : Nat → Int32}
theorem zHE_t1 {e : Nat} (HE : zHE st ss sa say wa way wr ak nx tk go ob oby sp spy sc scy sn sny ib iby hl hly) (he : e < 2) : zHE (zz_t1 wa nw lf st e) ss sa say wa way wr ak nx tk go ob oby sp spy sc scy sn sny ib iby hl hly := by
  unfold zz_t1
  by_cases h1 : st e = 9
  · rw [if_pos h1]
    by_cases h2 : nw - wa e < 2 * lf
    · rw [if_pos h2]; exact HE
    · rw [if_neg h2]
      refine zHE_on (e := e) HE ?_
      simp only [pk_us]
      exact zE_st (S' := 0) (HE e he) (by decide) (by decide)
  · rw [if_neg h1]; exact HE
theorem zHS_ex {d j : Nat} (HS : zHS kd so po poy ln lny fi fiy sk sky ed edy ba bay ma may sb sby) : zHS (zz_ex bo nw lf d j kd) so po poy ln lny fi fiy sk sky ed edy ba bay ma may sb sby := by
  intro s hs
  rcases zz_ex_p bo nw lf d j kd s with h | h
  · rw [h]; exact zS_0
  · rw [h]; exact HS s hs
theorem zm_tick_l {m : Nat} (hm : m ≤ 8) : ∀ d i c (nw : Int32) (st pc kd : Nat → Int32), i + d = m → zHE st ss sa say wa way wr ak nx tk go ob oby sp spy sc scy sn sny ib iby hl hly → zHS kd so po poy ln lny fi fiy sk sky ed edy ba bay ma may sb sby →
    ∃ r u v, i_Rel (k + 4) u v ∧ (∀ P : Int32 → SX → Prop, P r u → wX_tick_18 P (nI m) (d + 1) c (nI i) w lf rt sr nw st ic pr ss sa wa wr sh ak nx li pc hd go tk en wh ow td ob sp sc sn ib hl kd so bo fr tt po ln fi sk ed ba ma sb) ∧ (∀ P : Int32 → SY → Prop, P r v → wY_tick_18 P (nI m) w lf rt sr (d + 1) c (nI i) nw st ic pr wr ak nx li pc hd tk en td ss say way sh wh ow oby iby scy sny spy hly kd so bo fr tt poy lny sky edy bay may fiy sby) := by
  intro d
  induction d with
  | zero =>
    intro i c nw st pc kd hi HE HS
    refine ⟨c, (w, lf, rt, sr, nw, st, ic, pr, ss, sa, wa, wr, sh, ak, nx, li, pc, hd, go, tk, en, wh, ow, td, ob, sp, sc, sn, ib, hl, kd, so, bo, fr, tt, po, ln, fi, sk, ed, ba, ma, sb), (w, lf, rt, sr, nw, st, ic, pr, wr, ak, nx, li, pc, hd, tk, en, td, ss, say, way, sh, wh, ow, oby, iby, scy, sny, spy, hly, kd, so, bo, fr, tt, poy, lny, sky, edy, bay, may, fiy, sby), zz_in HE HS, fun P h => br_t (nI_le (by omega) (by omega)) h, fun P h => ?_⟩
    by_cases h8 : (8 : Int32) ≤ nI i
    · exact br_t h8 h
    · exact br_f h8 (br_t (nI_le (by omega) (by omega)) h)
  | succ d ih =>
    intro i c nw st pc kd hi HE HS
    have w0 : st 0 = 9 → way 0 = wa 0 := by
      obtain ⟨S, W, A, N, T, G, ⟨hS, hW, hA, hN, hT, hG⟩, ⟨bS, bW, bA, bN, bT, bG⟩, ⟨hsy, hwa⟩, ⟨rsp, rsc, rhl⟩, hsn, hob, hib, hg1, hg0, hhb⟩ := HE 0 (by decide)
      exact hwa
    have H1 : zHE (zz_t1 wa (nw + 1) lf st 0) ss sa say wa way wr ak nx tk go ob oby sp spy sc scy sn sny ib iby hl hly := zHE_t1 HE (by decide)
    have w1 : zz_t1 wa (nw + 1) lf st 0 1 = 9 → way 1 = wa 1 := by
      obtain ⟨S, W, A, N, T, G, ⟨hS, hW, hA, hN, hT, hG⟩, ⟨bS, bW, bA, bN, bT, bG⟩, ⟨hsy, hwa⟩, ⟨rsp, rsc, rhl⟩, hsn, hob, hib, hg1, hg0, hhb⟩ := H1 1 (by decide)
      exact hwa
    have H2 : zHE (zz_t1 wa (nw + 1) lf (zz_t1 wa (nw + 1) lf st 0) 1) ss sa say wa way wr ak nx tk go ob oby sp spy sc scy sn sny ib iby hl hly := zHE_t1 H1 (by decide)
    obtain ⟨r, u, v, R, hx, hy⟩ := ih (i + 1) (c + zz_ec bo (nw + 1) lf 0 12 0 kd) (nw + 1) (zz_t1 wa (nw + 1) lf (zz_t1 wa (nw + 1) lf st 0) 1) (upd (upd pc 0 0) 1 0) (zz_ex bo (nw + 1) lf 12 0 kd) (by omega) H2 (zHS_ex HS)
    refine ⟨r, u, v, R, fun P h => ?_, fun P h => ?_⟩
    · refine br_f (nI_ge (by omega) (by omega)) (nm_e (zx_exp (nm_e ⟨3, zx_te (e := 0) (by decide) (zx_te (e := 1) (by decide) (br_t (by decide) (nm_r (nI_1 i) (hx P h))))⟩)))
    · refine br_f (nI_ge (a := i) (b := 8) (by omega) (by decide)) (br_f (nI_ge (by omega) (by omega)) (nm_e ⟨13, zy_exp_l 12 0 c kd rfl ⟨3, zy_te (e := 0) (by decide) (zy_te (e := 1) (by decide) (br_t (by decide) (nm_r (nI_1 i) ?_)))⟩⟩))
      rw [zz_t1_e w0, zz_t1_e w1, zz_ec_a]
      exact hy P h
theorem zm_tick (HE : zHE st ss sa say wa way wr ak nx tk go ob oby sp spy sc scy sn sny ib iby hl hly) (HS : zHS kd so po poy ln lny fi fiy sk sky ed edy ba bay ma may sb sby) (v1 : Int32) : wpX_tick (fun r u' => wpY_tick (fun r' v' => r' = r ∧ i_Rel (k + 4) u' v') (w, lf, rt, sr, nw, st, ic, pr, wr, ak, nx, li, pc, hd, tk, en, td, ss, say, way, sh, wh, ow, oby, iby, scy, sny, spy, hly, kd, so, bo, fr, tt, poy, lny, sky, edy, bay, may, fiy, sby) v1) (w, lf, rt, sr, nw, st, ic, pr, ss, sa, wa, wr, sh, ak, nx, li, pc, hd, go, tk, en, wh, ow, td, ob, sp, sc, sn, ib, hl, kd, so, bo, fr, tt, po, ln, fi, sk, ed, ba, ma, sb) v1 := by
  unfold wpX_tick wpY_tick
  dsimp only
  by_cases h1 : v1 < 1
  · exact br_t h1 (br_t h1 ⟨by trivial, zz_in HE HS⟩)
  · by_cases h8 : v1 ≤ 8
    · have h0 : ¬ v1 < 0 := fun l => h1 (Int32.lt_trans l (by decide))
      obtain ⟨m, hm, rfl⟩ := nI_of2 (M := 8) (n := 8) (by decide) h0 h8
      obtain ⟨r, u, v, R, hx, hy⟩ := zm_tick_l (k := k) (m := m) hm m 0 0 nw st pc kd (by omega) HE HS
      exact br_f h1 (br_t h8 ⟨m + 1, hx _ (br_f h1 (br_t h8 ⟨m + 1, hy _ ⟨by trivial, R⟩⟩))⟩)
    · exact br_f h1 (br_f h8 (br_f h1 (br_f h8 ⟨by trivial, zz_in HE HS⟩)))
end
end
section
/-! emit: the plan of a data segment, its bytes, its marks -/
def zz_dp (v : Int32) (F : Nat) (nx : Int32) : Int32 := if v = 3 then nI F else nx
def zz_ack (wh go : Int32) : Int32 := if wh = 0 then go else go + 1
def zz_up (v : Int32) (a : Nat → Int32) (e : Nat) (x : Int32) : Nat → Int32 := if v = 4 then upd a e (a e + x) else if v = 5 then upd a e (a e + x) else a
def zz_bp (f : Nat → Int32) (P C : Nat) : Nat → Int32 := fun q => if P ≤ q ∧ q < P + C then f q + 1 else f q
def zz_sv (f : Nat → Int32) (P C : Nat) (x : Int32) : Nat → Int32 := fun q => if P ≤ q ∧ q < P + C then x else f q
theorem zz_bp_0 (f : Nat → Int32) (P : Nat) : zz_bp f P 0 = f := funext fun q => if_neg (by omega)
theorem zz_sv_0 (f : Nat → Int32) (P : Nat) (x : Int32) : zz_sv f P 0 x = f := funext fun q => if_neg (by omega)
theorem zz_bp_s (f : Nat → Int32) (P C : Nat) : zz_bp (upd f P (f P + 1)) (P + 1) C = zz_bp f P (C + 1) := by
  funext q
  unfold zz_bp
  by_cases h : q = P
  · subst h
    rw [if_neg (by omega), if_pos (by omega), pk_us]
  · rw [pk_un h]
    by_cases h2 : P + 1 ≤ q ∧ q < P + 1 + C
    · rw [if_pos h2, if_pos (by omega)]
    · rw [if_neg h2, if_neg (by omega)]
theorem zz_sv_s (f : Nat → Int32) (P C : Nat) (x : Int32) : zz_sv (upd f P x) (P + 1) C x = zz_sv f P (C + 1) x := by
  funext q
  unfold zz_sv
  by_cases h : q = P
  · subst h
    rw [if_neg (by omega), if_pos (by omega), pk_us]
  · rw [pk_un h]
    by_cases h2 : P + 1 ≤ q ∧ q < P + 1 + C
    · rw [if_pos h2, if_pos (by omega)]
    · rw [if_neg h2, if_neg (by omega)]
theorem zz_up_o {v : Int32} {a : Nat → Int32} {e : Nat} {x : Int32} : ∀ e', e' ≠ e → zz_up v a e x e' = a e' := by
  intro e' n
  unfold zz_up
  repeat' split
  · exact pk_un n
  · exact pk_un n
  · rfl
/-- the number of new bytes -/
theorem zz_nl_p {W N : Nat} {li pc : Int32} (bW : W ≤ 120) (bN : N ≤ 121) : ∃ n, zz_nl (nI W) (nI N) li pc = nI n ∧ n ≤ 4 ∧ (0 < n → N + n ≤ W) := by
  have a1 : zz_mn (zz_mn (zz_mn 4 (nI W - nI N)) (li - nI N)) (6 - pc) ≤ zz_mn 4 (nI W - nI N) := Int32.le_trans (zz_mn_a _ _) (zz_mn_a _ _)
  have a2 := Int32.le_trans a1 (zz_mn_a _ _)
  have a3 := Int32.le_trans a1 (zz_mn_b _ _)
  unfold zz_nl zz_mx
  generalize zz_mn (zz_mn (zz_mn 4 (nI W - nI N)) (li - nI N)) (6 - pc) = m at a1 a2 a3 ⊢
  by_cases h : m ≤ 0
  · rw [if_pos h]
    exact ⟨0, rfl, by omega, by omega⟩
  · rw [if_neg h]
    have h0 : ¬ m < 0 := fun l => h (Int32.le_of_lt l)
    obtain ⟨n, hn, rfl⟩ := nI_of h0
    have k3 : n ≤ 4 := (nI_leI (b := 4) hn (by decide)).mp a2
    rw [Int32.le_iff_toInt_le, pk_sub_toInt (by omega) (by omega), nI_toInt hn] at a3
    exact ⟨n, rfl, k3, by omega⟩
theorem zz_du_c (st sd : Int32) (F : Nat) (nl nf pd ow : Int32) : zz_du st sd F nl nf pd ow = 0 ∨ zz_du st sd F nl nf pd ow = 1 ∨ zz_du st sd F nl nf pd ow = 2 ∨ (zz_du st sd F nl nf pd ow = 3 ∧ F < 160) ∨ zz_du st sd F nl nf pd ow = 4 ∨ (zz_du st sd F nl nf pd ow = 5 ∧ ¬ pd = 0) ∨ zz_du st sd F nl nf pd ow = 6 := by
  unfold zz_du
  by_cases h0 : st = 0
  · rw [if_pos h0]; exact Or.inl rfl
  rw [if_neg h0]
  by_cases h1 : st = 1
  · rw [if_pos h1]; exact Or.inl rfl
  rw [if_neg h1]
  by_cases h5 : st < 5
  · rw [if_pos h5]
    by_cases h2 : sd = 0
    · rw [if_pos h2]; exact Or.inl rfl
    rw [if_neg h2]
    by_cases h3 : st = 2
    · rw [if_pos h3]; exact Or.inr (Or.inl rfl)
    · rw [if_neg h3]; exact Or.inr (Or.inr (Or.inl rfl))
  rw [if_neg h5]
  unfold zz_dc
  by_cases k1 : F < 160
  · rw [if_pos k1]; exact Or.inr (Or.inr (Or.inr (Or.inl ⟨rfl, k1⟩)))
  rw [if_neg k1]
  by_cases k2 : 0 < nl
  · rw [if_pos k2]; exact Or.inr (Or.inr (Or.inr (Or.inr (Or.inl rfl))))
  rw [if_neg k2]
  by_cases k3 : nf = 0
  · rw [if_pos k3]
    by_cases k4 : pd = 0
    · rw [if_pos k4]
      by_cases k5 : ow = 0
      · rw [if_pos k5]; exact Or.inl rfl
      · rw [if_neg k5]; exact Or.inr (Or.inr (Or.inr (Or.inr (Or.inr (Or.inr rfl)))))
    · rw [if_neg k4]; exact Or.inr (Or.inr (Or.inr (Or.inr (Or.inr (Or.inl ⟨rfl, k4⟩)))))
  · rw [if_neg k3]; exact Or.inr (Or.inr (Or.inr (Or.inr (Or.inl rfl))))
theorem zz_pd_n {W N : Nat} {ak li pc nw hd rt : Int32} (bW : W ≤ 120) (bN : N ≤ 121) (h : ¬ zz_pd (nI N) ak (nI W) li pc nw hd rt = 0) : N < W := by
  unfold zz_pd at h
  by_cases h1 : ak = nI N
  · rw [if_pos h1] at h
    by_cases h2 : nI W ≤ nI N
    · exact absurd (if_pos h2) h
    · rw [nI_leI (by omega) (by omega)] at h2
      omega
  · exact absurd (if_neg h1) h
theorem zz_nf_n {W N n : Nat} {sh pc : Int32} (bW : W ≤ 120) (bN : N ≤ 121) (bn : n ≤ 4) (h : ¬ zz_nf sh (nI N) (nI n) (nI W) pc = 0) : N + n = W := by
  unfold zz_nf at h
  by_cases h1 : sh = 0
  · exact absurd (if_pos h1) h
  · rw [if_neg h1] at h
    by_cases h2 : nI N + nI n = nI W
    · rw [nI_add] at h2
      exact (nI_eq (by omega) (by omega)).mp h2
    · exact absurd (if_neg h2) h
theorem zz_rf_n {W q : Nat} {sh nx sW : Int32} (bW : W ≤ 120) (bq : q < 1000) (h : ¬ zz_rf sh (nI q) (nI W) nx sW = 0) : q = W := by
  unfold zz_rf at h
  by_cases h1 : sh = 0
  · exact absurd (if_pos h1) h
  · rw [if_neg h1] at h
    by_cases h2 : nI q = nI W
    · exact (nI_eq (by omega) (by omega)).mp h2
    · exact absurd (if_neg h2) h
theorem zz_01 {x : Int32} (h : x = 0 ∨ x = 1) : ∃ c : Nat, x = nI c ∧ c ≤ 1 ∧ (0 < c → ¬ x = 0) := by
  rcases h with rfl | rfl
  · exact ⟨0, rfl, by omega, by omega⟩
  · exact ⟨1, rfl, by omega, fun _ => by decide⟩
/-- the plan of a data segment -/
theorem zz_plan {nw rt ak li pc sh v hd : Int32} {sp sn sc : Nat → Int32} {A W N : Nat} (hA : ak = nI A) (bA : A ≤ 122) (bW : W ≤ 120) (bN : N ≤ W + 1)
    (hw : (v = 3 ∧ zz_ff (zz_st nw rt ak (nI N) sp sn sc) 160 0 < 160) ∨ v = 4 ∨ (v = 5 ∧ N < W) ∨ v = 6) :
    ∃ P L c : Nat, zz_dp v (zz_ff (zz_st nw rt ak (nI N) sp sn sc) 160 0) (nI N) = nI P ∧ zz_dl v (zz_ff (zz_st nw rt ak (nI N) sp sn sc) 160 0) (zz_st nw rt ak (nI N) sp sn sc) W (zz_nl (nI W) (nI N) li pc) = nI L ∧
      zz_df v (zz_ff (zz_st nw rt ak (nI N) sp sn sc) 160 0) (zz_st nw rt ak (nI N) sp sn sc) W (zz_nl (nI W) (nI N) li pc) (zz_nf sh (nI N) (zz_nl (nI W) (nI N) li pc) (nI W) pc) sh (nI W) (nI N) = nI c ∧
      c ≤ 1 ∧ L ≤ 4 ∧ P + (L + c) ≤ 121 ∧ (0 < L → P + L ≤ W) ∧ (v = 4 ∨ v = 5 → P = N ∧ N + (L + c) ≤ W + 1) := by
  have hF := zz_ff_p (zz_st nw rt ak (nI N) sp sn sc) 160 0 rfl
  have hFN : zz_ff (zz_st nw rt ak (nI N) sp sn sc) 160 0 < 160 → zz_ff (zz_st nw rt ak (nI N) sp sn sc) 160 0 < N := fun l => (zz_st_n hA rfl (by omega) (by omega) (hF.2.2.1 l)).2
  generalize zz_st nw rt ak (nI N) sp sn sc = s at *
  generalize zz_ff s 160 0 = F at *
  obtain ⟨n, en, bn, hn⟩ := zz_nl_p (li := li) (pc := pc) bW (show N ≤ 121 by omega)
  rw [en]
  unfold zz_dp zz_df zz_dl
  rcases hw with ⟨rfl, l⟩ | rfl | ⟨rfl, l⟩ | rfl
  · rw [if_pos rfl, if_neg (by decide), if_pos rfl, if_neg (by decide), if_pos rfl, nI_add]
    obtain ⟨_, r2, r3⟩ := zz_rl_p s W F 4 0 rfl
    generalize zz_rl s W F 4 0 = L at *
    obtain ⟨c, ec, bc, hc⟩ := zz_01 (zz_rf_01 sh (nI (F + L)) (nI W) (nI N) (s W))
    have hc' : 0 < c → F + L = W := fun z => zz_rf_n bW (by omega) (hc z)
    have := hFN l
    refine ⟨F, L, c, rfl, rfl, ec, bc, r2, ?_, r3, fun h => ?_⟩
    · by_cases z : 0 < c
      · have := hc' z
        omega
      · by_cases z2 : 0 < L
        · have := r3 z2
          omega
        · omega
    · rcases h with h | h
      · exact absurd h (by decide)
      · exact absurd h (by decide)
  · rw [if_neg (by decide), if_pos rfl, if_pos rfl]
    obtain ⟨c, ec, bc, hc⟩ := zz_01 (zz_nf_01 sh (nI N) (nI n) (nI W) pc)
    have hc' : 0 < c → N + n = W := fun z => zz_nf_n bW (by omega) bn (hc z)
    have k1 : N + (n + c) ≤ W + 1 := by
      by_cases z : 0 < c
      · have := hc' z
        omega
      · by_cases z2 : 0 < n
        · have := hn z2
          omega
        · omega
    exact ⟨N, n, c, rfl, rfl, ec, bc, bn, by omega, hn, fun _ => ⟨rfl, k1⟩⟩
  · rw [if_neg (by decide), if_neg (by decide), if_neg (by decide), if_pos rfl, if_neg (by decide), if_neg (by decide)]
    exact ⟨N, 1, 0, rfl, rfl, rfl, by omega, by omega, by omega, by omega, fun _ => ⟨rfl, by omega⟩⟩
  · rw [if_neg (by decide), if_neg (by decide), if_neg (by decide), if_neg (by decide), if_neg (by decide), if_neg (by decide)]
    refine ⟨N, 0, 0, rfl, rfl, rfl, by omega, by omega, by omega, by omega, fun h => ?_⟩
    rcases h with h | h
    · exact absurd h (by decide)
    · exact absurd h (by decide)
section
variable {w lf rt sr nw : Int32} {st ic pr ss sa wa wr sh ak nx li pc hd go tk en wh ow td ob sp sc sn ib hl kd so bo fr tt po ln fi sk ed ba ma sb : Nat → Int32} {e s : Nat} {v x : Int32} {P L C W N A G : Nat}
theorem zx_ed_head {post : SX → Prop} (he : e < 2) (hA : ak e = nI A) (bA : A ≤ 122) (hN : nx e = nI N) (bN : N ≤ 121) (hW : wr e = nI W) (bW : W ≤ 120)
    (hF : v = 3 → zz_ff (zz_st nw rt (ak e) (nx e) (rX sp e) (rX sn e) (rX sc e)) 160 0 < 160)
    (h : wX_emitData_82 post (nI e) x v (zz_dp v (zz_ff (zz_st nw rt (ak e) (nx e) (rX sp e) (rX sn e) (rX sc e)) 160 0) (nx e))
      (zz_dl v (zz_ff (zz_st nw rt (ak e) (nx e) (rX sp e) (rX sn e) (rX sc e)) 160 0) (zz_st nw rt (ak e) (nx e) (rX sp e) (rX sn e) (rX sc e)) W (zz_nl (wr e) (nx e) (li e) (pc e)))
      (zz_df v (zz_ff (zz_st nw rt (ak e) (nx e) (rX sp e) (rX sn e) (rX sc e)) 160 0) (zz_st nw rt (ak e) (nx e) (rX sp e) (rX sn e) (rX sc e)) W (zz_nl (wr e) (nx e) (li e) (pc e))
        (zz_nf (sh e) (nx e) (zz_nl (wr e) (nx e) (li e) (pc e)) (wr e) (pc e)) (sh e) (wr e) (nx e)) w lf rt sr nw st ic pr ss sa wa wr sh ak nx li pc hd go tk en wh ow td ob sp sc sn ib hl kd so bo fr tt po ln fi sk ed ba ma sb) : wpX_emitData post (w, lf, rt, sr, nw, st, ic, pr, ss, sa, wa, wr, sh, ak, nx, li, pc, hd, go, tk, en, wh, ow, td, ob, sp, sc, sn, ib, hl, kd, so, bo, fr, tt, po, ln, fi, sk, ed, ba, ma, sb) (nI e) x v := by
  have ve : vp_in (nI e) 2 := vp_in_nI he (by decide)
  have ce : (nI e).toNatClampNeg = e := nI_clamp (by omega)
  unfold wpX_emitData
  simp only [ce]
  refine ⟨ve, nm_e ?_⟩
  unfold zz_dp zz_df zz_dl at h
  by_cases h3 : v = 3
  · have l := hF h3
    have b160 := (zz_ff_p (zz_st nw rt (ak e) (nx e) (rX sp e) (rX sn e) (rX sc e)) 160 0 rfl).2.1
    subst h3
    rw [if_pos rfl, if_neg (by decide), if_pos rfl, if_neg (by decide), if_pos rfl] at h
    refine br_t (by trivial) (zx_first he hA bA hN bN ?_)
    rw [show zz_fx (zz_ff (zz_st nw rt (ak e) (nx e) (rX sp e) (rX sn e) (rX sc e)) 160 0) = nI (zz_ff (zz_st nw rt (ak e) (nx e) (rX sp e) (rX sn e) (rX sc e)) 160 0) from if_pos l]
    exact zx_rsl he hN bN hW bW b160 (zx_rfin he hN bN hW bW h)
  · rw [if_neg h3] at h
    refine br_f h3 ?_
    by_cases h4 : v = 4
    · rw [if_pos h4, if_pos h4] at h
      exact br_t h4 (zx_newLen he (zx_newFin he h))
    · rw [if_neg h4, if_neg h3, if_neg h4, if_neg h3] at h
      refine br_f h4 ?_
      by_cases h5 : v = 5
      · rw [if_pos h5] at h
        exact br_t h5 h
      · rw [if_neg h5] at h
        exact br_f h5 h
theorem zx_pd_l (he : e < 2) (hs : s < 12) (bL : L ≤ 4) (bP : P + L ≤ 121) : ∀ d i (sb : Nat → Int32), i + d = L → ∃ sb', (∀ s', s' ≠ s → rB sb' s' = rB sb s') ∧ (∀ j, j < i → rB sb' s j = rB sb s j) ∧ (∀ j, i ≤ j → j < L → rB sb' s j = rX ob e (P + j)) ∧
    ∀ post : SX → Prop, post (w, lf, rt, sr, nw, st, ic, pr, ss, sa, wa, wr, sh, ak, nx, li, pc, hd, go, tk, en, wh, ow, td, ob, sp, sc, sn, ib, hl, kd, so, bo, fr, tt, po, ln, fi, sk, ed, ba, ma, sb') → wX_putData_117 post (nI s) (nI e) (nI P) (nI L) w lf rt sr nw (d + 1) (nI i) st ic pr ss sa wa wr sh ak nx li pc hd go tk en wh ow td ob sp sc sn ib hl kd so bo fr tt po ln fi sk ed ba ma sb := by
  intro d
  induction d with
  | zero =>
    intro i sb hi
    exact ⟨sb, fun _ _ => rfl, fun _ _ => rfl, fun j h1 h2 => absurd h2 (by omega), fun post h => br_t (nI_le (by omega) (by omega)) h⟩
  | succ d ih =>
    intro i sb hi
    obtain ⟨sb', h1, h2, h3, H⟩ := ih (i + 1) (upd sb (s * 4 + i) (ob (e * 121 + (P + i)))) (by omega)
    refine ⟨sb', fun s' m => (h1 s' m).trans (rB_un (by omega) m), fun j hj => ?_, fun j hj hj' => ?_, fun post h => ?_⟩
    · rw [h2 j (by omega), rB_us (by omega), pk_un (by omega)]
    · by_cases e1 : j = i
      · subst e1
        rw [h2 j (by omega), rB_us (by omega), pk_us, rX_g (by omega)]
      · exact h3 j (by omega) hj'
    · refine br_f (nI_ge (by omega) (by omega)) (br_f (nI_ge (a := i) (b := 4) (by omega) (by decide)) (nm_r (nI_add P i) ?_))
      refine zx_pos1 (by omega) (br_f (by decide) (zx_cell ⟨vp_in_nI (by omega) (by decide), ?_⟩))
      rw [zz_i4, nI_clamp (by omega), nI_clamp (by omega)]
      exact ⟨vp_in_nI (by omega) (by decide), nm_e (nm_r (nI_1 i) (H post h))⟩
theorem zx_putData (he : e < 2) (hs : s < 12) (bL : L ≤ 4) (bP : P + L ≤ 121) (hb : ∀ q, rX hl e q = 0 ∨ rX hl e q = 1) (hG : go e = nI G) (bG : G ≤ 121) :
    ∃ sb', (∀ s', s' ≠ s → rB sb' s' = rB sb s') ∧ (∀ j, j < L → rB sb' s j = rX ob e (P + j)) ∧
    ∀ post : SX → Prop, post (w, lf, rt, sr, nw, st, ic, pr, ss, sa, wa, wr, sh, ak, nx, li, pc, hd, go, tk, en, wh, ow, td, ob, sp, sc, sn, ib, hl, upd kd s 3, upd so s (nI e), upd bo s nw, upd fr s (ic e), upd tt s (pr e), upd (upd po s 0) s (nI P), upd (upd ln s 0) s (nI L), upd (upd fi s (vp_nar .boolean 0)) s (vp_nar .boolean x), upd (upd sk s 0) s (zz_ack (wh e) (go e)), upd (upd ed s 0) s (tk e + w), upd (upd ba s 0) s (go e), upd (upd ma s 0) s (nI (zz_mk (rX hl e) G 7 0 0)), sb') → wpX_putData post (w, lf, rt, sr, nw, st, ic, pr, ss, sa, wa, wr, sh, ak, nx, li, pc, hd, go, tk, en, wh, ow, td, ob, sp, sc, sn, ib, hl, kd, so, bo, fr, tt, po, ln, fi, sk, ed, ba, ma, sb) (nI s) (nI e) (nI P) (nI L) x := by
  have ve : vp_in (nI e) 2 := vp_in_nI he (by decide)
  have ce : (nI e).toNatClampNeg = e := nI_clamp (by omega)
  have vs : vp_in (nI s) 12 := vp_in_nI hs (by decide)
  have cs : (nI s).toNatClampNeg = s := nI_clamp (by omega)
  obtain ⟨sb1, o1, H1⟩ := zx_put (K := 3) (a := nI e) (b := ic e) (c := pr e) (w := w) (lf := lf) (rt := rt) (sr := sr) (nw := nw) (st := st) (ic := ic) (pr := pr) (ss := ss) (sa := sa) (wa := wa) (wr := wr) (sh := sh) (ak := ak) (nx := nx) (li := li) (pc := pc) (hd := hd) (go := go) (tk := tk) (en := en) (wh := wh) (ow := ow) (td := td) (ob := ob) (sp := sp) (sc := sc) (sn := sn) (ib := ib) (hl := hl) (kd := kd) (so := so) (bo := bo) (fr := fr) (tt := tt) (po := po) (ln := ln) (fi := fi) (sk := sk) (ed := ed) (ba := ba) (ma := ma) (sb := sb) hs
  obtain ⟨sb2, o2, _, b2, H2⟩ := zx_pd_l (w := w) (lf := lf) (rt := rt) (sr := sr) (nw := nw) (st := st) (ic := ic) (pr := pr) (ss := ss) (sa := sa) (wa := wa) (wr := wr) (sh := sh) (ak := ak) (nx := nx) (li := li) (pc := pc) (hd := hd) (go := go) (tk := tk) (en := en) (wh := wh) (ow := ow) (td := td) (ob := ob) (sp := sp) (sc := sc) (sn := sn) (ib := ib) (hl := hl) (kd := upd kd s 3) (so := upd so s (nI e)) (bo := upd bo s nw) (fr := upd fr s (ic e)) (tt := upd tt s (pr e)) (po := upd (upd po s 0) s (nI P)) (ln := upd (upd ln s 0) s (nI L)) (fi := upd (upd fi s (vp_nar .boolean 0)) s (vp_nar .boolean x)) (sk := upd (upd sk s 0) s (zz_ack (wh e) (go e))) (ed := upd (upd ed s 0) s (tk e + w)) (ba := upd (upd ba s 0) s (go e)) (ma := upd (upd ma s 0) s (nI (zz_mk (rX hl e) G 7 0 0))) he hs bL bP L 0 sb1 (by omega)
  refine ⟨sb2, fun s' n => (o2 s' n).trans (o1 s' n), fun j hj => b2 j (Nat.zero_le j) hj, fun post h => ?_⟩
  have h' := H2 post h
  unfold wpX_putData wX_putData_73
  simp only [ce, cs]
  refine ⟨ve, ve, H1 _ ?_⟩
  refine ⟨vs, nm_e ⟨vs, nm_e ⟨vs, nm_e ⟨ve, ?_⟩⟩⟩⟩
  unfold zz_ack at h'
  by_cases z : wh e = 0
  · rw [if_pos z] at h'
    exact br_t z ⟨ve, vs, nm_e ⟨ve, vs, nm_e ⟨ve, vs, nm_e (zx_mask he hb hG bG ⟨vs, nm_e ⟨L + 1, h'⟩⟩)⟩⟩⟩
  · rw [if_neg z] at h'
    exact br_f z ⟨ve, vs, nm_e ⟨ve, vs, nm_e ⟨ve, vs, nm_e (zx_mask he hb hG bG ⟨vs, nm_e ⟨L + 1, h'⟩⟩)⟩⟩⟩
theorem zx_mark_l (he : e < 2) (bC : C ≤ 5) (bP : P + C ≤ 121) : ∀ d i (sc sn : Nat → Int32), i + d = C → ∃ sc' sn', rX sc' e = zz_bp (rX sc e) (P + i) d ∧ (∀ e', e' ≠ e → rX sc' e' = rX sc e') ∧ rX sn' e = zz_sv (rX sn e) (P + i) d nw ∧ (∀ e', e' ≠ e → rX sn' e' = rX sn e') ∧
    ∀ post : SX → Prop, post (w, lf, rt, sr, nw, st, ic, pr, ss, sa, wa, wr, sh, ak, nx, li, pc, hd, go, tk, en, wh, ow, td, ob, sp, sc', sn', ib, hl, kd, so, bo, fr, tt, po, ln, fi, sk, ed, ba, ma, sb) → wX_markSent_3 post (nI e) (nI P) (nI C) w lf rt sr nw (d + 1) (nI i) st ic pr ss sa wa wr sh ak nx li pc hd go tk en wh ow td ob sp sc sn ib hl kd so bo fr tt po ln fi sk ed ba ma sb := by
  intro d
  induction d with
  | zero =>
    intro i sc sn hi
    exact ⟨sc, sn, (zz_bp_0 _ _).symm, fun _ _ => rfl, (zz_sv_0 _ _ _).symm, fun _ _ => rfl, fun post h => br_t (nI_le (by omega) (by omega)) h⟩
  | succ d ih =>
    intro i sc sn hi
    obtain ⟨sc', sn', h1, h2, h3, h4, H⟩ := ih (i + 1) (upd sc (e * 121 + (P + i)) (sc (e * 121 + (P + i)) + 1)) (upd sn (e * 121 + (P + i)) nw) (by omega)
    refine ⟨sc', sn', ?_, fun e' n => (h2 e' n).trans (rX_un (by omega) n), ?_, fun e' n => (h4 e' n).trans (rX_un (by omega) n), fun post h => ?_⟩
    · rw [h1, rX_us (by omega), ← rX_g (a := sc) (e := e) (by omega : P + i < 121)]
      exact zz_bp_s (rX sc e) (P + i) d
    · rw [h3, rX_us (by omega)]
      exact zz_sv_s (rX sn e) (P + i) d nw
    · refine br_f (nI_ge (by omega) (by omega)) (br_f (nI_ge (a := i) (b := 5) (by omega) (by decide)) (nm_r (nI_add P i) ?_))
      have vc : vp_in (nI (e * 121 + (P + i))) 242 := vp_in_nI (by omega) (by decide)
      refine zx_pos1 (by omega) (br_f (by decide) (zx_cell ?_))
      rw [nI_clamp (by omega)]
      exact ⟨vc, vc, nm_e ⟨vc, nm_e (nm_r (nI_1 i) (H post h))⟩⟩
theorem zx_ed {c : Nat} (he : e < 2) (hs : s < 12) (bL : L ≤ 4) (bc : c ≤ 1) (bP : P + (L + c) ≤ 121) (hb : ∀ q, rX hl e q = 0 ∨ rX hl e q = 1) (hG : go e = nI G) (bG : G ≤ 121) :
    ∃ sb' sc' sn', (∀ s', s' ≠ s → rB sb' s' = rB sb s') ∧ (∀ j, j < L → rB sb' s j = rX ob e (P + j)) ∧ rX sc' e = zz_bp (rX sc e) P (L + c) ∧ (∀ e', e' ≠ e → rX sc' e' = rX sc e') ∧ rX sn' e = zz_sv (rX sn e) P (L + c) nw ∧ (∀ e', e' ≠ e → rX sn' e' = rX sn e') ∧
    ∀ post : SX → Prop, post (w, lf, rt, sr, nw, st, ic, pr, ss, sa, wa, wr, sh, ak, zz_up v nx e (nI (L + c)), li, zz_up v pc e (nI (L + c)), hd, go, tk, en, wh, upd ow e (vp_nar .boolean 0), upd td e (tk e + w), ob, sp, sc', sn', ib, hl, upd kd s 3, upd so s (nI e), upd bo s nw, upd fr s (ic e), upd tt s (pr e), upd (upd po s 0) s (nI P), upd (upd ln s 0) s (nI L), upd (upd fi s (vp_nar .boolean 0)) s (vp_nar .boolean (nI c)), upd (upd sk s 0) s (zz_ack (wh e) (go e)), upd (upd ed s 0) s (tk e + w), upd (upd ba s 0) s (go e), upd (upd ma s 0) s (nI (zz_mk (rX hl e) G 7 0 0)), sb') →
      wX_emitData_82 post (nI e) (nI s) v (nI P) (nI L) (nI c) w lf rt sr nw st ic pr ss sa wa wr sh ak nx li pc hd go tk en wh ow td ob sp sc sn ib hl kd so bo fr tt po ln fi sk ed ba ma sb := by
  have ve : vp_in (nI e) 2 := vp_in_nI he (by decide)
  have ce : (nI e).toNatClampNeg = e := nI_clamp (by omega)
  obtain ⟨sb', o1, b1, H1⟩ := zx_putData (x := nI c) (w := w) (lf := lf) (rt := rt) (sr := sr) (nw := nw) (st := st) (ic := ic) (pr := pr) (ss := ss) (sa := sa) (wa := wa) (wr := wr) (sh := sh) (ak := ak) (nx := nx) (li := li) (pc := pc) (hd := hd) (go := go) (tk := tk) (en := en) (wh := wh) (ow := ow) (td := td) (ob := ob) (sp := sp) (sc := sc) (sn := sn) (ib := ib) (hl := hl) (kd := kd) (so := so) (bo := bo) (fr := fr) (tt := tt) (po := po) (ln := ln) (fi := fi) (sk := sk) (ed := ed) (ba := ba) (ma := ma) (sb := sb) he hs bL (P := P) (L := L) (by omega) hb hG bG
  obtain ⟨sc', sn', h1, h2, h3, h4, H2⟩ := zx_mark_l (w := w) (lf := lf) (rt := rt) (sr := sr) (nw := nw) (st := st) (ic := ic) (pr := pr) (ss := ss) (sa := sa) (wa := wa) (wr := wr) (sh := sh) (ak := ak) (nx := nx) (li := li) (pc := pc) (hd := hd) (go := go) (tk := tk) (en := en) (wh := wh) (ow := ow) (td := td) (ob := ob) (sp := sp) (ib := ib) (hl := hl)
    (kd := upd kd s 3) (so := upd so s (nI e)) (bo := upd bo s nw) (fr := upd fr s (ic e)) (tt := upd tt s (pr e)) (po := upd (upd po s 0) s (nI P)) (ln := upd (upd ln s 0) s (nI L)) (fi := upd (upd fi s (vp_nar .boolean 0)) s (vp_nar .boolean (nI c))) (sk := upd (upd sk s 0) s (zz_ack (wh e) (go e))) (ed := upd (upd ed s 0) s (tk e + w)) (ba := upd (upd ba s 0) s (go e)) (ma := upd (upd ma s 0) s (nI (zz_mk (rX hl e) G 7 0 0))) (sb := sb') (C := L + c) (P := P) he (by omega) bP (L + c) 0 sc sn (by omega)
  refine ⟨sb', sc', sn', o1, b1, h1, h2, h3, h4, fun post h => ?_⟩
  unfold wX_emitData_82
  refine H1 _ ?_
  have K : wX_emitData_108 post (nI e) v (nI P) (nI (L + c)) w lf rt sr nw st ic pr ss sa wa wr sh ak nx li pc hd go tk en wh ow td ob sp sc sn ib hl (upd kd s 3) (upd so s (nI e)) (upd bo s nw) (upd fr s (ic e)) (upd tt s (pr e)) (upd (upd po s 0) s (nI P)) (upd (upd ln s 0) s (nI L)) (upd (upd fi s (vp_nar .boolean 0)) s (vp_nar .boolean (nI c))) (upd (upd sk s 0) s (zz_ack (wh e) (go e))) (upd (upd ed s 0) s (tk e + w)) (upd (upd ba s 0) s (go e)) (upd (upd ma s 0) s (nI (zz_mk (rX hl e) G 7 0 0))) sb' := by
    unfold wX_emitData_108
    refine Exists.intro (L + c + 1) (H2 _ ?_)
    unfold wX_emitData_129 wX_emitData_151
    simp only [ce]
    unfold zz_up at h
    by_cases v4 : v = 4
    · rw [if_pos v4, if_pos v4] at h
      exact br_t v4 ⟨ve, ve, nm_e ⟨ve, ve, nm_e ⟨ve, nm_e ⟨ve, ve, nm_e h⟩⟩⟩⟩
    · rw [if_neg v4, if_neg v4] at h
      refine br_f v4 ?_
      by_cases v5 : v = 5
      · rw [if_pos v5, if_pos v5] at h
        exact br_t v5 ⟨ve, ve, nm_e ⟨ve, ve, nm_e ⟨ve, nm_e ⟨ve, ve, nm_e h⟩⟩⟩⟩
      · rw [if_neg v5, if_neg v5] at h
        exact br_f v5 ⟨ve, nm_e ⟨ve, ve, nm_e h⟩⟩
  have c01 : c = 0 ∨ c = 1 := by omega
  rcases c01 with rfl | rfl
  · exact br_t (by trivial) K
  · refine br_f (by decide) ?_
    rw [nI_1]
    exact K
end
end
section
/-! emit: the reference's side, and both -/
section
variable {w lf rt sr nw : Int32} {st ic pr wr ak nx li pc hd tk en td ss say way sh wh ow oby iby scy sny spy hly kd so bo fr tt poy lny sky edy bay may fiy sby : Nat → Int32} {e s : Nat} {v x : Int32} {P L C W N A G : Nat}
theorem zy_ed_l (he : e < 2) (hs : s < 12) (bL : L ≤ 4) (bC : C ≤ 5) (lC : L ≤ C) (bP : P + C ≤ 121) : ∀ d i (sby scy sny : Nat → Int32), i + d = C → ∃ sby' scy' sny',
    (∀ s', s' ≠ s → rB sby' s' = rB sby s') ∧ (∀ j, j < i → rB sby' s j = rB sby s j) ∧ (∀ j, i ≤ j → j < L → rB sby' s j = rY oby e (P + j)) ∧
    rY scy' e = zz_bp (rY scy e) (P + i) d ∧ (∀ e', e' ≠ e → rY scy' e' = rY scy e') ∧ rY sny' e = zz_sv (rY sny e) (P + i) d nw ∧ (∀ e', e' ≠ e → rY sny' e' = rY sny e') ∧
    (∀ post : SY → Prop, wY_emitData_239 post (nI e) v (nI C) w lf rt sr nw st ic pr wr ak nx li pc hd tk en td ss say way sh wh ow oby iby scy' sny' spy hly kd so bo fr tt poy lny sky edy bay may fiy sby' → wY_emitData_135 post (nI e) (nI s) v (nI P) (nI L) (nI C) w lf rt sr nw (d + 1) (nI i) st ic pr wr ak nx li pc hd tk en td ss say way sh wh ow oby iby scy sny spy hly kd so bo fr tt poy lny sky edy bay may fiy sby) := by
  intro d
  induction d with
  | zero =>
    intro i sby scy sny hi
    refine ⟨sby, scy, sny, fun _ _ => rfl, fun _ _ => rfl, fun j h1 h2 => absurd h2 (by omega), (zz_bp_0 _ _).symm, fun _ _ => rfl, (zz_sv_0 _ _ _).symm, fun _ _ => rfl, fun post h => ?_⟩
    by_cases h5 : (5 : Int32) ≤ nI i
    · exact br_t h5 h
    · exact br_f h5 (br_t (nI_le (by omega) (by omega)) h)
  | succ d ih =>
    intro i sby scy sny hi
    have ix : (nI e * 160 + nI P) + nI i = nI (e * 160 + (P + i)) := by
      rw [zz_i160, nI_add]
      exact congrArg nI (by omega)
    have vc : vp_in (nI (e * 160 + (P + i))) 320 := vp_in_nI (by omega) (by decide)
    have cc : (nI (e * 160 + (P + i))).toNatClampNeg = e * 160 + (P + i) := nI_clamp (by omega)
    have k160 : ¬ (160 : Int32) ≤ nI P + nI i := by
      rw [nI_add]
      exact nI_ge (a := P + i) (b := 160) (by omega) (by decide)
    by_cases hL : L ≤ i
    · obtain ⟨sby', scy', sny', h1, h2, h3, h4, h5, h6, h7, H⟩ := ih (i + 1) sby (upd scy (e * 160 + (P + i)) (scy (e * 160 + (P + i)) + 1)) (upd sny (e * 160 + (P + i)) nw) (by omega)
      refine ⟨sby', scy', sny', h1, fun j hj => h2 j (by omega), fun j hj hj' => absurd hj' (by omega), ?_, fun e' n => (h5 e' n).trans (rY_un (by omega) n), ?_, fun e' n => (h7 e' n).trans (rY_un (by omega) n), fun post h => ?_⟩
      · rw [h4, rY_us (by omega), ← rY_g (a := scy) (e := e) (by omega : P + i < 160)]
        exact zz_bp_s (rY scy e) (P + i) d
      · rw [h6, rY_us (by omega)]
        exact zz_sv_s (rY sny e) (P + i) d nw
      · refine br_f (nI_ge (a := i) (b := 5) (by omega) (by decide)) (br_f (nI_ge (by omega) (by omega)) (br_f k160 (br_t (nI_le hL (by omega)) ?_)))
        unfold wY_emitData_193
        rw [ix, cc]
        exact ⟨vc, vc, nm_e ⟨vc, nm_e (nm_r (nI_1 i) (H post h))⟩⟩
    · obtain ⟨sby', scy', sny', h1, h2, h3, h4, h5, h6, h7, H⟩ := ih (i + 1) (upd sby (s * 4 + i) (oby (e * 160 + (P + i)))) (upd scy (e * 160 + (P + i)) (scy (e * 160 + (P + i)) + 1)) (upd sny (e * 160 + (P + i)) nw) (by omega)
      refine ⟨sby', scy', sny', fun s' m => (h1 s' m).trans (rB_un (by omega) m), fun j hj => ?_, fun j hj hj' => ?_, ?_, fun e' n => (h5 e' n).trans (rY_un (by omega) n), ?_, fun e' n => (h7 e' n).trans (rY_un (by omega) n), fun post h => ?_⟩
      · rw [h2 j (by omega), rB_us (by omega), pk_un (by omega)]
      · by_cases e1 : j = i
        · subst e1
          rw [h2 j (by omega), rB_us (by omega), pk_us, rY_g (by omega)]
        · exact h3 j (by omega) hj'
      · rw [h4, rY_us (by omega), ← rY_g (a := scy) (e := e) (by omega : P + i < 160)]
        exact zz_bp_s (rY scy e) (P + i) d
      · rw [h6, rY_us (by omega)]
        exact zz_sv_s (rY sny e) (P + i) d nw
      · refine br_f (nI_ge (a := i) (b := 5) (by omega) (by decide)) (br_f (nI_ge (by omega) (by omega)) (br_f k160 (br_f (nI_ge (by omega) (by omega)) ?_)))
        have c4 : (nI (s * 4 + i)).toNatClampNeg = s * 4 + i := nI_clamp (by omega)
        unfold wY_emitData_193
        rw [ix, cc, zz_i4, c4]
        exact ⟨vc, vp_in_nI (by omega) (by decide), nm_e ⟨vc, vc, nm_e ⟨vc, nm_e (nm_r (nI_1 i) (H post h))⟩⟩⟩
theorem zy_ed_2 {post : SY → Prop} (he : e < 2) (h : post (w, lf, rt, sr, nw, st, ic, pr, wr, ak, zz_up v nx e x, li, zz_up v pc e x, hd, tk, en, td, ss, say, way, sh, wh, upd ow e (vp_nar .boolean 0), oby, iby, scy, sny, spy, hly, kd, so, bo, fr, tt, poy, lny, sky, edy, bay, may, fiy, sby)) : wY_emitData_239 post (nI e) v x w lf rt sr nw st ic pr wr ak nx li pc hd tk en td ss say way sh wh ow oby iby scy sny spy hly kd so bo fr tt poy lny sky edy bay may fiy sby := by
  have ve : vp_in (nI e) 2 := vp_in_nI he (by decide)
  have ce : (nI e).toNatClampNeg = e := nI_clamp (by omega)
  unfold wY_emitData_239 wY_emitData_249
  rw [ce]
  unfold zz_up at h
  by_cases v4 : v = 4
  · rw [if_pos v4, if_pos v4] at h
    exact br_t v4 ⟨ve, ve, nm_e ⟨ve, ve, nm_e ⟨ve, nm_e h⟩⟩⟩
  · rw [if_neg v4, if_neg v4] at h
    refine br_f v4 ?_
    by_cases v5 : v = 5
    · rw [if_pos v5, if_pos v5] at h
      exact br_t v5 ⟨ve, ve, nm_e ⟨ve, ve, nm_e ⟨ve, nm_e h⟩⟩⟩
    · rw [if_neg v5, if_neg v5] at h
      exact br_f v5 ⟨ve, nm_e h⟩
theorem zy_ed_h {post : SY → Prop} (he : e < 2) (hN : nx e = nI N) (bN : N ≤ 121) (hz : ∀ p, 121 ≤ p → rY spy e p = 0)
    (h : wY_emitData_19 post (nI e) x v (zz_dp v (zz_ff (zz_st nw rt (ak e) (nx e) (rY spy e) (rY sny e) (rY scy e)) 160 0) (nx e)) w lf rt sr nw st ic pr wr ak nx li pc hd tk en td ss say way sh wh ow oby iby scy sny spy hly kd so bo fr tt poy lny sky edy bay may fiy sby) : wpY_emitData post (w, lf, rt, sr, nw, st, ic, pr, wr, ak, nx, li, pc, hd, tk, en, td, ss, say, way, sh, wh, ow, oby, iby, scy, sny, spy, hly, kd, so, bo, fr, tt, poy, lny, sky, edy, bay, may, fiy, sby) (nI e) x v := by
  have ve : vp_in (nI e) 2 := vp_in_nI he (by decide)
  have ce : (nI e).toNatClampNeg = e := nI_clamp (by omega)
  unfold wpY_emitData
  simp only [ce]
  unfold zz_dp at h
  by_cases h3 : v = 3
  · rw [if_pos h3] at h
    exact br_t h3 (zy_first he hN bN hz h)
  · rw [if_neg h3] at h
    exact br_f h3 ⟨ve, h⟩
theorem zy_ed {c : Nat} (he : e < 2) (hs : s < 12) (bL : L ≤ 4) (bc : c ≤ 1) (bP : P + (L + c) ≤ 121) (hN : nx e = nI N) (bN : N ≤ 121) (hW : wr e = nI W) (bW : W ≤ 120) (hz : ∀ p, 121 ≤ p → rY spy e p = 0)
    (g1 : ∀ q, q < G → ¬ rY hly e q = 0) (g0 : rY hly e G = 0) (bG : G ≤ 121)
    (e1 : zz_dp v (zz_ff (zz_st nw rt (ak e) (nx e) (rY spy e) (rY sny e) (rY scy e)) 160 0) (nx e) = nI P)
    (e2 : zz_dl v (zz_ff (zz_st nw rt (ak e) (nx e) (rY spy e) (rY sny e) (rY scy e)) 160 0) (zz_st nw rt (ak e) (nx e) (rY spy e) (rY sny e) (rY scy e)) W (zz_nl (wr e) (nx e) (li e) (pc e)) = nI L)
    (e3 : zz_df v (zz_ff (zz_st nw rt (ak e) (nx e) (rY spy e) (rY sny e) (rY scy e)) 160 0) (zz_st nw rt (ak e) (nx e) (rY spy e) (rY sny e) (rY scy e)) W (zz_nl (wr e) (nx e) (li e) (pc e))
      (zz_nf (sh e) (nx e) (zz_nl (wr e) (nx e) (li e) (pc e)) (wr e) (pc e)) (sh e) (wr e) (nx e) = nI c) :
    ∃ sby' scy' sny', (∀ s', s' ≠ s → rB sby' s' = rB sby s') ∧ (∀ j, j < L → rB sby' s j = rY oby e (P + j)) ∧
      rY scy' e = zz_bp (rY scy e) P (L + c) ∧ (∀ e', e' ≠ e → rY scy' e' = rY scy e') ∧ rY sny' e = zz_sv (rY sny e) P (L + c) nw ∧ (∀ e', e' ≠ e → rY sny' e' = rY sny e') ∧
      (∀ post : SY → Prop, post (w, lf, rt, sr, nw, st, ic, pr, wr, ak, zz_up v nx e (nI (L + c)), li, zz_up v pc e (nI (L + c)), hd, tk, en, td, ss, say, way, sh, wh, upd ow e (vp_nar .boolean 0), oby, iby, scy', sny', spy, hly, upd kd s 3, so, bo, fr, tt, upd poy s (nI P), upd lny s (nI L), upd sky s (zz_ack (wh e) (nI G)), edy, upd bay s (nI G), upd may s (nI (zz_mk (rY hly e) G 7 0 0)), upd fiy s (vp_nar .boolean (nI c)), sby') →
        wpY_emitData post (w, lf, rt, sr, nw, st, ic, pr, wr, ak, nx, li, pc, hd, tk, en, td, ss, say, way, sh, wh, ow, oby, iby, scy, sny, spy, hly, kd, so, bo, fr, tt, poy, lny, sky, edy, bay, may, fiy, sby) (nI e) (nI s) v) := by
  have ve : vp_in (nI e) 2 := vp_in_nI he (by decide)
  have ce : (nI e).toNatClampNeg = e := nI_clamp (by omega)
  have vs : vp_in (nI s) 12 := vp_in_nI hs (by decide)
  have cs : (nI s).toNatClampNeg = s := nI_clamp (by omega)
  obtain ⟨sby', scy', sny', h1, _, h3, h4, h5, h6, h7, H⟩ := zy_ed_l (v := v) (w := w) (lf := lf) (rt := rt) (sr := sr) (nw := nw) (st := st) (ic := ic) (pr := pr) (wr := wr) (ak := ak) (nx := nx) (li := li) (pc := pc) (hd := hd) (tk := tk) (en := en) (td := td) (ss := ss) (say := say) (way := way) (sh := sh) (wh := wh) (ow := ow) (oby := oby) (iby := iby) (spy := spy) (hly := hly) (kd := upd kd s 3) (so := so) (bo := bo) (fr := fr) (tt := tt) (poy := upd poy s (nI P)) (lny := upd lny s (nI L)) (sky := upd sky s (zz_ack (wh e) (nI G))) (edy := edy) (bay := upd bay s (nI G)) (may := upd may s (nI (zz_mk (rY hly e) G 7 0 0))) (fiy := upd fiy s (vp_nar .boolean (nI c)))
    he hs bL (C := L + c) (by omega) (by omega) bP (L + c) 0 sby scy sny (by omega)
  refine ⟨sby', scy', sny', h1, fun j hj => h3 j (Nat.zero_le j) hj, h4, h5, h6, h7, fun post h => zy_ed_h he hN bN hz ?_⟩
  have h' := H post (zy_ed_2 he h)
  rw [e1]
  unfold wY_emitData_19 wY_emitData_104
  refine zy_dueLen he hN bN hz hW bW (zy_dueFin he hN bN hz hW bW ?_)
  rw [e2, e3, cs]
  refine ⟨vs, nm_e ⟨vs, nm_e ⟨vs, nm_e ⟨vs, nm_e (zy_got he g1 g0 bG ⟨vs, nm_e ⟨vs, ve, ?_⟩⟩)⟩⟩⟩⟩
  rw [ce, pk_us, Int32.add_zero]
  unfold zz_ack at h'
  have K : ∀ y : Int32, wY_emitData_135 post (nI e) (nI s) v (nI P) (nI L) (nI (L + c)) w lf rt sr nw (L + c + 1) (nI 0) st ic pr wr ak nx li pc hd tk en td ss say way sh wh ow oby iby scy sny spy hly (upd kd s 3) so bo fr tt (upd poy s (nI P)) (upd lny s (nI L)) (upd sky s y) edy (upd bay s (nI G)) (upd may s (nI (zz_mk (rY hly e) G 7 0 0))) (upd fiy s (vp_nar .boolean (nI c))) sby →
      (vp_in (nI s) 12 ∧ ∀ a : Nat → Int32, a = upd sky s y → wpY_gaps (fun r => vp_in (nI s) 12 ∧ ∀ b : Nat → Int32, b = upd may s r → ((nI c = 0 → ∀ z : Int32, z = nI L + 0 → ∃ n : Nat, wY_emitData_135 post (nI e) (nI s) v (nI P) (nI L) z w lf rt sr nw n 0 st ic pr wr ak nx li pc hd tk en td ss say way sh wh ow oby iby scy sny spy hly (upd kd s 3) so bo fr tt (upd poy s (nI P)) (upd lny s (nI L)) a edy (upd bay s (nI G)) b (upd fiy s (vp_nar .boolean (nI c))) sby) ∧ (¬ nI c = 0 → ∀ z : Int32, z = nI L + 1 → ∃ n : Nat, wY_emitData_135 post (nI e) (nI s) v (nI P) (nI L) z w lf rt sr nw n 0 st ic pr wr ak nx li pc hd tk en td ss say way sh wh ow oby iby scy sny spy hly (upd kd s 3) so bo fr tt (upd poy s (nI P)) (upd lny s (nI L)) a edy (upd bay s (nI G)) b (upd fiy s (vp_nar .boolean (nI c))) sby)))
        (w, lf, rt, sr, nw, st, ic, pr, wr, ak, nx, li, pc, hd, tk, en, td, ss, say, way, sh, wh, ow, oby, iby, scy, sny, spy, hly, upd kd s 3, so, bo, fr, tt, upd poy s (nI P), upd lny s (nI L), a, edy, upd bay s (nI G), may, upd fiy s (vp_nar .boolean (nI c)), sby) (nI e)) := fun y hy => by
    refine ⟨vs, nm_e (zy_gaps he g1 g0 bG ⟨vs, nm_e ?_⟩)⟩
    have c01 : c = 0 ∨ c = 1 := by omega
    rcases c01 with rfl | rfl
    · exact br_t (by trivial) (nm_r (Int32.add_zero _) ⟨_, hy⟩)
    · exact br_f (by decide) (nm_r (nI_1 L) ⟨_, hy⟩)
  by_cases z : wh e = 0
  · rw [if_pos z] at h'
    exact br_t z (K _ h')
  · rw [if_neg z] at h'
    exact br_f z (K _ h')
end
section
variable {st ss sa say wa way wr ak nx tk go : Int32} {ob oby sp spy sc scy sn sny ib iby hl hly : Nat → Int32}
theorem zE_data {N' W' N2 P C : Nat} {x : Int32} (H : zE st ss sa say wa way wr ak nx tk go ob oby sp spy sc scy sn sny ib iby hl hly) (h1 : nx = nI N') (h2 : wr = nI W') (b1 : N' ≤ 121) (b2 : W' ≤ 120) (hN2 : N2 = N' ∨ (P = N' ∧ N2 = N' + C ∧ N2 ≤ W' + 1)) :
    zE st ss sa say wa way wr ak (nI N2) tk go ob oby sp spy (zz_bp sc P C) (zz_bp scy P C) (zz_sv sn P C x) (zz_sv sny P C x) ib iby hl hly := by
  obtain ⟨S, W, A, N, T, G, ⟨hS, hW, hA, hN, hT, hG⟩, ⟨bS, bW, bA, bN, bT, bG⟩, ⟨hsy, hwa⟩, ⟨rsp, rsc, rhl⟩, hsn, hob, hib, hg1, hg0, hhb⟩ := H
  have e1 : N' = N := (nI_eq (by omega) (by omega)).mp (h1.symm.trans hN)
  have e2 : W' = W := (nI_eq (by omega) (by omega)).mp (h2.symm.trans hW)
  subst e1 e2
  refine ⟨S, W', A, N2, T, G, ⟨hS, hW, hA, rfl, hT, hG⟩, ⟨bS, bW, bA, by omega, bT, bG⟩, ⟨hsy, hwa⟩, ⟨rsp, by rw [rsc], rhl⟩, fun q hq => ?_, hob, hib, hg1, hg0, hhb⟩
  unfold zz_sv
  by_cases h : P ≤ q ∧ q < P + C
  · rw [if_pos h, if_pos h]
  · rw [if_neg h, if_neg h]
    exact hsn q (by omega)
theorem zS_data {P L c G M e : Nat} {f t wh : Int32} {sb sby : Nat → Int32} (he : e < 2) (bL : L ≤ 4) (bP : P + L ≤ 121) (bG : G ≤ 121) (hM : zz_mok G M) (hb : ∀ i, i < L → sby i = sb i) :
    zS 3 (nI e) (nI P) (nI P) (nI L) (nI L) f f (zz_ack wh (nI G)) (zz_ack wh (nI G)) t t (nI G) (nI G) (nI M) (nI M) sb sby := by
  intro _
  refine ⟨⟨e, he, rfl⟩, Or.inr (Or.inr (Or.inl rfl)), fun _ => rfl, fun _ => ⟨⟨rfl, rfl, rfl, rfl, rfl, rfl, rfl⟩, P, L, if wh = 0 then G else G + 1, G, M, ⟨rfl, rfl, ?_, rfl, rfl⟩, ⟨bL, bP, ?_, bG, hM⟩, hb⟩⟩
  · unfold zz_ack
    by_cases z : wh = 0
    · rw [if_pos z, if_pos z]
    · rw [if_neg z, if_neg z, nI_1]
  · by_cases z : wh = 0
    · rw [if_pos z]; omega
    · rw [if_neg z]; omega
end
section
variable {k : Nat} {w lf rt sr nw : Int32} {st ic pr ss sa wa wr sh ak nx li pc hd go tk en wh ow td ob sp sc sn ib hl kd so bo fr tt po ln fi sk ed ba ma sb say way oby iby scy sny spy hly poy lny sky edy bay may fiy sby : Nat → Int32}
/-- both sides send a data segment -/
theorem zm_data (HE : zHE st ss sa say wa way wr ak nx tk go ob oby sp spy sc scy sn sny ib iby hl hly) (HS : zHS kd so po poy ln lny fi fiy sk sky ed edy ba bay ma may sb sby) {e s : Nat} {v : Int32} (he : e < 2) (hs : s < 12)
    (hv : (v = 3 ∧ zz_ff (zz_st nw rt (ak e) (nx e) (rX sp e) (rX sn e) (rX sc e)) 160 0 < 160) ∨ v = 4 ∨ (v = 5 ∧ ¬ zz_pd (nx e) (ak e) (wr e) (li e) (pc e) nw (hd e) rt = 0) ∨ v = 6) :
    ∃ (u' : SX) (v' : SY), i_Rel (k + 4) u' v' ∧ (∀ post : SX → Prop, post u' → wpX_emitData post (w, lf, rt, sr, nw, st, ic, pr, ss, sa, wa, wr, sh, ak, nx, li, pc, hd, go, tk, en, wh, ow, td, ob, sp, sc, sn, ib, hl, kd, so, bo, fr, tt, po, ln, fi, sk, ed, ba, ma, sb) (nI e) (nI s) v) ∧
      (∀ post : Int32 → SY → Prop, post (nI s) v' → wY_emit_85 post (nI e) v (nI s) (pr e) (nI s) w lf rt sr nw st ic pr wr ak nx li pc hd tk en td ss say way sh wh ow oby iby scy sny spy hly kd (upd so s (nI e)) (upd bo s nw) (upd fr s (ic e)) tt poy lny sky edy bay may fiy sby) := by
  have ve : vp_in (nI e) 2 := vp_in_nI he (by decide)
  have ce : (nI e).toNatClampNeg = e := nI_clamp (by omega)
  have vs : vp_in (nI s) 12 := vp_in_nI hs (by decide)
  have cs : (nI s).toNatClampNeg = s := nI_clamp (by omega)
  have HEe := HE e he
  obtain ⟨S, W, A, N, T, G, ⟨hS, hW, hA, hN, hT, hG⟩, ⟨bS, bW, bA, bN, bT, bG⟩, ⟨hsy, hwa⟩, ⟨rsp, rsc, rhl⟩, hsn, hob, hib, hg1, hg0, hhb⟩ := HE e he
  have hz : ∀ p, 121 ≤ p → rY spy e p = 0 := by rw [rsp]; exact fun p hp => rX_h hp
  have g1 : ∀ q, q < G → ¬ rY hly e q = 0 := by rw [rhl]; exact hg1
  have g0 : rY hly e G = 0 := by rw [rhl]; exact hg0
  have es : zz_st nw rt (ak e) (nx e) (rY spy e) (rY sny e) (rY scy e) = zz_st nw rt (ak e) (nx e) (rX sp e) (rX sn e) (rX sc e) := by rw [rsp, rsc, zz_st_e hN (by omega) hsn]
  have n1 : ¬ v = 1 := by
    rcases hv with ⟨h, _⟩ | h | ⟨h, _⟩ | h <;> rw [h] <;> decide
  have n2 : ¬ v = 2 := by
    rcases hv with ⟨h, _⟩ | h | ⟨h, _⟩ | h <;> rw [h] <;> decide
  have hF : v = 3 → zz_ff (zz_st nw rt (ak e) (nx e) (rX sp e) (rX sn e) (rX sc e)) 160 0 < 160 := fun h => by
    rcases hv with ⟨_, h'⟩ | h' | ⟨h', _⟩ | h'
    · exact h'
    · rw [h] at h'; exact absurd h' (by decide)
    · rw [h] at h'; exact absurd h' (by decide)
    · rw [h] at h'; exact absurd h' (by decide)
  have hv' : (v = 3 ∧ zz_ff (zz_st nw rt (ak e) (nI N) (rX sp e) (rX sn e) (rX sc e)) 160 0 < 160) ∨ v = 4 ∨ (v = 5 ∧ N < W) ∨ v = 6 := by
    rw [hN, hW] at hv
    rcases hv with h | h | ⟨h, h'⟩ | h
    · exact Or.inl h
    · exact Or.inr (Or.inl h)
    · exact Or.inr (Or.inr (Or.inl ⟨h, zz_pd_n bW (by omega) h'⟩))
    · exact Or.inr (Or.inr (Or.inr h))
  obtain ⟨P, L, c, p1, p2, p3, bc, bL, bP, pW, p45⟩ := zz_plan (li := li e) (pc := pc e) (sh := sh e) (hd := 0) hA bA bW bN hv'
  rw [← hN] at p1 p2 p3
  rw [← hW] at p2 p3
  obtain ⟨sb', sc', sn', x1, x2, x3, x4, x5, x6, HX⟩ := zx_ed (w := w) (lf := lf) (rt := rt) (sr := sr) (nw := nw) (st := st) (ic := ic) (pr := pr) (ss := ss) (sa := sa) (wa := wa) (wr := wr) (sh := sh) (ak := ak) (nx := nx) (li := li) (pc := pc) (hd := hd) (go := go) (tk := tk) (en := en) (wh := wh) (ow := ow) (td := td) (ob := ob) (sp := sp) (sc := sc) (sn := sn) (ib := ib) (hl := hl) (kd := kd) (so := so) (bo := bo) (fr := fr) (tt := tt) (po := po) (ln := ln) (fi := fi) (sk := sk) (ed := ed) (ba := ba) (ma := ma) (sb := sb) (v := v) (c := c) (P := P) (L := L) he hs bL bc bP hhb hG bG
  have q1 := p1
  have q2 := p2
  have q3 := p3
  rw [← es] at q1 q2 q3
  obtain ⟨sby', scy', sny', y1, y2, y3, y4, y5, y6, HY⟩ := zy_ed (w := w) (lf := lf) (rt := rt) (sr := sr) (nw := nw) (st := st) (ic := ic) (pr := pr) (wr := wr) (ak := ak) (nx := nx) (li := li) (pc := pc) (hd := hd) (tk := tk) (en := en) (td := td) (ss := ss) (say := say) (way := way) (sh := sh) (wh := wh) (ow := ow) (oby := oby) (iby := iby) (scy := scy) (sny := sny) (spy := spy) (hly := hly) (kd := kd) (so := upd so s (nI e)) (bo := upd bo s nw) (fr := upd fr s (ic e)) (tt := upd tt s (pr e)) (poy := poy) (lny := lny) (sky := sky) (edy := upd edy s (tk e + w)) (bay := bay) (may := may) (fiy := fiy) (sby := sby) (v := v) (c := c) (P := P) (L := L) (G := G) he hs bL bc bP hN (by omega) hW bW hz g1 g0 bG q1 q2 q3
  have un : ∃ N2, zz_up v nx e (nI (L + c)) e = nI N2 ∧ (N2 = N ∨ (P = N ∧ N2 = N + (L + c) ∧ N2 ≤ W + 1)) := by
    unfold zz_up
    by_cases v4 : v = 4
    · rw [if_pos v4, pk_us, hN, nI_add]
      obtain ⟨z1, z2⟩ := p45 (Or.inl v4)
      exact ⟨_, rfl, Or.inr ⟨z1, rfl, z2⟩⟩
    · rw [if_neg v4]
      by_cases v5 : v = 5
      · rw [if_pos v5, pk_us, hN, nI_add]
        obtain ⟨z1, z2⟩ := p45 (Or.inr v5)
        exact ⟨_, rfl, Or.inr ⟨z1, rfl, z2⟩⟩
      · rw [if_neg v5]
        exact ⟨N, hN, Or.inl rfl⟩
  obtain ⟨N2, u1, u2⟩ := un
  have HE' : zHE st ss sa say wa way wr ak (zz_up v nx e (nI (L + c))) tk go ob oby sp spy sc' scy' sn' sny' ib iby hl hly := by
    refine zHE_on (e := e) HE ?_ (h_nx := zz_up_o) (h_sc := x4) (h_scy := y4) (h_sn := x6) (h_sny := y6)
    rw [u1, x3, y3, x5, y5]
    exact zE_data HEe hN hW (by omega) bW u2
  have HS' : zHS (upd kd s 3) (upd so s (nI e)) (upd (upd po s 0) s (nI P)) (upd poy s (nI P)) (upd (upd ln s 0) s (nI L)) (upd lny s (nI L)) (upd (upd fi s (vp_nar .boolean 0)) s (vp_nar .boolean (nI c))) (upd fiy s (vp_nar .boolean (nI c))) (upd (upd sk s 0) s (zz_ack (wh e) (go e))) (upd sky s (zz_ack (wh e) (nI G))) (upd (upd ed s 0) s (tk e + w)) (upd edy s (tk e + w)) (upd (upd ba s 0) s (go e)) (upd bay s (nI G)) (upd (upd ma s 0) s (nI (zz_mk (rX hl e) G 7 0 0))) (upd may s (nI (zz_mk (rY hly e) G 7 0 0))) sb' sby' := by
    refine zHS_on (s := s) HS ?_ (h_sb := x1) (h_sby := y1)
    simp only [pk_us]
    rw [hG, rhl]
    refine zS_data (c := c) he bL (by omega) bG (zz_mk_p (fun q hq => rX_h hq) 7 0 0 rfl ⟨by decide, fun i _ t => ?_⟩) (fun i hi => ?_)
    · rw [Nat.zero_testBit] at t
      exact absurd t (by decide)
    · rw [y2 i hi, x2 i hi]
      exact hob (P + i) (by have := pW (by omega); omega)
  refine ⟨(w, lf, rt, sr, nw, st, ic, pr, ss, sa, wa, wr, sh, ak, zz_up v nx e (nI (L + c)), li, zz_up v pc e (nI (L + c)), hd, go, tk, en, wh, upd ow e (vp_nar .boolean 0), upd td e (tk e + w), ob, sp, sc', sn', ib, hl, upd kd s 3, upd so s (nI e), upd bo s nw, upd fr s (ic e), upd tt s (pr e), upd (upd po s 0) s (nI P), upd (upd ln s 0) s (nI L), upd (upd fi s (vp_nar .boolean 0)) s (vp_nar .boolean (nI c)), upd (upd sk s 0) s (zz_ack (wh e) (go e)), upd (upd ed s 0) s (tk e + w), upd (upd ba s 0) s (go e), upd (upd ma s 0) s (nI (zz_mk (rX hl e) G 7 0 0)), sb'), (w, lf, rt, sr, nw, st, ic, pr, wr, ak, zz_up v nx e (nI (L + c)), li, zz_up v pc e (nI (L + c)), hd, tk, en, upd td e (tk e + w), ss, say, way, sh, wh, upd ow e (vp_nar .boolean 0), oby, iby, scy', sny', spy, hly, upd kd s 3, upd so s (nI e), upd bo s nw, upd fr s (ic e), upd tt s (pr e), upd poy s (nI P), upd lny s (nI L), upd sky s (zz_ack (wh e) (nI G)), upd edy s (tk e + w), upd bay s (nI G), upd may s (nI (zz_mk (rY hly e) G 7 0 0)), upd fiy s (vp_nar .boolean (nI c)), sby'), zz_in HE' HS', fun post h => ?_, fun post h => ?_⟩
  · refine zx_ed_head he hA bA hN (by omega) hW bW hF ?_
    rw [p1, p2, p3]
    exact HX post h
  · unfold wY_emit_85
    rw [cs, ce]
    refine ⟨vs, nm_e ⟨ve, vs, nm_e (br_f n1 (br_f n2 (HY _ ?_)))⟩⟩
    unfold wY_emit_159
    rw [ce]
    exact br_f n1 ⟨ve, ve, nm_e h⟩
theorem zm_syn (HE : zHE st ss sa say wa way wr ak nx tk go ob oby sp spy sc scy sn sny ib iby hl hly) (HS : zHS kd so po poy ln lny fi fiy sk sky ed edy ba bay ma may sb sby) {e s : Nat} {v : Int32} (he : e < 2) (hs : s < 12) (h1 : v = 1) :
    ∃ (u' : SX) (v' : SY), i_Rel (k + 4) u' v' ∧ (∀ post : SX → Prop, post u' → wpX_emitSyn post (w, lf, rt, sr, nw, st, ic, pr, ss, sa, wa, wr, sh, ak, nx, li, pc, hd, go, tk, en, wh, ow, td, ob, sp, sc, sn, ib, hl, kd, so, bo, fr, tt, po, ln, fi, sk, ed, ba, ma, sb) (nI e) (nI s)) ∧
      (∀ post : Int32 → SY → Prop, post (nI s) v' → wY_emit_85 post (nI e) v (nI s) 0 (nI s) w lf rt sr nw st ic pr wr ak nx li pc hd tk en td ss say way sh wh ow oby iby scy sny spy hly kd (upd so s (nI e)) (upd bo s nw) (upd fr s (ic e)) tt poy lny sky edy bay may fiy sby) := by
  have ve : vp_in (nI e) 2 := vp_in_nI he (by decide)
  have ce : (nI e).toNatClampNeg = e := nI_clamp (by omega)
  have vs : vp_in (nI s) 12 := vp_in_nI hs (by decide)
  have cs : (nI s).toNatClampNeg = s := nI_clamp (by omega)
  obtain ⟨sb', o1, HX⟩ := zx_put (K := 1) (a := nI e) (b := ic e) (c := 0) (w := w) (lf := lf) (rt := rt) (sr := sr) (nw := nw) (st := st) (ic := ic) (pr := pr) (ss := ss) (sa := sa) (wa := wa) (wr := wr) (sh := sh) (ak := ak) (nx := nx) (li := li) (pc := pc) (hd := hd) (go := go) (tk := tk) (en := en) (wh := wh) (ow := ow) (td := td) (ob := ob) (sp := sp) (sc := sc) (sn := sn) (ib := ib) (hl := hl) (kd := kd) (so := so) (bo := bo) (fr := fr) (tt := tt) (po := po) (ln := ln) (fi := fi) (sk := sk) (ed := ed) (ba := ba) (ma := ma) (sb := sb) hs
  have HE' : zHE st (upd ss e (ss e + 1)) (upd sa e nw) (upd say e nw) wa way wr ak nx tk go ob oby sp spy sc scy sn sny ib iby hl hly := by
    refine zHE_on (e := e) HE ?_
    simp only [pk_us]
    exact zE_syn (HE e he)
  have HS' : zHS (upd kd s 1) (upd so s (nI e)) (upd po s 0) poy (upd ln s 0) lny (upd fi s (vp_nar .boolean 0)) fiy (upd sk s 0) sky (upd ed s 0) (upd edy s (tk e + w)) (upd ba s 0) bay (upd ma s 0) may sb' sby := by
    refine zHS_on (s := s) HS ?_ (h_sb := o1)
    simp only [pk_us]
    exact zS_nd (Or.inl rfl) he
  refine ⟨(w, lf, rt, sr, nw, st, ic, pr, upd ss e (ss e + 1), upd sa e nw, wa, wr, sh, ak, nx, li, pc, hd, go, tk, en, wh, ow, td, ob, sp, sc, sn, ib, hl, upd kd s 1, upd so s (nI e), upd bo s nw, upd fr s (ic e), upd tt s 0, upd po s 0, upd ln s 0, upd fi s (vp_nar .boolean 0), upd sk s 0, upd ed s 0, upd ba s 0, upd ma s 0, sb'),
    (w, lf, rt, sr, nw, st, ic, pr, wr, ak, nx, li, pc, hd, tk, en, td, upd ss e (ss e + 1), upd say e nw, way, sh, wh, ow, oby, iby, scy, sny, spy, hly, upd kd s 1, upd so s (nI e), upd bo s nw, upd fr s (ic e), upd tt s 0, poy, lny, sky, upd edy s (tk e + w), bay, may, fiy, sby), zz_in HE' HS', fun post h => ?_, fun post h => ?_⟩
  · unfold wpX_emitSyn
    simp only [ce]
    exact ⟨ve, HX _ ⟨ve, ve, nm_e ⟨ve, nm_e h⟩⟩⟩
  · unfold wY_emit_85 wY_emit_113 wY_emit_128 wY_emit_159
    rw [cs, ce]
    exact ⟨vs, nm_e ⟨ve, vs, nm_e (br_t h1 (br_t h1 ⟨vs, nm_e ⟨ve, ve, nm_e ⟨ve, nm_e (br_t h1 h)⟩⟩⟩))⟩⟩
theorem zm_synack (HE : zHE st ss sa say wa way wr ak nx tk go ob oby sp spy sc scy sn sny ib iby hl hly) (HS : zHS kd so po poy ln lny fi fiy sk sky ed edy ba bay ma may sb sby) {e s : Nat} {v : Int32} (he : e < 2) (hs : s < 12) (h2 : v = 2) :
    ∃ (u' : SX) (v' : SY), i_Rel (k + 4) u' v' ∧ (∀ post : SX → Prop, post u' → wpX_emitSynAck post (w, lf, rt, sr, nw, st, ic, pr, ss, sa, wa, wr, sh, ak, nx, li, pc, hd, go, tk, en, wh, ow, td, ob, sp, sc, sn, ib, hl, kd, so, bo, fr, tt, po, ln, fi, sk, ed, ba, ma, sb) (nI e) (nI s)) ∧
      (∀ post : Int32 → SY → Prop, post (nI s) v' → wY_emit_85 post (nI e) v (nI s) (pr e) (nI s) w lf rt sr nw st ic pr wr ak nx li pc hd tk en td ss say way sh wh ow oby iby scy sny spy hly kd (upd so s (nI e)) (upd bo s nw) (upd fr s (ic e)) tt poy lny sky edy bay may fiy sby) := by
  have ve : vp_in (nI e) 2 := vp_in_nI he (by decide)
  have ce : (nI e).toNatClampNeg = e := nI_clamp (by omega)
  have vs : vp_in (nI s) 12 := vp_in_nI hs (by decide)
  have cs : (nI s).toNatClampNeg = s := nI_clamp (by omega)
  have h1 : ¬ v = 1 := by rw [h2]; decide
  obtain ⟨sb', o1, HX⟩ := zx_put (K := 2) (a := nI e) (b := ic e) (c := pr e) (w := w) (lf := lf) (rt := rt) (sr := sr) (nw := nw) (st := st) (ic := ic) (pr := pr) (ss := ss) (sa := sa) (wa := wa) (wr := wr) (sh := sh) (ak := ak) (nx := nx) (li := li) (pc := pc) (hd := hd) (go := go) (tk := tk) (en := en) (wh := wh) (ow := ow) (td := td) (ob := ob) (sp := sp) (sc := sc) (sn := sn) (ib := ib) (hl := hl) (kd := kd) (so := so) (bo := bo) (fr := fr) (tt := tt) (po := po) (ln := ln) (fi := fi) (sk := sk) (ed := ed) (ba := ba) (ma := ma) (sb := sb) hs
  have HE' : zHE st (upd ss e (ss e + 1)) (upd sa e nw) (upd say e nw) wa way wr ak nx tk go ob oby sp spy sc scy sn sny ib iby hl hly := by
    refine zHE_on (e := e) HE ?_
    simp only [pk_us]
    exact zE_syn (HE e he)
  have HS' : zHS (upd kd s 2) (upd so s (nI e)) (upd po s 0) poy (upd ln s 0) lny (upd fi s (vp_nar .boolean 0)) fiy (upd sk s 0) sky (upd (upd ed s 0) s (tk e + w)) (upd edy s (tk e + w)) (upd ba s 0) bay (upd ma s 0) may sb' sby := by
    refine zHS_on (s := s) HS ?_ (h_sb := o1)
    simp only [pk_us]
    exact zS_2 he rfl
  refine ⟨(w, lf, rt, sr, nw, st, ic, pr, upd ss e (ss e + 1), upd sa e nw, wa, wr, sh, ak, nx, li, pc, hd, go, tk, en, wh, ow, upd td e (tk e + w), ob, sp, sc, sn, ib, hl, upd kd s 2, upd so s (nI e), upd bo s nw, upd fr s (ic e), upd tt s (pr e), upd po s 0, upd ln s 0, upd fi s (vp_nar .boolean 0), upd sk s 0, upd (upd ed s 0) s (tk e + w), upd ba s 0, upd ma s 0, sb'),
    (w, lf, rt, sr, nw, st, ic, pr, wr, ak, nx, li, pc, hd, tk, en, upd td e (tk e + w), upd ss e (ss e + 1), upd say e nw, way, sh, wh, ow, oby, iby, scy, sny, spy, hly, upd kd s 2, upd so s (nI e), upd bo s nw, upd fr s (ic e), upd tt s (pr e), poy, lny, sky, upd edy s (tk e + w), bay, may, fiy, sby), zz_in HE' HS', fun post h => ?_, fun post h => ?_⟩
  · unfold wpX_emitSynAck
    simp only [ce, cs]
    exact ⟨ve, ve, HX _ ⟨ve, vs, nm_e ⟨ve, ve, nm_e ⟨ve, nm_e ⟨ve, ve, nm_e h⟩⟩⟩⟩⟩
  · unfold wY_emit_85 wY_emit_113 wY_emit_128 wY_emit_159
    rw [cs, ce]
    exact ⟨vs, nm_e ⟨ve, vs, nm_e (br_f h1 (br_t h2 (br_f h1 ⟨vs, nm_e ⟨ve, ve, nm_e ⟨ve, nm_e (br_f h1 ⟨ve, ve, nm_e h⟩)⟩⟩⟩)))⟩⟩
theorem zm_emit (HE : zHE st ss sa say wa way wr ak nx tk go ob oby sp spy sc scy sn sny ib iby hl hly) (HS : zHS kd so po poy ln lny fi fiy sk sky ed edy ba bay ma may sb sby) (v1 : Int32) : wpX_emit (fun r u' => wpY_emit (fun r' v' => r' = r ∧ i_Rel (k + 4) u' v') (w, lf, rt, sr, nw, st, ic, pr, wr, ak, nx, li, pc, hd, tk, en, td, ss, say, way, sh, wh, ow, oby, iby, scy, sny, spy, hly, kd, so, bo, fr, tt, poy, lny, sky, edy, bay, may, fiy, sby) v1) (w, lf, rt, sr, nw, st, ic, pr, ss, sa, wa, wr, sh, ak, nx, li, pc, hd, go, tk, en, wh, ow, td, ob, sp, sc, sn, ib, hl, kd, so, bo, fr, tt, po, ln, fi, sk, ed, ba, ma, sb) v1 := by
  rcases zz_end v1 with ⟨e, he, rfl⟩ | ⟨n0, n1⟩
  · have ve : vp_in (nI e) 2 := vp_in_nI he (by decide)
    have ce : (nI e).toNatClampNeg = e := nI_clamp (by omega)
    obtain ⟨S, W, A, N, T, G, ⟨hS, hW, hA, hN, hT, hG⟩, ⟨bS, bW, bA, bN, bT, bG⟩, ⟨hsy, hwa⟩, ⟨rsp, rsc, rhl⟩, hsn, hob, hib, hg1, hg0, hhb⟩ := HE e he
    have hz : ∀ p, 121 ≤ p → rY spy e p = 0 := by rw [rsp]; exact fun p hp => rX_h hp
    have es : zz_st nw rt (ak e) (nx e) (rY spy e) (rY sny e) (rY scy e) = zz_st nw rt (ak e) (nx e) (rX sp e) (rX sn e) (rX sc e) := by rw [rsp, rsc, zz_st_e hN (by omega) hsn]
    have DY : ∀ P : Int32 → Prop, P (zz_du (st e) (zz_sd (ss e) (sa e) nw rt) (zz_ff (zz_st nw rt (ak e) (nx e) (rX sp e) (rX sn e) (rX sc e)) 160 0) (zz_nl (wr e) (nx e) (li e) (pc e)) (zz_nf (sh e) (nx e) (zz_nl (wr e) (nx e) (li e) (pc e)) (wr e) (pc e)) (zz_pd (nx e) (ak e) (wr e) (li e) (pc e) nw (hd e) rt) (ow e)) → wpY_due P (w, lf, rt, sr, nw, st, ic, pr, wr, ak, nx, li, pc, hd, tk, en, td, ss, say, way, sh, wh, ow, oby, iby, scy, sny, spy, hly, kd, so, bo, fr, tt, poy, lny, sky, edy, bay, may, fiy, sby) (nI e) := fun P h => by
      rw [← es, ← zz_sd_e hsy] at h
      exact zy_due he hN (by omega) hz h
    unfold wpX_emit
    simp only [ce]
    refine zx_isEnd he (br_f (by decide) (zx_due he hS bS hA bA hN (by omega) ?_))
    have hc := zz_du_c (st e) (zz_sd (ss e) (sa e) nw rt) (zz_ff (zz_st nw rt (ak e) (nx e) (rX sp e) (rX sn e) (rX sc e)) 160 0) (zz_nl (wr e) (nx e) (li e) (pc e)) (zz_nf (sh e) (nx e) (zz_nl (wr e) (nx e) (li e) (pc e)) (wr e) (pc e)) (zz_pd (nx e) (ak e) (wr e) (li e) (pc e) nw (hd e) rt) (ow e)
    generalize zz_du (st e) (zz_sd (ss e) (sa e) nw rt) (zz_ff (zz_st nw rt (ak e) (nx e) (rX sp e) (rX sn e) (rX sc e)) 160 0) (zz_nl (wr e) (nx e) (li e) (pc e)) (zz_nf (sh e) (nx e) (zz_nl (wr e) (nx e) (li e) (pc e)) (wr e) (pc e)) (zz_pd (nx e) (ak e) (wr e) (li e) (pc e) nw (hd e) rt) (ow e) = v at DY hc ⊢
    by_cases v0 : v = 0
    · refine br_t v0 ?_
      unfold wpY_emit
      simp only [ce]
      exact zy_good he (br_f (by decide) (DY _ (br_t v0 ⟨by trivial, zz_in HE HS⟩)))
    refine br_f v0 (zx_free ?_)
    rcases zz_fr_p kd 12 0 rfl with k1 | ⟨s, hs, hk0, k1⟩
    · rw [k1]
      refine br_f (by decide) ?_
      unfold wpY_emit
      simp only [ce]
      refine zy_good he (br_f (by decide) (DY _ (br_f v0 (zy_free ?_))))
      rw [k1]
      exact br_f (by decide) ⟨by trivial, zz_in HE HS⟩
    · rw [k1]
      have vs : vp_in (nI s) 12 := vp_in_nI hs (by decide)
      have cs : (nI s).toNatClampNeg = s := nI_clamp (by omega)
      refine br_t (nI_pos' (by omega)) ?_
      have YY : ∀ P : Int32 → SY → Prop, (v = 1 → wY_emit_85 P (nI e) v (nI s) 0 (nI s) w lf rt sr nw st ic pr wr ak nx li pc hd tk en td ss say way sh wh ow oby iby scy sny spy hly kd (upd so s (nI e)) (upd bo s nw) (upd fr s (ic e)) tt poy lny sky edy bay may fiy sby) → (¬ v = 1 → wY_emit_85 P (nI e) v (nI s) (pr e) (nI s) w lf rt sr nw st ic pr wr ak nx li pc hd tk en td ss say way sh wh ow oby iby scy sny spy hly kd (upd so s (nI e)) (upd bo s nw) (upd fr s (ic e)) tt poy lny sky edy bay may fiy sby) → wpY_emit P (w, lf, rt, sr, nw, st, ic, pr, wr, ak, nx, li, pc, hd, tk, en, td, ss, say, way, sh, wh, ow, oby, iby, scy, sny, spy, hly, kd, so, bo, fr, tt, poy, lny, sky, edy, bay, may, fiy, sby) (nI e) := fun P h h' => by
        unfold wpY_emit
        simp only [ce]
        refine zy_good he (br_f (by decide) (DY _ (br_f v0 (zy_free ?_))))
        rw [k1, cs]
        exact br_t (nI_pos' (by omega)) ⟨vs, nm_e ⟨vs, nm_e ⟨ve, vs, nm_e (br_c h (fun h1 => ⟨ve, h' h1⟩))⟩⟩⟩
      by_cases h1 : v = 1
      · obtain ⟨u', v', R, hx, hy⟩ := zm_syn (k := k) HE HS he hs h1
        exact br_t h1 (hx _ (YY _ (fun _ => hy _ ⟨rfl, R⟩) (fun h => absurd h1 h)))
      refine br_f h1 ?_
      by_cases h2 : v = 2
      · obtain ⟨u', v', R, hx, hy⟩ := zm_synack (k := k) HE HS he hs h2
        exact br_t h2 (hx _ (YY _ (fun h => absurd h h1) (fun _ => hy _ ⟨rfl, R⟩)))
      refine br_f h2 ?_
      have hv : (v = 3 ∧ zz_ff (zz_st nw rt (ak e) (nx e) (rX sp e) (rX sn e) (rX sc e)) 160 0 < 160) ∨ v = 4 ∨ (v = 5 ∧ ¬ zz_pd (nx e) (ak e) (wr e) (li e) (pc e) nw (hd e) rt = 0) ∨ v = 6 := by
        rcases hc with h | h | h | h
        · exact absurd h v0
        · exact absurd h h1
        · exact absurd h h2
        · exact h
      obtain ⟨u', v', R, hx, hy⟩ := zm_data (k := k) HE HS he hs hv
      exact hx _ (YY _ (fun h => absurd h h1) (fun _ => hy _ ⟨rfl, R⟩))
  · unfold wpX_emit wpY_emit
    dsimp only
    exact zx_isEnd0 n0 n1 (br_t (by trivial) (zy_good0 n0 n1 (br_t (by trivial) ⟨by trivial, zz_in HE HS⟩)))
end
end
section
/-! deliver: refusing, RST, SYN, SYNACK -/
section
variable {w lf rt sr nw : Int32} {st ic pr ss sa wa wr sh ak nx li pc hd go tk en wh ow td ob sp sc sn ib hl kd so bo fr tt po ln fi sk ed ba ma sb : Nat → Int32} {post : Int32 → Prop} {e : Nat}
theorem zx_hand1 (he : e < 2) (h34 : st e = 3 ∨ st e = 4) (h : post 1) : wpX_isHandshaking post (w, lf, rt, sr, nw, st, ic, pr, ss, sa, wa, wr, sh, ak, nx, li, pc, hd, go, tk, en, wh, ow, td, ob, sp, sc, sn, ib, hl, kd, so, bo, fr, tt, po, ln, fi, sk, ed, ba, ma, sb) (nI e) :=
  zx_hand he (fun _ => h) (fun a b => absurd h34 (fun c => c.elim a b))
theorem zx_hand0 (he : e < 2) (n3 : ¬ st e = 3) (n4 : ¬ st e = 4) (h : post 0) : wpX_isHandshaking post (w, lf, rt, sr, nw, st, ic, pr, ss, sa, wa, wr, sh, ak, nx, li, pc, hd, go, tk, en, wh, ow, td, ob, sp, sc, sn, ib, hl, kd, so, bo, fr, tt, po, ln, fi, sk, ed, ba, ma, sb) (nI e) :=
  zx_hand he (fun c => absurd c (fun c => c.elim n3 n4)) (fun _ _ => h)
theorem zx_conn1 (he : e < 2) (h5 : ¬ st e < 5) (h : post 1) : wpX_isConnected post (w, lf, rt, sr, nw, st, ic, pr, ss, sa, wa, wr, sh, ak, nx, li, pc, hd, go, tk, en, wh, ow, td, ob, sp, sc, sn, ib, hl, kd, so, bo, fr, tt, po, ln, fi, sk, ed, ba, ma, sb) (nI e) := zx_conn he (fun _ => h) (fun c => absurd c h5)
theorem zx_conn0 (he : e < 2) (h5 : st e < 5) (h : post 0) : wpX_isConnected post (w, lf, rt, sr, nw, st, ic, pr, ss, sa, wa, wr, sh, ak, nx, li, pc, hd, go, tk, en, wh, ow, td, ob, sp, sc, sn, ib, hl, kd, so, bo, fr, tt, po, ln, fi, sk, ed, ba, ma, sb) (nI e) := zx_conn he (fun c => absurd h5 c) (fun _ => h)
theorem zx_limits {post : SX → Prop} {s : Nat} (he : e < 2) (hs : s < 12) (h : post (w, lf, rt, sr, nw, st, ic, pr, ss, sa, wa, wr, sh, ak, nx, upd li e (zz_mx (li e) (ed s)), pc, upd hd e nw, go, tk, en, wh, ow, td, ob, sp, sc, sn, ib, hl, kd, so, bo, fr, tt, po, ln, fi, sk, ed, ba, ma, sb)) : wpX_takeLimits post (w, lf, rt, sr, nw, st, ic, pr, ss, sa, wa, wr, sh, ak, nx, li, pc, hd, go, tk, en, wh, ow, td, ob, sp, sc, sn, ib, hl, kd, so, bo, fr, tt, po, ln, fi, sk, ed, ba, ma, sb) (nI s) (nI e) := by
  have ve : vp_in (nI e) 2 := vp_in_nI he (by decide)
  have ce : (nI e).toNatClampNeg = e := nI_clamp (by omega)
  have vs : vp_in (nI s) 12 := vp_in_nI hs (by decide)
  have cs : (nI s).toNatClampNeg = s := nI_clamp (by omega)
  unfold wpX_takeLimits
  simp only [ce, cs]
  exact ⟨ve, vs, zx_greater ⟨ve, nm_e ⟨ve, nm_e h⟩⟩⟩
end
section
variable {w lf rt sr nw : Int32} {st ic pr wr ak nx li pc hd tk en td ss say way sh wh ow oby iby scy sny spy hly kd so bo fr tt poy lny sky edy bay may fiy sby : Nat → Int32} {e : Nat}
theorem zy_limits {post : SY → Prop} {s : Nat} (he : e < 2) (hs : s < 12) (h : post (w, lf, rt, sr, nw, st, ic, pr, wr, ak, nx, upd li e (zz_mx (li e) (edy s)), pc, upd hd e nw, tk, en, td, ss, say, way, sh, wh, ow, oby, iby, scy, sny, spy, hly, kd, so, bo, fr, tt, poy, lny, sky, edy, bay, may, fiy, sby)) : wpY_limits post (w, lf, rt, sr, nw, st, ic, pr, wr, ak, nx, li, pc, hd, tk, en, td, ss, say, way, sh, wh, ow, oby, iby, scy, sny, spy, hly, kd, so, bo, fr, tt, poy, lny, sky, edy, bay, may, fiy, sby) (nI e) (nI s) := by
  have ve : vp_in (nI e) 2 := vp_in_nI he (by decide)
  have ce : (nI e).toNatClampNeg = e := nI_clamp (by omega)
  have vs : vp_in (nI s) 12 := vp_in_nI hs (by decide)
  have cs : (nI s).toNatClampNeg = s := nI_clamp (by omega)
  unfold wpY_limits
  simp only [ce, cs]
  exact ⟨ve, vs, zy_max ⟨ve, nm_e ⟨ve, nm_e h⟩⟩⟩
end
theorem zz_lt5 {x : Int32} {c : Int32} (h : x = c) (hc : c < 5) : x < 5 := by rw [h]; exact hc
section
variable {k : Nat} {w lf rt sr nw : Int32} {st ic pr ss sa wa wr sh ak nx li pc hd go tk en wh ow td ob sp sc sn ib hl kd so bo fr tt po ln fi sk ed ba ma sb say way oby iby scy sny spy hly poy lny sky edy bay may fiy sby : Nat → Int32} {e s : Nat}
theorem zm_refuse (HE : zHE st ss sa say wa way wr ak nx tk go ob oby sp spy sc scy sn sny ib iby hl hly) (HS : zHS kd so po poy ln lny fi fiy sk sky ed edy ba bay ma may sb sby) (he : e < 2) (hs : s < 12) : ∃ r u v, i_Rel (k + 4) u v ∧ (∀ P : Int32 → SX → Prop, P r u → wpX_refuse P (w, lf, rt, sr, nw, st, ic, pr, ss, sa, wa, wr, sh, ak, nx, li, pc, hd, go, tk, en, wh, ow, td, ob, sp, sc, sn, ib, hl, kd, so, bo, fr, tt, po, ln, fi, sk, ed, ba, ma, sb) (nI s) (nI e)) ∧ (∀ P : Int32 → SY → Prop, P r v → wpY_refuse P (w, lf, rt, sr, nw, st, ic, pr, wr, ak, nx, li, pc, hd, tk, en, td, ss, say, way, sh, wh, ow, oby, iby, scy, sny, spy, hly, kd, so, bo, fr, tt, poy, lny, sky, edy, bay, may, fiy, sby) (nI e) (nI s)) := by
  obtain ⟨sb', o1, HX⟩ := zx_refuse (w := w) (lf := lf) (rt := rt) (sr := sr) (nw := nw) (st := st) (ic := ic) (pr := pr) (ss := ss) (sa := sa) (wa := wa) (wr := wr) (sh := sh) (ak := ak) (nx := nx) (li := li) (pc := pc) (hd := hd) (go := go) (tk := tk) (en := en) (wh := wh) (ow := ow) (td := td) (ob := ob) (sp := sp) (sc := sc) (sn := sn) (ib := ib) (hl := hl) (kd := kd) (so := so) (bo := bo) (fr := fr) (tt := tt) (po := po) (ln := ln) (fi := fi) (sk := sk) (ed := ed) (ba := ba) (ma := ma) (sb := sb) (v := nI e) hs
  refine ⟨2, _, _, zz_in HE (zHS_on (s := s) HS ?_ (h_sb := o1)), HX, fun P h => zy_refuse hs h⟩
  simp only [pk_us]
  exact zS_nd (Or.inr rfl) he
theorem zm_st {S' : Nat} (HE : zHE st ss sa say wa way wr ak nx tk go ob oby sp spy sc scy sn sny ib iby hl hly) (he : e < 2) (b : S' ≤ 11) (n : S' ≠ 9) : zHE (upd st e (nI S')) ss sa say wa way wr ak nx tk go ob oby sp spy sc scy sn sny ib iby hl hly := by
  refine zHE_on (e := e) HE ?_
  simp only [pk_us]
  exact zE_st (HE e he) b n
theorem zm_st0 {S' : Nat} (HE : zHE st ss sa say wa way wr ak nx tk go ob oby sp spy sc scy sn sny ib iby hl hly) (he : e < 2) (b : S' ≤ 11) (n : S' ≠ 9) : zHE (upd st e (nI S')) (upd ss e 0) sa say wa way wr ak nx tk go ob oby sp spy sc scy sn sny ib iby hl hly := by
  refine zHE_on (e := e) HE ?_
  simp only [pk_us]
  exact zE_s0 (zE_st (HE e he) b n)
theorem zm_s0 (HE : zHE st ss sa say wa way wr ak nx tk go ob oby sp spy sc scy sn sny ib iby hl hly) (he : e < 2) : zHE st (upd ss e 0) sa say wa way wr ak nx tk go ob oby sp spy sc scy sn sny ib iby hl hly := by
  refine zHE_on (e := e) HE ?_
  simp only [pk_us]
  exact zE_s0 (HE e he)
theorem zm_takeRst (HE : zHE st ss sa say wa way wr ak nx tk go ob oby sp spy sc scy sn sny ib iby hl hly) (HS : zHS kd so po poy ln lny fi fiy sk sky ed edy ba bay ma may sb sby) (he : e < 2) (hs : s < 12) : ∃ r u v, i_Rel (k + 4) u v ∧ (∀ P : Int32 → SX → Prop, P r u → wpX_takeRst P (w, lf, rt, sr, nw, st, ic, pr, ss, sa, wa, wr, sh, ak, nx, li, pc, hd, go, tk, en, wh, ow, td, ob, sp, sc, sn, ib, hl, kd, so, bo, fr, tt, po, ln, fi, sk, ed, ba, ma, sb) (nI s) (nI e)) ∧ (∀ P : Int32 → SY → Prop, P r v → wpY_takeRst P (w, lf, rt, sr, nw, st, ic, pr, wr, ak, nx, li, pc, hd, tk, en, td, ss, say, way, sh, wh, ow, oby, iby, scy, sny, spy, hly, kd, so, bo, fr, tt, poy, lny, sky, edy, bay, may, fiy, sby) (nI e) (nI s)) := by
  have ve : vp_in (nI e) 2 := vp_in_nI he (by decide)
  have ce : (nI e).toNatClampNeg = e := nI_clamp (by omega)
  have vs : vp_in (nI s) 12 := vp_in_nI hs (by decide)
  have cs : (nI s).toNatClampNeg = s := nI_clamp (by omega)
  obtain ⟨S, W, A, N, T, G, ⟨hS, hW, hA, hN, hT, hG⟩, ⟨bS, bW, bA, bN, bT, bG⟩, ⟨hsy, hwa⟩, ⟨rsp, rsc, rhl⟩, hsn, hob, hib, hg1, hg0, hhb⟩ := HE e he
  unfold wpX_takeRst wX_takeRst_89 wpY_takeRst wY_takeRst_73 wY_takeRst_98 wY_takeRst_118
  simp only [ce, cs]
  by_cases h1 : tt s = ic e
  case neg => exact ⟨0, (w, lf, rt, sr, nw, st, ic, pr, ss, sa, wa, wr, sh, ak, nx, li, pc, hd, go, tk, en, wh, ow, td, ob, sp, sc, sn, ib, hl, kd, so, bo, fr, tt, po, ln, fi, sk, ed, ba, ma, sb), (w, lf, rt, sr, nw, st, ic, pr, wr, ak, nx, li, pc, hd, tk, en, td, ss, say, way, sh, wh, ow, oby, iby, scy, sny, spy, hly, kd, so, bo, fr, tt, poy, lny, sky, edy, bay, may, fiy, sby), zz_in HE HS, fun P h => ⟨vs, nm_e ⟨vs, ve, br_f h1 h⟩⟩, fun P h => ⟨vs, ve, br_f h1 h⟩⟩
  by_cases s0 : st e = 0
  · have n2 : ¬ st e = 2 := by rw [s0]; decide
    have n3 : ¬ st e = 3 := by rw [s0]; decide
    have n4 : ¬ st e = 4 := by rw [s0]; decide
    have l5 : st e < 5 := by rw [s0]; decide
    exact ⟨0, (w, lf, rt, sr, nw, st, ic, pr, ss, sa, wa, wr, sh, ak, nx, li, pc, hd, go, tk, en, wh, ow, td, ob, sp, sc, sn, ib, hl, kd, so, bo, fr, tt, po, ln, fi, sk, ed, ba, ma, sb), (w, lf, rt, sr, nw, st, ic, pr, wr, ak, nx, li, pc, hd, tk, en, td, ss, say, way, sh, wh, ow, oby, iby, scy, sny, spy, hly, kd, so, bo, fr, tt, poy, lny, sky, edy, bay, may, fiy, sby), zz_in HE HS, fun P h => ⟨vs, nm_e ⟨vs, ve, br_t h1 ⟨ve, nm_e (br_f n2 ⟨ve, br_c (fun _ => zx_hand0 he n3 n4 (br_t rfl (zx_conn0 he l5 (br_t rfl h)))) (fun _ => h)⟩)⟩⟩⟩, fun P h => ⟨vs, ve, br_t h1 ⟨ve, br_t s0 h⟩⟩⟩
  by_cases s1 : st e = 1
  · have n2 : ¬ st e = 2 := by rw [s1]; decide
    have n3 : ¬ st e = 3 := by rw [s1]; decide
    have n4 : ¬ st e = 4 := by rw [s1]; decide
    have l5 : st e < 5 := by rw [s1]; decide
    exact ⟨0, (w, lf, rt, sr, nw, st, ic, pr, ss, sa, wa, wr, sh, ak, nx, li, pc, hd, go, tk, en, wh, ow, td, ob, sp, sc, sn, ib, hl, kd, so, bo, fr, tt, po, ln, fi, sk, ed, ba, ma, sb), (w, lf, rt, sr, nw, st, ic, pr, wr, ak, nx, li, pc, hd, tk, en, td, ss, say, way, sh, wh, ow, oby, iby, scy, sny, spy, hly, kd, so, bo, fr, tt, poy, lny, sky, edy, bay, may, fiy, sby), zz_in HE HS, fun P h => ⟨vs, nm_e ⟨vs, ve, br_t h1 ⟨ve, nm_e (br_f n2 ⟨ve, br_c (fun _ => zx_hand0 he n3 n4 (br_t rfl (zx_conn0 he l5 (br_t rfl h)))) (fun _ => h)⟩)⟩⟩⟩, fun P h => ⟨vs, ve, br_t h1 ⟨ve, br_f s0 ⟨ve, br_t s1 h⟩⟩⟩⟩
  by_cases s9 : st e = 9
  · have n2 : ¬ st e = 2 := by rw [s9]; decide
    have n3 : ¬ st e = 3 := by rw [s9]; decide
    have n4 : ¬ st e = 4 := by rw [s9]; decide
    have l5 : ¬ st e < 5 := by rw [s9]; decide
    exact ⟨0, (w, lf, rt, sr, nw, st, ic, pr, ss, sa, wa, wr, sh, ak, nx, li, pc, hd, go, tk, en, wh, ow, td, ob, sp, sc, sn, ib, hl, kd, so, bo, fr, tt, po, ln, fi, sk, ed, ba, ma, sb), (w, lf, rt, sr, nw, st, ic, pr, wr, ak, nx, li, pc, hd, tk, en, td, ss, say, way, sh, wh, ow, oby, iby, scy, sny, spy, hly, kd, so, bo, fr, tt, poy, lny, sky, edy, bay, may, fiy, sby), zz_in HE HS, fun P h => ⟨vs, nm_e ⟨vs, ve, br_t h1 ⟨ve, nm_e (br_f n2 ⟨ve, br_c (fun _ => zx_hand0 he n3 n4 (br_t rfl (zx_conn1 he l5 (br_f (by decide) (br_t s9 h))))) (fun _ => h)⟩)⟩⟩⟩, fun P h => ⟨vs, ve, br_t h1 ⟨ve, br_f s0 ⟨ve, br_f s1 ⟨ve, br_t s9 h⟩⟩⟩⟩⟩
  by_cases s2 : st e = 2
  · have n3 : ¬ st e = 3 := by rw [s2]; decide
    have n4 : ¬ st e = 4 := by rw [s2]; decide
    by_cases f0 : fr s = 0
    · exact ⟨3, (w, lf, rt, sr, nw, upd st e 0, ic, pr, ss, sa, wa, wr, sh, ak, nx, li, pc, hd, go, tk, en, wh, ow, td, ob, sp, sc, sn, ib, hl, kd, so, bo, fr, tt, po, ln, fi, sk, ed, ba, ma, sb), (w, lf, rt, sr, nw, upd st e 0, ic, pr, wr, ak, nx, li, pc, hd, tk, en, td, ss, say, way, sh, wh, ow, oby, iby, scy, sny, spy, hly, kd, so, bo, fr, tt, poy, lny, sky, edy, bay, may, fiy, sby), zz_in (zm_st (S' := 0) HE he (by decide) (by decide)) HS, fun P h => ⟨vs, nm_e ⟨vs, ve, br_t h1 ⟨ve, nm_e (br_t s2 (br_t f0 ⟨ve, nm_e h⟩))⟩⟩⟩, fun P h => ⟨vs, ve, br_t h1 ⟨ve, br_f s0 ⟨ve, br_f s1 ⟨ve, br_f s9 ⟨vs, ve, br_t s2 (br_t f0 ⟨ve, br_f n3 ⟨ve, br_f n4 ⟨ve, nm_e h⟩⟩⟩)⟩⟩⟩⟩⟩⟩
    · exact ⟨0, (w, lf, rt, sr, nw, st, ic, pr, ss, sa, wa, wr, sh, ak, nx, li, pc, hd, go, tk, en, wh, ow, td, ob, sp, sc, sn, ib, hl, kd, so, bo, fr, tt, po, ln, fi, sk, ed, ba, ma, sb), (w, lf, rt, sr, nw, st, ic, pr, wr, ak, nx, li, pc, hd, tk, en, td, ss, say, way, sh, wh, ow, oby, iby, scy, sny, spy, hly, kd, so, bo, fr, tt, poy, lny, sky, edy, bay, may, fiy, sby), zz_in HE HS, fun P h => ⟨vs, nm_e ⟨vs, ve, br_t h1 ⟨ve, nm_e (br_t s2 (br_f f0 h))⟩⟩⟩, fun P h => ⟨vs, ve, br_t h1 ⟨ve, br_f s0 ⟨ve, br_f s1 ⟨ve, br_f s9 ⟨vs, ve, br_t s2 (br_f f0 h)⟩⟩⟩⟩⟩⟩
  by_cases fp : fr s = pr e
  case neg => exact ⟨0, (w, lf, rt, sr, nw, st, ic, pr, ss, sa, wa, wr, sh, ak, nx, li, pc, hd, go, tk, en, wh, ow, td, ob, sp, sc, sn, ib, hl, kd, so, bo, fr, tt, po, ln, fi, sk, ed, ba, ma, sb), (w, lf, rt, sr, nw, st, ic, pr, wr, ak, nx, li, pc, hd, tk, en, td, ss, say, way, sh, wh, ow, oby, iby, scy, sny, spy, hly, kd, so, bo, fr, tt, poy, lny, sky, edy, bay, may, fiy, sby), zz_in HE HS, fun P h => ⟨vs, nm_e ⟨vs, ve, br_t h1 ⟨ve, nm_e (br_f s2 ⟨ve, br_f fp h⟩)⟩⟩⟩, fun P h => ⟨vs, ve, br_t h1 ⟨ve, br_f s0 ⟨ve, br_f s1 ⟨ve, br_f s9 ⟨vs, ve, br_f s2 ⟨ve, br_f fp h⟩⟩⟩⟩⟩⟩⟩
  by_cases s3 : st e = 3
  · exact ⟨3, (w, lf, rt, sr, nw, upd st e 1, ic, upd pr e 0, upd ss e 0, sa, wa, wr, sh, ak, nx, li, pc, hd, go, tk, en, wh, ow, td, ob, sp, sc, sn, ib, hl, kd, so, bo, fr, tt, po, ln, fi, sk, ed, ba, ma, sb), (w, lf, rt, sr, nw, upd st e 1, ic, upd pr e 0, wr, ak, nx, li, pc, hd, tk, en, td, upd ss e 0, say, way, sh, wh, ow, oby, iby, scy, sny, spy, hly, kd, so, bo, fr, tt, poy, lny, sky, edy, bay, may, fiy, sby), zz_in (zm_st0 (S' := 1) HE he (by decide) (by decide)) HS, fun P h => ⟨vs, nm_e ⟨vs, ve, br_t h1 ⟨ve, nm_e (br_f s2 ⟨ve, br_t fp (zx_hand1 he (Or.inl s3) (br_f (by decide) (br_t s3 ⟨ve, nm_e ⟨ve, nm_e ⟨ve, nm_e h⟩⟩⟩)))⟩)⟩⟩⟩, fun P h => ⟨vs, ve, br_t h1 ⟨ve, br_f s0 ⟨ve, br_f s1 ⟨ve, br_f s9 ⟨vs, ve, br_f s2 ⟨ve, br_t fp ⟨ve, br_t s3 ⟨ve, br_t s3 ⟨ve, nm_e ⟨ve, nm_e ⟨ve, nm_e h⟩⟩⟩⟩⟩⟩⟩⟩⟩⟩⟩⟩
  by_cases s4 : st e = 4
  · exact ⟨3, (w, lf, rt, sr, nw, upd st e 2, ic, upd pr e 0, upd ss e 0, sa, wa, wr, sh, ak, nx, li, pc, hd, go, tk, en, wh, ow, td, ob, sp, sc, sn, ib, hl, kd, so, bo, fr, tt, po, ln, fi, sk, ed, ba, ma, sb), (w, lf, rt, sr, nw, upd st e 2, ic, upd pr e 0, wr, ak, nx, li, pc, hd, tk, en, td, upd ss e 0, say, way, sh, wh, ow, oby, iby, scy, sny, spy, hly, kd, so, bo, fr, tt, poy, lny, sky, edy, bay, may, fiy, sby), zz_in (zm_st0 (S' := 2) HE he (by decide) (by decide)) HS, fun P h => ⟨vs, nm_e ⟨vs, ve, br_t h1 ⟨ve, nm_e (br_f s2 ⟨ve, br_t fp (zx_hand1 he (Or.inr s4) (br_f (by decide) (br_f s3 ⟨ve, nm_e ⟨ve, nm_e ⟨ve, nm_e h⟩⟩⟩)))⟩)⟩⟩⟩, fun P h => ⟨vs, ve, br_t h1 ⟨ve, br_f s0 ⟨ve, br_f s1 ⟨ve, br_f s9 ⟨vs, ve, br_f s2 ⟨ve, br_t fp ⟨ve, br_f s3 ⟨ve, br_t s4 ⟨ve, br_f s3 ⟨ve, nm_e ⟨ve, nm_e ⟨ve, nm_e h⟩⟩⟩⟩⟩⟩⟩⟩⟩⟩⟩⟩⟩
  have l5 : ¬ st e < 5 := fun l => by
    rcases zz_s5 hS bS l with c | c | c | c | c
    · exact s0 c
    · exact s1 c
    · exact s2 c
    · exact s3 c
    · exact s4 c
  exact ⟨3, (w, lf, rt, sr, nw, upd st e 0, ic, pr, ss, sa, wa, wr, sh, ak, nx, li, pc, hd, go, tk, en, wh, ow, td, ob, sp, sc, sn, ib, hl, kd, so, bo, fr, tt, po, ln, fi, sk, ed, ba, ma, sb), (w, lf, rt, sr, nw, upd st e 0, ic, pr, wr, ak, nx, li, pc, hd, tk, en, td, ss, say, way, sh, wh, ow, oby, iby, scy, sny, spy, hly, kd, so, bo, fr, tt, poy, lny, sky, edy, bay, may, fiy, sby), zz_in (zm_st (S' := 0) HE he (by decide) (by decide)) HS, fun P h => ⟨vs, nm_e ⟨vs, ve, br_t h1 ⟨ve, nm_e (br_f s2 ⟨ve, br_t fp (zx_hand0 he s3 s4 (br_t rfl (zx_conn1 he l5 (br_f (by decide) (br_f s9 ⟨ve, nm_e h⟩)))))⟩)⟩⟩⟩, fun P h => ⟨vs, ve, br_t h1 ⟨ve, br_f s0 ⟨ve, br_f s1 ⟨ve, br_f s9 ⟨vs, ve, br_f s2 ⟨ve, br_t fp ⟨ve, br_f s3 ⟨ve, br_f s4 ⟨ve, nm_e h⟩⟩⟩⟩⟩⟩⟩⟩⟩⟩
theorem zm_takeSyn (HE : zHE st ss sa say wa way wr ak nx tk go ob oby sp spy sc scy sn sny ib iby hl hly) (HS : zHS kd so po poy ln lny fi fiy sk sky ed edy ba bay ma may sb sby) (he : e < 2) (hs : s < 12) : ∃ r u v, i_Rel (k + 4) u v ∧ (∀ P : Int32 → SX → Prop, P r u → wpX_takeSyn P (w, lf, rt, sr, nw, st, ic, pr, ss, sa, wa, wr, sh, ak, nx, li, pc, hd, go, tk, en, wh, ow, td, ob, sp, sc, sn, ib, hl, kd, so, bo, fr, tt, po, ln, fi, sk, ed, ba, ma, sb) (nI s) (nI e)) ∧ (∀ P : Int32 → SY → Prop, P r v → wpY_takeSyn P (w, lf, rt, sr, nw, st, ic, pr, wr, ak, nx, li, pc, hd, tk, en, td, ss, say, way, sh, wh, ow, oby, iby, scy, sny, spy, hly, kd, so, bo, fr, tt, poy, lny, sky, edy, bay, may, fiy, sby) (nI e) (nI s)) := by
  have ve : vp_in (nI e) 2 := vp_in_nI he (by decide)
  have ce : (nI e).toNatClampNeg = e := nI_clamp (by omega)
  have vs : vp_in (nI s) 12 := vp_in_nI hs (by decide)
  have cs : (nI s).toNatClampNeg = s := nI_clamp (by omega)
  obtain ⟨r, u, v, R, hx, hy⟩ := zm_refuse (k := k) HE HS he hs
  obtain ⟨S, W, A, N, T, G, ⟨hS, hW, hA, hN, hT, hG⟩, ⟨bS, bW, bA, bN, bT, bG⟩, ⟨hsy, hwa⟩, ⟨rsp, rsc, rhl⟩, hsn, hob, hib, hg1, hg0, hhb⟩ := HE e he
  unfold wpX_takeSyn wX_takeSyn_39 wX_takeSyn_55 wpY_takeSyn wY_takeSyn_43
  simp only [ce, cs]
  by_cases s0 : st e = 0
  · exact ⟨r, u, v, R, fun P h => ⟨vs, nm_e ⟨ve, nm_e (br_t s0 (hx _ h))⟩⟩, fun P h => ⟨ve, br_t s0 (hy _ h)⟩⟩
  by_cases s1 : st e = 1
  · have l3 : st e < 3 := by rw [s1]; decide
    have l5 : st e < 5 := by rw [s1]; decide
    exact ⟨1, (w, lf, rt, sr, nw, upd st e 3, ic, upd pr e (fr s), upd ss e 0, sa, wa, wr, sh, ak, nx, li, pc, hd, go, tk, en, wh, ow, td, ob, sp, sc, sn, ib, hl, kd, so, bo, fr, tt, po, ln, fi, sk, ed, ba, ma, sb), (w, lf, rt, sr, nw, upd st e 3, ic, upd pr e (fr s), wr, ak, nx, li, pc, hd, tk, en, td, upd ss e 0, say, way, sh, wh, ow, oby, iby, scy, sny, spy, hly, kd, so, bo, fr, tt, poy, lny, sky, edy, bay, may, fiy, sby), zz_in (zm_st0 (S' := 3) HE he (by decide) (by decide)) HS, fun P h => ⟨vs, nm_e ⟨ve, nm_e (br_f s0 (br_t s1 (br_t s1 ⟨ve, nm_e ⟨ve, nm_e ⟨ve, nm_e h⟩⟩⟩)))⟩⟩, fun P h => ⟨ve, br_f s0 ⟨ve, br_t l3 ⟨ve, br_t l5 ⟨vs, ve, nm_e ⟨ve, nm_e ⟨ve, br_t s1 ⟨ve, nm_e h⟩⟩⟩⟩⟩⟩⟩⟩
  by_cases s2 : st e = 2
  · have l3 : st e < 3 := by rw [s2]; decide
    have l5 : st e < 5 := by rw [s2]; decide
    exact ⟨1, (w, lf, rt, sr, nw, upd st e 4, ic, upd pr e (fr s), upd ss e 0, sa, wa, wr, sh, ak, nx, li, pc, hd, go, tk, en, wh, ow, td, ob, sp, sc, sn, ib, hl, kd, so, bo, fr, tt, po, ln, fi, sk, ed, ba, ma, sb), (w, lf, rt, sr, nw, upd st e 4, ic, upd pr e (fr s), wr, ak, nx, li, pc, hd, tk, en, td, upd ss e 0, say, way, sh, wh, ow, oby, iby, scy, sny, spy, hly, kd, so, bo, fr, tt, poy, lny, sky, edy, bay, may, fiy, sby), zz_in (zm_st0 (S' := 4) HE he (by decide) (by decide)) HS, fun P h => ⟨vs, nm_e ⟨ve, nm_e (br_f s0 (br_f s1 (br_t s2 (br_f s1 ⟨ve, nm_e ⟨ve, nm_e ⟨ve, nm_e h⟩⟩⟩))))⟩⟩, fun P h => ⟨ve, br_f s0 ⟨ve, br_t l3 ⟨ve, br_t l5 ⟨vs, ve, nm_e ⟨ve, nm_e ⟨ve, br_f s1 ⟨ve, br_t s2 ⟨ve, nm_e h⟩⟩⟩⟩⟩⟩⟩⟩⟩
  have l3 : ¬ st e < 3 := fun l => by
    rcases zz_s5 hS bS (Int32.lt_trans l (by decide)) with c | c | c | c | c
    · exact s0 c
    · exact s1 c
    · exact s2 c
    · rw [c] at l; exact absurd l (by decide)
    · rw [c] at l; exact absurd l (by decide)
  by_cases fp : pr e ≤ fr s
  case neg => exact ⟨0, (w, lf, rt, sr, nw, st, ic, pr, ss, sa, wa, wr, sh, ak, nx, li, pc, hd, go, tk, en, wh, ow, td, ob, sp, sc, sn, ib, hl, kd, so, bo, fr, tt, po, ln, fi, sk, ed, ba, ma, sb), (w, lf, rt, sr, nw, st, ic, pr, wr, ak, nx, li, pc, hd, tk, en, td, ss, say, way, sh, wh, ow, oby, iby, scy, sny, spy, hly, kd, so, bo, fr, tt, poy, lny, sky, edy, bay, may, fiy, sby), zz_in HE HS, fun P h => ⟨vs, nm_e ⟨ve, nm_e (br_f s0 (br_f s1 (br_f s2 ⟨ve, br_f fp h⟩)))⟩⟩, fun P h => ⟨ve, br_f s0 ⟨ve, br_f l3 ⟨vs, ve, br_f fp h⟩⟩⟩⟩
  by_cases l5 : st e < 5
  · have h34 : st e = 3 ∨ st e = 4 := by
      rcases zz_s5 hS bS l5 with c | c | c | c | c
      · exact absurd c s0
      · exact absurd c s1
      · exact absurd c s2
      · exact Or.inl c
      · exact Or.inr c
    exact ⟨1, (w, lf, rt, sr, nw, st, ic, upd pr e (fr s), upd ss e 0, sa, wa, wr, sh, ak, nx, li, pc, hd, go, tk, en, wh, ow, td, ob, sp, sc, sn, ib, hl, kd, so, bo, fr, tt, po, ln, fi, sk, ed, ba, ma, sb), (w, lf, rt, sr, nw, st, ic, upd pr e (fr s), wr, ak, nx, li, pc, hd, tk, en, td, upd ss e 0, say, way, sh, wh, ow, oby, iby, scy, sny, spy, hly, kd, so, bo, fr, tt, poy, lny, sky, edy, bay, may, fiy, sby), zz_in (zm_s0 HE he) HS, fun P h => ⟨vs, nm_e ⟨ve, nm_e (br_f s0 (br_f s1 (br_f s2 ⟨ve, br_t fp (zx_hand1 he h34 (br_f (by decide) ⟨ve, nm_e ⟨ve, nm_e h⟩⟩))⟩)))⟩⟩, fun P h => ⟨ve, br_f s0 ⟨ve, br_f l3 ⟨vs, ve, br_t fp ⟨ve, br_t l5 ⟨vs, ve, nm_e ⟨ve, nm_e ⟨ve, br_f s1 ⟨ve, br_f s2 h⟩⟩⟩⟩⟩⟩⟩⟩⟩
  · obtain ⟨_, _, _, n3, n4⟩ := zz_s5n l5
    exact ⟨1, (w, lf, rt, sr, nw, st, ic, pr, ss, sa, wa, wr, sh, ak, nx, li, pc, hd, go, tk, en, wh, upd ow e (vp_nar .boolean 1), td, ob, sp, sc, sn, ib, hl, kd, so, bo, fr, tt, po, ln, fi, sk, ed, ba, ma, sb), (w, lf, rt, sr, nw, st, ic, pr, wr, ak, nx, li, pc, hd, tk, en, td, ss, say, way, sh, wh, upd ow e (vp_nar .boolean 1), oby, iby, scy, sny, spy, hly, kd, so, bo, fr, tt, poy, lny, sky, edy, bay, may, fiy, sby), zz_in HE HS, fun P h => ⟨vs, nm_e ⟨ve, nm_e (br_f s0 (br_f s1 (br_f s2 ⟨ve, br_t fp (zx_hand0 he n3 n4 (br_t rfl ⟨ve, nm_e h⟩))⟩)))⟩⟩, fun P h => ⟨ve, br_f s0 ⟨ve, br_f l3 ⟨vs, ve, br_t fp ⟨ve, br_f l5 ⟨ve, nm_e h⟩⟩⟩⟩⟩⟩
theorem zm_takeSynAck (HE : zHE st ss sa say wa way wr ak nx tk go ob oby sp spy sc scy sn sny ib iby hl hly) (HS : zHS kd so po poy ln lny fi fiy sk sky ed edy ba bay ma may sb sby) (he : e < 2) (hs : s < 12) (hed : edy s = ed s) : ∃ r u v, i_Rel (k + 4) u v ∧ (∀ P : Int32 → SX → Prop, P r u → wpX_takeSynAck P (w, lf, rt, sr, nw, st, ic, pr, ss, sa, wa, wr, sh, ak, nx, li, pc, hd, go, tk, en, wh, ow, td, ob, sp, sc, sn, ib, hl, kd, so, bo, fr, tt, po, ln, fi, sk, ed, ba, ma, sb) (nI s) (nI e)) ∧ (∀ P : Int32 → SY → Prop, P r v → wpY_takeSynack P (w, lf, rt, sr, nw, st, ic, pr, wr, ak, nx, li, pc, hd, tk, en, td, ss, say, way, sh, wh, ow, oby, iby, scy, sny, spy, hly, kd, so, bo, fr, tt, poy, lny, sky, edy, bay, may, fiy, sby) (nI e) (nI s)) := by
  have ve : vp_in (nI e) 2 := vp_in_nI he (by decide)
  have ce : (nI e).toNatClampNeg = e := nI_clamp (by omega)
  have vs : vp_in (nI s) 12 := vp_in_nI hs (by decide)
  have cs : (nI s).toNatClampNeg = s := nI_clamp (by omega)
  obtain ⟨r, u, v, R, hx, hy⟩ := zm_refuse (k := k) HE HS he hs
  obtain ⟨S, W, A, N, T, G, ⟨hS, hW, hA, hN, hT, hG⟩, ⟨bS, bW, bA, bN, bT, bG⟩, ⟨hsy, hwa⟩, ⟨rsp, rsc, rhl⟩, hsn, hob, hib, hg1, hg0, hhb⟩ := HE e he
  have X105 : ∀ P : Int32 → SX → Prop, P 1 (w, lf, rt, sr, nw, upd st e 5, ic, upd pr e (fr s), ss, sa, wa, wr, sh, ak, nx, upd li e (zz_mx (li e) (ed s)), pc, upd hd e nw, go, tk, en, wh, upd ow e (vp_nar .boolean 1), td, ob, sp, sc, sn, ib, hl, kd, so, bo, fr, tt, po, ln, fi, sk, ed, ba, ma, sb) → wX_takeSynAck_105 P (nI s) (nI e) (fr s) w lf rt sr nw st ic pr ss sa wa wr sh ak nx li pc hd go tk en wh ow td ob sp sc sn ib hl kd so bo fr tt po ln fi sk ed ba ma sb := fun P h => by
    unfold wX_takeSynAck_105
    simp only [ce]
    exact ⟨ve, nm_e ⟨ve, nm_e (zx_limits he hs ⟨ve, nm_e h⟩)⟩⟩
  have Y105 : ∀ P : Int32 → SY → Prop, ¬ 5 ≤ st e → P 1 (w, lf, rt, sr, nw, upd st e 5, ic, upd pr e (fr s), wr, ak, nx, upd li e (zz_mx (li e) (ed s)), pc, upd hd e nw, tk, en, td, ss, say, way, sh, wh, upd ow e (vp_nar .boolean 1), oby, iby, scy, sny, spy, hly, kd, so, bo, fr, tt, poy, lny, sky, edy, bay, may, fiy, sby) → wY_takeSynack_105 P (nI e) (nI s) w lf rt sr nw st ic pr wr ak nx li pc hd tk en td ss say way sh wh ow oby iby scy sny spy hly kd so bo fr tt poy lny sky edy bay may fiy sby := fun P l h => by
    unfold wY_takeSynack_105
    simp only [ce, cs]
    rw [← hed] at h
    exact ⟨ve, br_f l ⟨vs, ve, nm_e ⟨ve, nm_e (zy_limits he hs ⟨ve, nm_e h⟩)⟩⟩⟩
  have HE5 : zHE (upd st e 5) ss sa say wa way wr ak nx tk go ob oby sp spy sc scy sn sny ib iby hl hly := zm_st (S' := 5) HE he (by decide) (by decide)
  unfold wpX_takeSynAck wX_takeSynAck_41 wpY_takeSynack wY_takeSynack_34 wY_takeSynack_73
  simp only [ce, cs]
  by_cases h1 : tt s = ic e
  case neg => exact ⟨r, u, v, R, fun P h => ⟨vs, nm_e ⟨ve, nm_e ⟨vs, ve, br_f h1 (hx _ h)⟩⟩⟩, fun P h => ⟨vs, ve, br_f h1 (hy _ h)⟩⟩
  by_cases s0 : st e = 0
  · exact ⟨r, u, v, R, fun P h => ⟨vs, nm_e ⟨ve, nm_e ⟨vs, ve, br_t h1 (br_t s0 (hx _ h))⟩⟩⟩, fun P h => ⟨vs, ve, br_t h1 ⟨ve, br_t s0 (hy _ h)⟩⟩⟩
  by_cases s1 : st e = 1
  · exact ⟨r, u, v, R, fun P h => ⟨vs, nm_e ⟨ve, nm_e ⟨vs, ve, br_t h1 (br_f s0 (br_t s1 (hx _ h)))⟩⟩⟩, fun P h => ⟨vs, ve, br_t h1 ⟨ve, br_f s0 ⟨ve, br_t s1 (hy _ h)⟩⟩⟩⟩
  by_cases l5 : st e < 5
  · have l5' : ¬ 5 ≤ st e := Int32.not_le.mpr l5
    by_cases s2 : st e = 2
    · exact ⟨1, (w, lf, rt, sr, nw, upd st e 5, ic, upd pr e (fr s), ss, sa, wa, wr, sh, ak, nx, upd li e (zz_mx (li e) (ed s)), pc, upd hd e nw, go, tk, en, wh, upd ow e (vp_nar .boolean 1), td, ob, sp, sc, sn, ib, hl, kd, so, bo, fr, tt, po, ln, fi, sk, ed, ba, ma, sb), (w, lf, rt, sr, nw, upd st e 5, ic, upd pr e (fr s), wr, ak, nx, upd li e (zz_mx (li e) (ed s)), pc, upd hd e nw, tk, en, td, ss, say, way, sh, wh, upd ow e (vp_nar .boolean 1), oby, iby, scy, sny, spy, hly, kd, so, bo, fr, tt, poy, lny, sky, edy, bay, may, fiy, sby), zz_in HE5 HS,
        fun P h => ⟨vs, nm_e ⟨ve, nm_e ⟨vs, ve, br_t h1 (br_f s0 (br_f s1 (zx_conn0 he l5 (br_t rfl (br_t s2 (X105 _ h))))))⟩⟩⟩, fun P h => ⟨vs, ve, br_t h1 ⟨ve, br_f s0 ⟨ve, br_f s1 ⟨ve, br_t l5 ⟨ve, br_t s2 (Y105 _ l5' h)⟩⟩⟩⟩⟩⟩
    · by_cases fp : pr e ≤ fr s
      · exact ⟨1, (w, lf, rt, sr, nw, upd st e 5, ic, upd pr e (fr s), ss, sa, wa, wr, sh, ak, nx, upd li e (zz_mx (li e) (ed s)), pc, upd hd e nw, go, tk, en, wh, upd ow e (vp_nar .boolean 1), td, ob, sp, sc, sn, ib, hl, kd, so, bo, fr, tt, po, ln, fi, sk, ed, ba, ma, sb), (w, lf, rt, sr, nw, upd st e 5, ic, upd pr e (fr s), wr, ak, nx, upd li e (zz_mx (li e) (ed s)), pc, upd hd e nw, tk, en, td, ss, say, way, sh, wh, upd ow e (vp_nar .boolean 1), oby, iby, scy, sny, spy, hly, kd, so, bo, fr, tt, poy, lny, sky, edy, bay, may, fiy, sby), zz_in HE5 HS,
          fun P h => ⟨vs, nm_e ⟨ve, nm_e ⟨vs, ve, br_t h1 (br_f s0 (br_f s1 (zx_conn0 he l5 (br_t rfl (br_f s2 ⟨ve, br_t fp (X105 _ h)⟩)))))⟩⟩⟩, fun P h => ⟨vs, ve, br_t h1 ⟨ve, br_f s0 ⟨ve, br_f s1 ⟨ve, br_t l5 ⟨ve, br_f s2 ⟨vs, ve, br_t fp (Y105 _ l5' h)⟩⟩⟩⟩⟩⟩⟩
      · exact ⟨r, u, v, R, fun P h => ⟨vs, nm_e ⟨ve, nm_e ⟨vs, ve, br_t h1 (br_f s0 (br_f s1 (zx_conn0 he l5 (br_t rfl (br_f s2 ⟨ve, br_f fp (hx _ h)⟩)))))⟩⟩⟩, fun P h => ⟨vs, ve, br_t h1 ⟨ve, br_f s0 ⟨ve, br_f s1 ⟨ve, br_t l5 ⟨ve, br_f s2 ⟨vs, ve, br_f fp (hy _ h)⟩⟩⟩⟩⟩⟩⟩
  · have l5' : 5 ≤ st e := Int32.not_lt.mp l5
    have n2 : ¬ st e = 2 := (zz_s5n l5).2.2.1
    by_cases fp : fr s = pr e
    · have fl : pr e ≤ fr s := by rw [fp]; exact Int32.le_refl _
      refine ⟨1, (w, lf, rt, sr, nw, st, ic, pr, ss, sa, wa, wr, sh, ak, nx, li, pc, hd, go, tk, en, wh, upd ow e (vp_nar .boolean 1), td, ob, sp, sc, sn, ib, hl, kd, so, bo, fr, tt, po, ln, fi, sk, ed, ba, ma, sb), (w, lf, rt, sr, nw, st, ic, pr, wr, ak, nx, li, pc, hd, tk, en, td, ss, say, way, sh, wh, upd ow e (vp_nar .boolean 1), oby, iby, scy, sny, spy, hly, kd, so, bo, fr, tt, poy, lny, sky, edy, bay, may, fiy, sby), zz_in HE HS, fun P h => ⟨vs, nm_e ⟨ve, nm_e ⟨vs, ve, br_t h1 (br_f s0 (br_f s1 (zx_conn1 he l5 (br_f (by decide) ⟨ve, br_t fp ⟨ve, nm_e h⟩⟩))))⟩⟩⟩, fun P h => ⟨vs, ve, br_t h1 ⟨ve, br_f s0 ⟨ve, br_f s1 ⟨ve, br_f l5 ⟨vs, ve, br_t fp ⟨ve, br_f n2 ⟨vs, ve, br_t fl ?_⟩⟩⟩⟩⟩⟩⟩⟩
      unfold wY_takeSynack_105
      rw [ce]
      exact ⟨ve, br_t l5' ⟨ve, nm_e h⟩⟩
    · exact ⟨r, u, v, R, fun P h => ⟨vs, nm_e ⟨ve, nm_e ⟨vs, ve, br_t h1 (br_f s0 (br_f s1 (zx_conn1 he l5 (br_f (by decide) ⟨ve, br_f fp (hx _ h)⟩))))⟩⟩⟩, fun P h => ⟨vs, ve, br_t h1 ⟨ve, br_f s0 ⟨ve, br_f s1 ⟨ve, br_f l5 ⟨vs, ve, br_f fp (hy _ h)⟩⟩⟩⟩⟩⟩
end
end
section
/-! deliver: data -/
def zz_th (P : Nat) (E : Int32) : Nat → Nat → (Nat → Int32) → (Nat → Int32)
  | 0, _, h => h
  | d + 1, i, h => zz_th P E d (i + 1) (if E ≤ nI (P + i) then h else if h (P + i) = 0 then upd h (P + i) 1 else h)
def zz_ti (P : Nat) (E : Int32) (b : Nat → Int32) : Nat → Nat → (Nat → Int32) → (Nat → Int32) → (Nat → Int32)
  | 0, _, _, f => f
  | d + 1, i, h, f => zz_ti P E b d (i + 1) (if E ≤ nI (P + i) then h else if h (P + i) = 0 then upd h (P + i) 1 else h) (if E ≤ nI (P + i) then f else if h (P + i) = 0 then upd f (P + i) (b i) else f)
def zz_sa (B M : Nat) : Nat → Nat → (Nat → Int32) → (Nat → Int32)
  | 0, _, f => f
  | d + 1, i, f => zz_sa B M d (i + 1) (if M.testBit i = true then upd f (B + 1 + i) 1 else f)
theorem zz_th_01 (P : Nat) (E : Int32) : ∀ d i (h : Nat → Int32), (∀ q, h q = 0 ∨ h q = 1) → ∀ q, zz_th P E d i h q = 0 ∨ zz_th P E d i h q = 1 := by
  intro d
  induction d with
  | zero => intro i h hh q; exact hh q
  | succ d ih =>
    intro i h hh q
    refine ih (i + 1) _ (fun p => ?_) q
    by_cases h1 : E ≤ nI (P + i)
    · rw [if_pos h1]; exact hh p
    · rw [if_neg h1]
      by_cases h2 : h (P + i) = 0
      · rw [if_pos h2]
        by_cases e1 : p = P + i
        · rw [e1, pk_us]; exact Or.inr rfl
        · rw [pk_un e1]; exact hh p
      · rw [if_neg h2]; exact hh p
theorem zz_th_m (P : Nat) (E : Int32) : ∀ d i (h : Nat → Int32) q, ¬ h q = 0 → ¬ zz_th P E d i h q = 0 := by
  intro d
  induction d with
  | zero => intro i h q hh; exact hh
  | succ d ih =>
    intro i h q hh
    refine ih (i + 1) _ q ?_
    by_cases h1 : E ≤ nI (P + i)
    · rw [if_pos h1]; exact hh
    · rw [if_neg h1]
      by_cases h2 : h (P + i) = 0
      · rw [if_pos h2]
        by_cases e1 : q = P + i
        · rw [e1, pk_us]; decide
        · rw [pk_un e1]; exact hh
      · rw [if_neg h2]; exact hh
theorem zz_ti_e (P : Nat) (E : Int32) (b c : Nat → Int32) (L : Nat) (hb : ∀ i, i < L → c i = b i) : ∀ d i (h f g : Nat → Int32), i + d = L → (∀ q, ¬ h q = 0 → g q = f q) → ∀ q, ¬ zz_th P E d i h q = 0 → zz_ti P E c d i h g q = zz_ti P E b d i h f q := by
  intro d
  induction d with
  | zero => intro i h f g hi hh q hq; exact hh q hq
  | succ d ih =>
    intro i h f g hi hh q hq
    refine ih (i + 1) _ _ _ (by omega) (fun p hp => ?_) q hq
    by_cases h1 : E ≤ nI (P + i)
    · rw [if_pos h1] at hp
      rw [if_pos h1, if_pos h1]; exact hh p hp
    · rw [if_neg h1] at hp
      rw [if_neg h1, if_neg h1]
      by_cases h2 : h (P + i) = 0
      · rw [if_pos h2] at hp
        rw [if_pos h2, if_pos h2]
        by_cases e1 : p = P + i
        · rw [e1, pk_us, pk_us]; exact hb i (by omega)
        · rw [pk_un e1] at hp
          rw [pk_un e1, pk_un e1]; exact hh p hp
      · rw [if_neg h2] at hp
        rw [if_neg h2, if_neg h2]; exact hh p hp
theorem zz_least (f : Nat → Int32) : ∀ n, f n = 0 → ∃ g, g ≤ n ∧ f g = 0 ∧ ∀ q, q < g → ¬ f q = 0 := by
  intro n
  induction n using Nat.strongRecOn with
  | ind n ih =>
    intro h
    by_cases c : ∃ m, m < n ∧ f m = 0
    · obtain ⟨m, hm, h0⟩ := c
      obtain ⟨g, h1, h2, h3⟩ := ih m hm h0
      exact ⟨g, by omega, h2, h3⟩
    · exact ⟨n, Nat.le_refl n, h, fun q hq h0 => c ⟨q, hq, h0⟩⟩
theorem zz_mx_n {A K : Nat} (hA : A ≤ 122) (hK : K ≤ 122) : ∃ A', A' ≤ 122 ∧ zz_mx (nI A) (nI K) = nI A' := by
  unfold zz_mx
  by_cases h : nI A ≤ nI K
  · rw [if_pos h]; exact ⟨K, hK, rfl⟩
  · rw [if_neg h]; exact ⟨A, hA, rfl⟩
section
variable {w lf rt sr nw : Int32} {st ic pr ss sa wa wr sh ak nx li pc hd go tk en wh ow td ob sp sc sn ib hl kd so bo fr tt po ln fi sk ed ba ma sb : Nat → Int32} {e s : Nat} {E : Int32} {P L B M G' : Nat}
theorem zx_tb_l (he : e < 2) (hs : s < 12) (hP : po s = nI P) (hL : ln s = nI L) (bL : L ≤ 4) (bP : P + L ≤ 121) : ∀ d i (hl ib : Nat → Int32), i + d = L → ∃ hl' ib', rX hl' e = zz_th P E d i (rX hl e) ∧ (∀ e', e' ≠ e → rX hl' e' = rX hl e') ∧ rX ib' e = zz_ti P E (rB sb s) d i (rX hl e) (rX ib e) ∧ (∀ e', e' ≠ e → rX ib' e' = rX ib e') ∧
    ∀ post : SX → Prop, post (w, lf, rt, sr, nw, st, ic, pr, ss, sa, wa, wr, sh, ak, nx, li, pc, hd, go, tk, en, wh, ow, td, ob, sp, sc, sn, ib', hl', kd, so, bo, fr, tt, po, ln, fi, sk, ed, ba, ma, sb) → wX_takeBytes_15 post (nI s) (nI e) E w lf rt sr nw (d + 1) (nI i) st ic pr ss sa wa wr sh ak nx li pc hd go tk en wh ow td ob sp sc sn ib hl kd so bo fr tt po ln fi sk ed ba ma sb := by
  have vs : vp_in (nI s) 12 := vp_in_nI hs (by decide)
  have cs : (nI s).toNatClampNeg = s := nI_clamp (by omega)
  intro d
  induction d with
  | zero =>
    intro i hl ib hi
    refine ⟨hl, ib, rfl, fun _ _ => rfl, rfl, fun _ _ => rfl, fun post h => And.intro vs ?_⟩
    rw [cs]
    exact br_t (by rw [hL]; exact nI_le (by omega) (by omega)) h
  | succ d ih =>
    intro i hl ib hi
    have b120 : P + i ≤ 120 := by omega
    have vc : vp_in (nI (e * 121 + (P + i))) 242 := vp_in_nI (by omega) (by decide)
    have cc : (nI (e * 121 + (P + i))).toNatClampNeg = e * 121 + (P + i) := nI_clamp (by omega)
    have c4 : (nI (s * 4 + i)).toNatClampNeg = s * 4 + i := nI_clamp (by omega)
    have ep : po s + nI i = nI (P + i) := by rw [hP, nI_add]
    have nl : ¬ ln s ≤ nI i := by rw [hL]; exact nI_ge (by omega) (by omega)
    have n4 : ¬ (4 : Int32) ≤ nI i := nI_ge (a := i) (b := 4) (by omega) (by decide)
    by_cases h1 : E ≤ nI (P + i)
    · obtain ⟨hl', ib', a1, a2, a3, a4, H⟩ := ih (i + 1) hl ib (by omega)
      refine ⟨hl', ib', ?_, a2, ?_, a4, fun post h => And.intro vs ?_⟩
      · rw [a1]; show _ = zz_th P E d (i + 1) (if E ≤ nI (P + i) then _ else _); rw [if_pos h1]
      · rw [a3]; show _ = zz_ti P E (rB sb s) d (i + 1) (if E ≤ nI (P + i) then _ else _) (if E ≤ nI (P + i) then _ else _); rw [if_pos h1, if_pos h1]
      · rw [cs]
        exact br_f nl (br_f n4 ⟨vs, nm_r ep (zx_pos1 b120 (br_f (by decide) (br_t h1 (nm_r (nI_1 i) (H post h)))))⟩)
    · by_cases h2 : hl (e * 121 + (P + i)) = 0
      · obtain ⟨hl', ib', a1, a2, a3, a4, H⟩ := ih (i + 1) (upd hl (e * 121 + (P + i)) 1) (upd ib (e * 121 + (P + i)) (sb (s * 4 + i))) (by omega)
        have h2' : rX hl e (P + i) = 0 := by rw [rX_g (by omega)]; exact h2
        refine ⟨hl', ib', ?_, fun e' n => (a2 e' n).trans (rX_un (by omega) n), ?_, fun e' n => (a4 e' n).trans (rX_un (by omega) n), fun post h => And.intro vs ?_⟩
        · rw [a1, rX_us (by omega)]; show _ = zz_th P E d (i + 1) (if E ≤ nI (P + i) then _ else if rX hl e (P + i) = 0 then _ else _); rw [if_neg h1, if_pos h2']
        · rw [a3, rX_us (by omega), rX_us (by omega), ← rB_g (a := sb) (s := s) (by omega : i < 4)]; show _ = zz_ti P E (rB sb s) d (i + 1) (if E ≤ nI (P + i) then _ else if rX hl e (P + i) = 0 then _ else _) (if E ≤ nI (P + i) then _ else if rX hl e (P + i) = 0 then _ else _); rw [if_neg h1, if_neg h1, if_pos h2', if_pos h2']
        · rw [cs]
          refine br_f nl (br_f n4 ⟨vs, nm_r ep (zx_pos1 b120 (br_f (by decide) (br_f h1 (zx_cell ⟨vc, ?_⟩))))⟩)
          rw [cc, zz_i4, c4]
          exact br_t h2 ⟨vc, nm_e ⟨vp_in_nI (by omega) (by decide), vc, nm_e (nm_r (nI_1 i) (H post h))⟩⟩
      · obtain ⟨hl', ib', a1, a2, a3, a4, H⟩ := ih (i + 1) hl ib (by omega)
        have h2' : ¬ rX hl e (P + i) = 0 := by rw [rX_g (by omega)]; exact h2
        refine ⟨hl', ib', ?_, a2, ?_, a4, fun post h => And.intro vs ?_⟩
        · rw [a1]; show _ = zz_th P E d (i + 1) (if E ≤ nI (P + i) then _ else if rX hl e (P + i) = 0 then _ else _); rw [if_neg h1, if_neg h2']
        · rw [a3]; show _ = zz_ti P E (rB sb s) d (i + 1) (if E ≤ nI (P + i) then _ else if rX hl e (P + i) = 0 then _ else _) (if E ≤ nI (P + i) then _ else if rX hl e (P + i) = 0 then _ else _); rw [if_neg h1, if_neg h1, if_neg h2', if_neg h2']
        · rw [cs]
          refine br_f nl (br_f n4 ⟨vs, nm_r ep (zx_pos1 b120 (br_f (by decide) (br_f h1 (zx_cell ⟨vc, ?_⟩))))⟩)
          rw [cc]
          exact br_f h2 (nm_r (nI_1 i) (H post h))
theorem zx_adv_l (he : e < 2) (hb : ∀ q, rX hl e q = 0 ∨ rX hl e q = 1) (h1 : ∀ q, q < G' → ¬ rX hl e q = 0) (h0 : rX hl e G' = 0) (bG : G' ≤ 121) : ∀ d p (go : Nat → Int32), p + d = G' → go e = nI p → ∃ go', go' e = nI G' ∧ (∀ e', e' ≠ e → go' e' = go e') ∧
    ∀ post : SX → Prop, post (w, lf, rt, sr, nw, st, ic, pr, ss, sa, wa, wr, sh, ak, nx, li, pc, hd, go', tk, en, wh, ow, td, ob, sp, sc, sn, ib, hl, kd, so, bo, fr, tt, po, ln, fi, sk, ed, ba, ma, sb) → wX_advanceGot_7 post (nI e) w lf rt sr nw (d + 1) (nI p) st ic pr ss sa wa wr sh ak nx li pc hd go tk en wh ow td ob sp sc sn ib hl kd so bo fr tt po ln fi sk ed ba ma sb := by
  have ve : vp_in (nI e) 2 := vp_in_nI he (by decide)
  have ce : (nI e).toNatClampNeg = e := nI_clamp (by omega)
  intro d
  induction d with
  | zero =>
    intro p go hp hg
    have e1 : p = G' := by omega
    subst e1
    refine ⟨go, hg, fun _ _ => rfl, fun post h => ?_⟩
    by_cases c : 120 < p
    · exact br_t (nI_lt (a := 120) c (by omega)) h
    · exact br_f (nI_nlt (a := 120) (by omega) (by decide)) (zx_held he hb (by omega) (br_t h0 h))
  | succ d ih =>
    intro p go hp hg
    obtain ⟨go', a1, a2, H⟩ := ih (p + 1) (upd go e (nI (p + 1))) (by omega) pk_us
    refine ⟨go', a1, fun e' n => (a2 e' n).trans (pk_un n), fun post h => ?_⟩
    refine br_f (nI_nlt (a := 120) (by omega) (by decide)) (zx_held he hb (by omega) (br_f (h1 p (by omega)) ⟨ve, ?_⟩))
    rw [ce, nI_1 p]
    exact nm_e (nm_e (H post h))
theorem zx_adv {G : Nat} (he : e < 2) (hb : ∀ q, rX hl e q = 0 ∨ rX hl e q = 1) (h1 : ∀ q, q < G' → ¬ rX hl e q = 0) (h0 : rX hl e G' = 0) (bG : G' ≤ 121) (hG : go e = nI G) (lG : G ≤ G') : ∃ go', go' e = nI G' ∧ (∀ e', e' ≠ e → go' e' = go e') ∧
    ∀ post : SX → Prop, post (w, lf, rt, sr, nw, st, ic, pr, ss, sa, wa, wr, sh, ak, nx, li, pc, hd, go', tk, en, wh, ow, td, ob, sp, sc, sn, ib, hl, kd, so, bo, fr, tt, po, ln, fi, sk, ed, ba, ma, sb) → wpX_advanceGot post (w, lf, rt, sr, nw, st, ic, pr, ss, sa, wa, wr, sh, ak, nx, li, pc, hd, go, tk, en, wh, ow, td, ob, sp, sc, sn, ib, hl, kd, so, bo, fr, tt, po, ln, fi, sk, ed, ba, ma, sb) (nI e) := by
  have ve : vp_in (nI e) 2 := vp_in_nI he (by decide)
  have ce : (nI e).toNatClampNeg = e := nI_clamp (by omega)
  obtain ⟨go', a1, a2, H⟩ := zx_adv_l (w := w) (lf := lf) (rt := rt) (sr := sr) (nw := nw) (st := st) (ic := ic) (pr := pr) (ss := ss) (sa := sa) (wa := wa) (wr := wr) (sh := sh) (ak := ak) (nx := nx) (li := li) (pc := pc) (hd := hd) (tk := tk) (en := en) (wh := wh) (ow := ow) (td := td) (ob := ob) (sp := sp) (sc := sc) (sn := sn) (ib := ib) (kd := kd) (so := so) (bo := bo) (fr := fr) (tt := tt) (po := po) (ln := ln) (fi := fi) (sk := sk) (ed := ed) (ba := ba) (ma := ma) (sb := sb) he hb h1 h0 bG (G' - G) G go (by omega) hG
  refine ⟨go', a1, a2, fun post h => ?_⟩
  exact And.intro ve (nm_r (e' := nI G) (by rw [ce, hG]) ⟨_, H post h⟩)
theorem zx_acks_l (he : e < 2) (hs : s < 12) (hB : ba s = nI B) (hM : ma s = nI M) (bB : B ≤ 121) (hm : zz_mok B M) : ∀ d i (sp : Nat → Int32), i + d = 7 → ∃ sp', rX sp' e = zz_sa B M d i (rX sp e) ∧ (∀ e', e' ≠ e → rX sp' e' = rX sp e') ∧
    ∀ post : SX → Prop, post (w, lf, rt, sr, nw, st, ic, pr, ss, sa, wa, wr, sh, ak, nx, li, pc, hd, go, tk, en, wh, ow, td, ob, sp', sc, sn, ib, hl, kd, so, bo, fr, tt, po, ln, fi, sk, ed, ba, ma, sb) → wX_takeAcks_24 post (nI s) (nI e) w lf rt sr nw (d + 1) (nI i) st ic pr ss sa wa wr sh ak nx li pc hd go tk en wh ow td ob sp sc sn ib hl kd so bo fr tt po ln fi sk ed ba ma sb := by
  have vs : vp_in (nI s) 12 := vp_in_nI hs (by decide)
  have cs : (nI s).toNatClampNeg = s := nI_clamp (by omega)
  intro d
  induction d with
  | zero =>
    intro i sp hi
    exact ⟨sp, rfl, fun _ _ => rfl, fun post h => br_t (nI_lt (a := 6) (by omega) (by omega)) h⟩
  | succ d ih =>
    intro i sp hi
    have eb : (ba s + 1) + nI i = nI (B + 1 + i) := by rw [hB, nI_1, nI_add]
    by_cases t : M.testBit i = true
    · have b120 := hm.2 i (by omega) t
      obtain ⟨sp', a1, a2, H⟩ := ih (i + 1) (upd sp (e * 121 + (B + 1 + i)) 1) (by omega)
      refine ⟨sp', ?_, fun e' n => (a2 e' n).trans (rX_un (by omega) n), fun post h => ?_⟩
      · rw [a1, rX_us (by omega)]; show _ = zz_sa B M d (i + 1) (if M.testBit i = true then _ else _); rw [if_pos t]
      · refine br_f (nI_nlt (a := 6) (by omega) (by decide)) ⟨vs, ?_⟩
        rw [cs]
        refine nm_r eb ⟨vs, br_t ?_ (zx_pos1 b120 (br_f (by decide) (zx_cell ⟨vp_in_nI (by omega) (by decide), ?_⟩)))⟩
        · rw [hM]; exact (zz_bX hm.1 (by omega)).mpr t
        · rw [nI_clamp (by omega)]
          exact nm_e (nm_r (nI_1 i) (H post h))
    · obtain ⟨sp', a1, a2, H⟩ := ih (i + 1) sp (by omega)
      refine ⟨sp', ?_, a2, fun post h => ?_⟩
      · rw [a1]; show _ = zz_sa B M d (i + 1) (if M.testBit i = true then _ else _); rw [if_neg t]
      · refine br_f (nI_nlt (a := 6) (by omega) (by decide)) ⟨vs, ?_⟩
        rw [cs]
        refine nm_r eb ⟨vs, br_f ?_ (nm_r (nI_1 i) (H post h))⟩
        rw [hM]; exact fun c => t ((zz_bX hm.1 (by omega)).mp c)
theorem zx_acks (he : e < 2) (hs : s < 12) (hB : ba s = nI B) (hM : ma s = nI M) (bB : B ≤ 121) (hm : zz_mok B M) : ∃ sp', rX sp' e = zz_sa B M 7 0 (rX sp e) ∧ (∀ e', e' ≠ e → rX sp' e' = rX sp e') ∧
    ∀ post : SX → Prop, post (w, lf, rt, sr, nw, st, ic, pr, ss, sa, wa, wr, sh, upd ak e (zz_mx (ak e) (sk s)), nx, li, pc, hd, go, tk, en, wh, ow, td, ob, sp', sc, sn, ib, hl, kd, so, bo, fr, tt, po, ln, fi, sk, ed, ba, ma, sb) → wpX_takeAcks post (w, lf, rt, sr, nw, st, ic, pr, ss, sa, wa, wr, sh, ak, nx, li, pc, hd, go, tk, en, wh, ow, td, ob, sp, sc, sn, ib, hl, kd, so, bo, fr, tt, po, ln, fi, sk, ed, ba, ma, sb) (nI s) (nI e) := by
  have ve : vp_in (nI e) 2 := vp_in_nI he (by decide)
  have ce : (nI e).toNatClampNeg = e := nI_clamp (by omega)
  have vs : vp_in (nI s) 12 := vp_in_nI hs (by decide)
  have cs : (nI s).toNatClampNeg = s := nI_clamp (by omega)
  obtain ⟨sp', a1, a2, H⟩ := zx_acks_l (w := w) (lf := lf) (rt := rt) (sr := sr) (nw := nw) (st := st) (ic := ic) (pr := pr) (ss := ss) (sa := sa) (wa := wa) (wr := wr) (sh := sh) (ak := upd ak e (zz_mx (ak e) (sk s))) (nx := nx) (li := li) (pc := pc) (hd := hd) (go := go) (tk := tk) (en := en) (wh := wh) (ow := ow) (td := td) (ob := ob) (sc := sc) (sn := sn) (ib := ib) (hl := hl) (kd := kd) (so := so) (bo := bo) (fr := fr) (tt := tt) (po := po) (ln := ln) (fi := fi) (sk := sk) (ed := ed) (ba := ba) (ma := ma) (sb := sb) he hs hB hM bB hm 7 0 sp rfl
  refine ⟨sp', a1, a2, fun post h => ?_⟩
  unfold wpX_takeAcks
  simp only [ce, cs]
  exact ⟨ve, vs, zx_greater ⟨ve, nm_e ⟨8, H post h⟩⟩⟩
end
section
variable {w lf rt sr nw : Int32} {st ic pr wr ak nx li pc hd tk en td ss say way sh wh ow oby iby scy sny spy hly kd so bo fr tt poy lny sky edy bay may fiy sby : Nat → Int32} {e s : Nat} {P L B M : Nat}
theorem zy_tb_l (he : e < 2) (hs : s < 12) (hP : poy s = nI P) (hL : lny s = nI L) (bL : L ≤ 4) (bP : P + L ≤ 121) : ∀ d i (hly iby : Nat → Int32), i + d = L → ∃ hly' iby', rY hly' e = zz_th P (tk e + w) d i (rY hly e) ∧ (∀ e', e' ≠ e → rY hly' e' = rY hly e') ∧ rY iby' e = zz_ti P (tk e + w) (rB sby s) d i (rY hly e) (rY iby e) ∧ (∀ e', e' ≠ e → rY iby' e' = rY iby e') ∧
    ∀ post : Int32 → SY → Prop, wY_takeData_342 post (nI e) (nI s) w lf rt sr nw st ic pr wr ak nx li pc hd tk en td ss say way sh wh ow oby iby' scy sny spy hly' kd so bo fr tt poy lny sky edy bay may fiy sby → wY_takeData_234 post (nI e) (nI s) w lf rt sr nw (d + 1) (nI i) st ic pr wr ak nx li pc hd tk en td ss say way sh wh ow oby iby scy sny spy hly kd so bo fr tt poy lny sky edy bay may fiy sby := by
  have ve : vp_in (nI e) 2 := vp_in_nI he (by decide)
  have ce : (nI e).toNatClampNeg = e := nI_clamp (by omega)
  have vs : vp_in (nI s) 12 := vp_in_nI hs (by decide)
  have cs : (nI s).toNatClampNeg = s := nI_clamp (by omega)
  intro d
  induction d with
  | zero =>
    intro i hly iby hi
    refine ⟨hly, iby, rfl, fun _ _ => rfl, rfl, fun _ _ => rfl, fun post h => ?_⟩
    by_cases h4 : (4 : Int32) ≤ nI i
    · exact br_t h4 h
    · refine br_f h4 ⟨vs, ?_⟩
      rw [cs]
      exact br_t (by rw [hL]; exact nI_le (by omega) (by omega)) h
  | succ d ih =>
    intro i hly iby hi
    have b120 : P + i ≤ 120 := by omega
    have vc : vp_in (nI (e * 160 + (P + i))) 320 := vp_in_nI (by omega) (by decide)
    have cc : (nI (e * 160 + (P + i))).toNatClampNeg = e * 160 + (P + i) := nI_clamp (by omega)
    have c4 : (nI (s * 4 + i)).toNatClampNeg = s * 4 + i := nI_clamp (by omega)
    have ep : poy s + nI i = nI (P + i) := by rw [hP, nI_add]
    have nl : ¬ lny s ≤ nI i := by rw [hL]; exact nI_ge (by omega) (by omega)
    have n4 : ¬ (4 : Int32) ≤ nI i := nI_ge (a := i) (b := 4) (by omega) (by decide)
    have n160 : ¬ (160 : Int32) ≤ nI (P + i) := nI_ge (a := P + i) (b := 160) (by omega) (by decide)
    by_cases h1 : tk e + w ≤ nI (P + i)
    · obtain ⟨hly', iby', a1, a2, a3, a4, H⟩ := ih (i + 1) hly iby (by omega)
      refine ⟨hly', iby', ?_, a2, ?_, a4, fun post h => br_f n4 ⟨vs, ?_⟩⟩
      · rw [a1]; show _ = zz_th P (tk e + w) d (i + 1) (if tk e + w ≤ nI (P + i) then _ else _); rw [if_pos h1]
      · rw [a3]; show _ = zz_ti P (tk e + w) (rB sby s) d (i + 1) (if tk e + w ≤ nI (P + i) then _ else _) (if tk e + w ≤ nI (P + i) then _ else _); rw [if_pos h1, if_pos h1]
      · rw [cs, ce]
        exact br_f nl ⟨vs, nm_r ep (br_f n160 ⟨ve, br_t h1 (nm_r (nI_1 i) (H post h))⟩)⟩
    · by_cases h2 : hly (e * 160 + (P + i)) = 0
      · obtain ⟨hly', iby', a1, a2, a3, a4, H⟩ := ih (i + 1) (upd hly (e * 160 + (P + i)) 1) (upd iby (e * 160 + (P + i)) (sby (s * 4 + i))) (by omega)
        have h2' : rY hly e (P + i) = 0 := by rw [rY_g (by omega)]; exact h2
        refine ⟨hly', iby', ?_, fun e' n => (a2 e' n).trans (rY_un (by omega) n), ?_, fun e' n => (a4 e' n).trans (rY_un (by omega) n), fun post h => br_f n4 ⟨vs, ?_⟩⟩
        · rw [a1, rY_us (by omega)]; show _ = zz_th P (tk e + w) d (i + 1) (if tk e + w ≤ nI (P + i) then _ else if rY hly e (P + i) = 0 then _ else _); rw [if_neg h1, if_pos h2']
        · rw [a3, rY_us (by omega), rY_us (by omega), ← rB_g (a := sby) (s := s) (by omega : i < 4)]; show _ = zz_ti P (tk e + w) (rB sby s) d (i + 1) (if tk e + w ≤ nI (P + i) then _ else if rY hly e (P + i) = 0 then _ else _) (if tk e + w ≤ nI (P + i) then _ else if rY hly e (P + i) = 0 then _ else _); rw [if_neg h1, if_neg h1, if_pos h2', if_pos h2']
        · rw [cs, ce]
          refine br_f nl ⟨vs, nm_r ep (br_f n160 ⟨ve, br_f h1 ?_⟩)⟩
          rw [zz_i160, cc, zz_i4, c4]
          exact ⟨vc, br_t h2 ⟨vc, nm_e ⟨vp_in_nI (by omega) (by decide), vc, nm_e (nm_r (nI_1 i) (H post h))⟩⟩⟩
      · obtain ⟨hly', iby', a1, a2, a3, a4, H⟩ := ih (i + 1) hly iby (by omega)
        have h2' : ¬ rY hly e (P + i) = 0 := by rw [rY_g (by omega)]; exact h2
        refine ⟨hly', iby', ?_, a2, ?_, a4, fun post h => br_f n4 ⟨vs, ?_⟩⟩
        · rw [a1]; show _ = zz_th P (tk e + w) d (i + 1) (if tk e + w ≤ nI (P + i) then _ else if rY hly e (P + i) = 0 then _ else _); rw [if_neg h1, if_neg h2']
        · rw [a3]; show _ = zz_ti P (tk e + w) (rB sby s) d (i + 1) (if tk e + w ≤ nI (P + i) then _ else if rY hly e (P + i) = 0 then _ else _) (if tk e + w ≤ nI (P + i) then _ else if rY hly e (P + i) = 0 then _ else _); rw [if_neg h1, if_neg h1, if_neg h2', if_neg h2']
        · rw [cs, ce]
          refine br_f nl ⟨vs, nm_r ep (br_f n160 ⟨ve, br_f h1 ?_⟩)⟩
          rw [zz_i160, cc]
          exact ⟨vc, br_f h2 (nm_r (nI_1 i) (H post h))⟩
theorem zy_acks_l (he : e < 2) (hs : s < 12) (hB : bay s = nI B) (hM : may s = nI M) (bB : B ≤ 121) (hm : zz_mok B M) : ∀ d i (spy : Nat → Int32), i + d = 7 → ∃ spy', rY spy' e = zz_sa B M d i (rY spy e) ∧ (∀ e', e' ≠ e → rY spy' e' = rY spy e') ∧
    ∀ post : Int32 → SY → Prop, wY_takeData_88 post (nI e) (nI s) w lf rt sr nw 1 (nI 7) st ic pr wr ak nx li pc hd tk en td ss say way sh wh ow oby iby scy sny spy' hly kd so bo fr tt poy lny sky edy bay may fiy sby → wY_takeData_88 post (nI e) (nI s) w lf rt sr nw (d + 1) (nI i) st ic pr wr ak nx li pc hd tk en td ss say way sh wh ow oby iby scy sny spy hly kd so bo fr tt poy lny sky edy bay may fiy sby := by
  have vs : vp_in (nI s) 12 := vp_in_nI hs (by decide)
  have cs : (nI s).toNatClampNeg = s := nI_clamp (by omega)
  intro d
  induction d with
  | zero =>
    intro i spy hi
    have e1 : i = 7 := by omega
    subst e1
    exact ⟨spy, rfl, fun _ _ => rfl, fun post h => h⟩
  | succ d ih =>
    intro i spy hi
    have eb : (bay s + 1) + nI i = nI (B + 1 + i) := by rw [hB, nI_1, nI_add]
    by_cases t : M.testBit i = true
    · have b120 := hm.2 i (by omega) t
      obtain ⟨spy', a1, a2, H⟩ := ih (i + 1) (upd spy (e * 160 + (B + 1 + i)) 1) (by omega)
      refine ⟨spy', ?_, fun e' n => (a2 e' n).trans (rY_un (by omega) n), fun post h => ?_⟩
      · rw [a1, rY_us (by omega)]; show _ = zz_sa B M d (i + 1) (if M.testBit i = true then _ else _); rw [if_pos t]
      · refine br_f (nI_nlt (a := 6) (by omega) (by decide)) ⟨vs, ?_⟩
        rw [cs]
        refine nm_r eb ⟨vs, br_t ?_ (br_f (nI_ge (a := B + 1 + i) (b := 160) (by omega) (by decide)) ?_)⟩
        · rw [hM]; exact (zz_bY hm.1 (by omega)).mpr t
        · rw [zz_i160, nI_clamp (by omega)]
          exact ⟨vp_in_nI (by omega) (by decide), nm_e (nm_r (nI_1 i) (H post h))⟩
    · obtain ⟨spy', a1, a2, H⟩ := ih (i + 1) spy (by omega)
      refine ⟨spy', ?_, a2, fun post h => ?_⟩
      · rw [a1]; show _ = zz_sa B M d (i + 1) (if M.testBit i = true then _ else _); rw [if_neg t]
      · refine br_f (nI_nlt (a := 6) (by omega) (by decide)) ⟨vs, ?_⟩
        rw [cs]
        refine nm_r eb ⟨vs, br_f ?_ (nm_r (nI_1 i) (H post h))⟩
        rw [hM]; exact fun c => t ((zz_bY hm.1 (by omega)).mp c)
end
end
section
/-! deliver: the stages of data, from the last to the first; deliver -/
section
variable {st ss sa say wa way wr ak nx tk go : Int32} {ob oby sp spy sc scy sn sny ib iby hl hly : Nat → Int32}
theorem zE_ack {A' : Nat} {f : Nat → Int32} (H : zE st ss sa say wa way wr ak nx tk go ob oby sp spy sc scy sn sny ib iby hl hly) (b : A' ≤ 122) : zE st ss sa say wa way wr (nI A') nx tk go ob oby f f sc scy sn sny ib iby hl hly := by
  obtain ⟨S, W, A, N, T, G, ⟨hS, hW, hA, hN, hT, hG⟩, ⟨bS, bW, bA, bN, bT, bG⟩, ⟨hsy, hwa⟩, ⟨rsp, rsc, rhl⟩, hsn, hob, hib, hg1, hg0, hhb⟩ := H
  exact ⟨S, W, A', N, T, G, ⟨hS, hW, rfl, hN, hT, hG⟩, ⟨bS, bW, b, bN, bT, bG⟩, ⟨hsy, hwa⟩, ⟨rfl, rsc, rhl⟩, hsn, hob, hib, hg1, hg0, hhb⟩
theorem zE_got {G' G0 : Nat} {h i j : Nat → Int32} (H : zE st ss sa say wa way wr ak nx tk go ob oby sp spy sc scy sn sny ib iby hl hly) (hG0 : go = nI G0) (b0 : G0 ≤ 121) (b : G' ≤ 121) (l : G0 ≤ G')
    (hi : ∀ q, ¬ h q = 0 → j q = i q) (h1 : ∀ q, q < G' → ¬ h q = 0) (h0 : h G' = 0) (hb : ∀ q, h q = 0 ∨ h q = 1) : zE st ss sa say wa way wr ak nx tk (nI G') ob oby sp spy sc scy sn sny i j h h := by
  obtain ⟨S, W, A, N, T, G, ⟨hS, hW, hA, hN, hT, hG⟩, ⟨bS, bW, bA, bN, bT, bG⟩, ⟨hsy, hwa⟩, ⟨rsp, rsc, rhl⟩, hsn, hob, hib, hg1, hg0, hhb⟩ := H
  have e1 : G0 = G := (nI_eq (by omega) (by omega)).mp (hG0.symm.trans hG)
  subst e1
  exact ⟨S, W, A, N, T, G', ⟨hS, hW, hA, hN, hT, rfl⟩, ⟨bS, bW, bA, bN, by omega, b⟩, ⟨hsy, hwa⟩, ⟨rsp, rsc, rfl⟩, hsn, hob, hi, h1, h0, hb⟩
end
section
variable {k : Nat} {w lf rt sr nw : Int32} {st ic pr ss sa wa wr sh ak nx li pc hd go tk en wh ow td ob sp sc sn ib hl kd so bo fr tt po ln fi sk ed ba ma sb say way oby iby scy sny spy hly poy lny sky edy bay may fiy sby : Nat → Int32} {e s : Nat}
theorem zm_wt {S' : Nat} (HE : zHE st ss sa say wa way wr ak nx tk go ob oby sp spy sc scy sn sny ib iby hl hly) (he : e < 2) (b : S' ≤ 11) : zHE (upd st e (nI S')) ss sa say (upd wa e nw) (upd way e nw) wr ak nx tk go ob oby sp spy sc scy sn sny ib iby hl hly := by
  refine zHE_on (e := e) HE ?_
  simp only [pk_us]
  exact zE_wt (HE e he) b
theorem zm_wt' (HE : zHE st ss sa say wa way wr ak nx tk go ob oby sp spy sc scy sn sny ib iby hl hly) (he : e < 2) : zHE st ss sa say (upd wa e nw) (upd way e nw) wr ak nx tk go ob oby sp spy sc scy sn sny ib iby hl hly := by
  refine zHE_on (e := e) HE ?_
  simp only [pk_us]
  exact zE_wt' (HE e he)
theorem zm_d7b (HE : zHE st ss sa say wa way wr ak nx tk go ob oby sp spy sc scy sn sny ib iby hl hly) (HS : zHS kd so po poy ln lny fi fiy sk sky ed edy ba bay ma may sb sby) (he : e < 2) : ∃ r u v, i_Rel (k + 4) u v ∧ (∀ P : Int32 → SX → Prop, P r u → wX_takeData_220 P (nI e) w lf rt sr nw st ic pr ss sa wa wr sh ak nx li pc hd go tk en wh ow td ob sp sc sn ib hl kd so bo fr tt po ln fi sk ed ba ma sb) ∧ (∀ P : Int32 → SY → Prop, P r v → wY_takeData_486 P (nI e) w lf rt sr nw st ic pr wr ak nx li pc hd tk en td ss say way sh wh ow oby iby scy sny spy hly kd so bo fr tt poy lny sky edy bay may fiy sby) := by
  have ve : vp_in (nI e) 2 := vp_in_nI he (by decide)
  have ce : (nI e).toNatClampNeg = e := nI_clamp (by omega)
  unfold wX_takeData_220 wY_takeData_486
  rw [ce]
  by_cases s9 : st e = 9
  · exact ⟨1, (w, lf, rt, sr, nw, st, ic, pr, ss, sa, upd wa e nw, wr, sh, ak, nx, li, pc, hd, go, tk, en, wh, upd ow e (vp_nar .boolean 1), td, ob, sp, sc, sn, ib, hl, kd, so, bo, fr, tt, po, ln, fi, sk, ed, ba, ma, sb), (w, lf, rt, sr, nw, st, ic, pr, wr, ak, nx, li, pc, hd, tk, en, td, ss, say, upd way e nw, sh, wh, upd ow e (vp_nar .boolean 1), oby, iby, scy, sny, spy, hly, kd, so, bo, fr, tt, poy, lny, sky, edy, bay, may, fiy, sby), zz_in (zm_wt' HE he) HS, fun P h => ⟨ve, nm_e ⟨ve, br_t s9 ⟨ve, nm_e h⟩⟩⟩, fun P h => ⟨ve, nm_e ⟨ve, br_t s9 ⟨ve, nm_e h⟩⟩⟩⟩
  · exact ⟨1, (w, lf, rt, sr, nw, st, ic, pr, ss, sa, wa, wr, sh, ak, nx, li, pc, hd, go, tk, en, wh, upd ow e (vp_nar .boolean 1), td, ob, sp, sc, sn, ib, hl, kd, so, bo, fr, tt, po, ln, fi, sk, ed, ba, ma, sb), (w, lf, rt, sr, nw, st, ic, pr, wr, ak, nx, li, pc, hd, tk, en, td, ss, say, way, sh, wh, upd ow e (vp_nar .boolean 1), oby, iby, scy, sny, spy, hly, kd, so, bo, fr, tt, poy, lny, sky, edy, bay, may, fiy, sby), zz_in HE HS, fun P h => ⟨ve, nm_e ⟨ve, br_f s9 h⟩⟩, fun P h => ⟨ve, nm_e ⟨ve, br_f s9 h⟩⟩⟩
theorem zm_d7 (HE : zHE st ss sa say wa way wr ak nx tk go ob oby sp spy sc scy sn sny ib iby hl hly) (HS : zHS kd so po poy ln lny fi fiy sk sky ed edy ba bay ma may sb sby) (he : e < 2) (hs : s < 12) (eln : lny s = ln s) (efi : fiy s = fi s) : ∃ r u v, i_Rel (k + 4) u v ∧ (∀ P : Int32 → SX → Prop, P r u → wX_takeData_202 P (nI s) (nI e) w lf rt sr nw st ic pr ss sa wa wr sh ak nx li pc hd go tk en wh ow td ob sp sc sn ib hl kd so bo fr tt po ln fi sk ed ba ma sb) ∧ (∀ P : Int32 → SY → Prop, P r v → wY_takeData_468 P (nI e) (nI s) w lf rt sr nw st ic pr wr ak nx li pc hd tk en td ss say way sh wh ow oby iby scy sny spy hly kd so bo fr tt poy lny sky edy bay may fiy sby) := by
  have vs : vp_in (nI s) 12 := vp_in_nI hs (by decide)
  have cs : (nI s).toNatClampNeg = s := nI_clamp (by omega)
  obtain ⟨r, u, v, R, hx, hy⟩ := zm_d7b (k := k) HE HS he
  unfold wX_takeData_202 wY_takeData_468
  rw [cs, eln, efi]
  by_cases l : 0 < ln s
  · exact ⟨r, u, v, R, fun P h => ⟨vs, br_t l (hx P h)⟩, fun P h => ⟨vs, br_t l (hy P h)⟩⟩
  · by_cases f : fi s = 0
    · exact ⟨1, (w, lf, rt, sr, nw, st, ic, pr, ss, sa, wa, wr, sh, ak, nx, li, pc, hd, go, tk, en, wh, ow, td, ob, sp, sc, sn, ib, hl, kd, so, bo, fr, tt, po, ln, fi, sk, ed, ba, ma, sb), (w, lf, rt, sr, nw, st, ic, pr, wr, ak, nx, li, pc, hd, tk, en, td, ss, say, way, sh, wh, ow, oby, iby, scy, sny, spy, hly, kd, so, bo, fr, tt, poy, lny, sky, edy, bay, may, fiy, sby), zz_in HE HS, fun P h => ⟨vs, br_f l ⟨vs, br_t f h⟩⟩, fun P h => ⟨vs, br_f l ⟨vs, br_t f h⟩⟩⟩
    · exact ⟨r, u, v, R, fun P h => ⟨vs, br_f l ⟨vs, br_f f (hx P h)⟩⟩, fun P h => ⟨vs, br_f l ⟨vs, br_f f (hy P h)⟩⟩⟩
theorem zm_d6 {G G' : Nat} (HS : zHS kd so po poy ln lny fi fiy sk sky ed edy ba bay ma may sb sby) (he : e < 2) (hs : s < 12) (eln : lny s = ln s) (efi : fiy s = fi s) (hG : go e = nI G) (lG : G ≤ G') (bG : G' ≤ 121)
    (hb : ∀ q, rX hl e q = 0 ∨ rX hl e q = 1) (h1 : ∀ q, q < G' → ¬ rX hl e q = 0) (h0 : rX hl e G' = 0) (rhl : rY hly e = rX hl e)
    (HP : ∀ go' : Nat → Int32, go' e = nI G' → (∀ e', e' ≠ e → go' e' = go e') → zHE st ss sa say wa way wr ak nx tk go' ob oby sp spy sc scy sn sny ib iby hl hly) :
    ∃ r u v, i_Rel (k + 4) u v ∧ (∀ P : Int32 → SX → Prop, P r u → wX_takeData_159 P (nI s) (nI e) w lf rt sr nw st ic pr ss sa wa wr sh ak nx li pc hd go tk en wh ow td ob sp sc sn ib hl kd so bo fr tt po ln fi sk ed ba ma sb) ∧ (∀ P : Int32 → SY → Prop, P r v → wY_takeData_370 P (nI e) (nI s) w lf rt sr nw st ic pr wr ak nx li pc hd tk en td ss say way sh wh ow oby iby scy sny spy hly kd so bo fr tt poy lny sky edy bay may fiy sby) := by
  have ve : vp_in (nI e) 2 := vp_in_nI he (by decide)
  have ce : (nI e).toNatClampNeg = e := nI_clamp (by omega)
  obtain ⟨go', g1, g2, HX⟩ := zx_adv (w := w) (lf := lf) (rt := rt) (sr := sr) (nw := nw) (st := st) (ic := ic) (pr := pr) (ss := ss) (sa := sa) (wa := wa) (wr := wr) (sh := sh) (ak := ak) (nx := nx) (li := li) (pc := pc) (hd := hd) (go := go) (tk := tk) (en := en) (wh := wh) (ow := ow) (td := td) (ob := ob) (sp := sp) (sc := sc) (sn := sn) (ib := ib) (hl := hl) (kd := kd) (so := so) (bo := bo) (fr := fr) (tt := tt) (po := po) (ln := ln) (fi := fi) (sk := sk) (ed := ed) (ba := ba) (ma := ma) (sb := sb) he hb h1 h0 bG hG lG
  have HE := HP go' g1 g2
  have y1 : ∀ q, q < G' → ¬ rY hly e q = 0 := by rw [rhl]; exact h1
  have y0 : rY hly e G' = 0 := by rw [rhl]; exact h0
  obtain ⟨r, u, v, R, hx, hy⟩ := zm_d7 (k := k) HE HS he hs eln efi
  unfold wX_takeData_159 wY_takeData_370
  simp only [ce]
  by_cases z : wh e = 0
  case neg => exact ⟨r, u, v, R, fun P h => HX _ ⟨ve, br_f z (hx P h)⟩, fun P h => ⟨ve, br_f z (hy P h)⟩⟩
  by_cases n : en e < 0
  · exact ⟨r, u, v, R, fun P h => HX _ ⟨ve, br_t z ⟨ve, br_t n (hx P h)⟩⟩, fun P h => ⟨ve, br_t z ⟨ve, br_t n (hy P h)⟩⟩⟩
  by_cases q : nI G' = en e
  case neg =>
    have qn : ¬ go' e = en e := by rw [g1]; exact q
    exact ⟨r, u, v, R, fun P h => HX _ ⟨ve, br_t z ⟨ve, br_f n ⟨ve, ve, br_f qn (hx P h)⟩⟩⟩, fun P h => ⟨ve, br_t z ⟨ve, br_f n (zy_got he y1 y0 bG ⟨ve, br_f q (hy P h)⟩)⟩⟩⟩
  have q' : go' e = en e := by rw [g1]; exact q
  unfold wpX_streamWhole
  simp only [ce]
  by_cases s5 : st e = 5
  · obtain ⟨r, u, v, R, hx, hy⟩ := zm_d7 (k := k) (wh := upd wh e (vp_nar .boolean 1)) (zm_st (S' := 10) HE he (by decide) (by decide)) HS he hs eln efi
    exact ⟨r, u, v, R, fun P h => HX _ ⟨ve, br_t z ⟨ve, br_f n ⟨ve, ve, br_t q' ⟨ve, nm_e ⟨ve, nm_e (br_t s5 ⟨ve, nm_e (hx P h)⟩)⟩⟩⟩⟩⟩, fun P h => ⟨ve, br_t z ⟨ve, br_f n (zy_got he y1 y0 bG ⟨ve, br_t q ⟨ve, nm_e ⟨ve, br_t s5 ⟨ve, nm_e (hy P h)⟩⟩⟩⟩)⟩⟩⟩
  by_cases s6 : st e = 6
  · obtain ⟨r, u, v, R, hx, hy⟩ := zm_d7 (k := k) (wh := upd wh e (vp_nar .boolean 1)) (zm_st (S' := 8) HE he (by decide) (by decide)) HS he hs eln efi
    exact ⟨r, u, v, R, fun P h => HX _ ⟨ve, br_t z ⟨ve, br_f n ⟨ve, ve, br_t q' ⟨ve, nm_e ⟨ve, nm_e (br_f s5 (br_t s6 ⟨ve, nm_e (hx P h)⟩))⟩⟩⟩⟩⟩, fun P h => ⟨ve, br_t z ⟨ve, br_f n (zy_got he y1 y0 bG ⟨ve, br_t q ⟨ve, nm_e ⟨ve, br_f s5 ⟨ve, br_t s6 ⟨ve, nm_e (hy P h)⟩⟩⟩⟩⟩)⟩⟩⟩
  by_cases s7 : st e = 7
  · obtain ⟨r, u, v, R, hx, hy⟩ := zm_d7 (k := k) (wh := upd wh e (vp_nar .boolean 1)) (zm_wt (nw := nw) (S' := 9) HE he (by decide)) HS he hs eln efi
    refine ⟨r, u, v, R, fun P h => HX _ ⟨ve, br_t z ⟨ve, br_f n ⟨ve, ve, br_t q' ⟨ve, nm_e ⟨ve, nm_e (br_f s5 (br_f s6 (br_t s7 ⟨ve, nm_e ⟨ve, nm_e (hx P h)⟩⟩)))⟩⟩⟩⟩⟩, fun P h => ⟨ve, br_t z ⟨ve, br_f n (zy_got he y1 y0 bG ⟨ve, br_t q ⟨ve, nm_e ⟨ve, br_f s5 ⟨ve, br_f s6 ⟨ve, br_t s7 ?_⟩⟩⟩⟩⟩)⟩⟩⟩
    unfold wpY_enterTimeWait
    rw [ce]
    exact ⟨ve, nm_e ⟨ve, nm_e (hy P h)⟩⟩
  · obtain ⟨r, u, v, R, hx, hy⟩ := zm_d7 (k := k) (wh := upd wh e (vp_nar .boolean 1)) HE HS he hs eln efi
    exact ⟨r, u, v, R, fun P h => HX _ ⟨ve, br_t z ⟨ve, br_f n ⟨ve, ve, br_t q' ⟨ve, nm_e ⟨ve, nm_e (br_f s5 (br_f s6 (br_f s7 (hx P h))))⟩⟩⟩⟩⟩, fun P h => ⟨ve, br_t z ⟨ve, br_f n (zy_got he y1 y0 bG ⟨ve, br_t q ⟨ve, nm_e ⟨ve, br_f s5 ⟨ve, br_f s6 ⟨ve, br_f s7 (hy P h)⟩⟩⟩⟩⟩)⟩⟩⟩
/-- what is known of the data segment in slot s -/
def zD (po poy ln lny fi fiy sk sky ed edy ba bay ma may : Int32) (sb sby : Nat → Int32) : Prop :=
  (edy = ed ∧ poy = po ∧ lny = ln ∧ fiy = fi ∧ sky = sk ∧ bay = ba ∧ may = ma) ∧
      ∃ P L K B M : Nat, (po = nI P ∧ ln = nI L ∧ sk = nI K ∧ ba = nI B ∧ ma = nI M) ∧ (L ≤ 4 ∧ P + L ≤ 121 ∧ K ≤ 122 ∧ B ≤ 121 ∧ zz_mok B M) ∧
        (∀ i, i < L → sby i = sb i)
theorem zm_d4 (HE : zHE st ss sa say wa way wr ak nx tk go ob oby sp spy sc scy sn sny ib iby hl hly) (HS : zHS kd so po poy ln lny fi fiy sk sky ed edy ba bay ma may sb sby) (he : e < 2) (hs : s < 12) (D : zD (po s) (poy s) (ln s) (lny s) (fi s) (fiy s) (sk s) (sky s) (ed s) (edy s) (ba s) (bay s) (ma s) (may s) (rB sb s) (rB sby s)) :
    ∃ r u v, i_Rel (k + 4) u v ∧ (∀ P : Int32 → SX → Prop, P r u → wX_takeData_125 P (nI s) (nI e) w lf rt sr nw st ic pr ss sa wa wr sh ak nx li pc hd go tk en wh ow td ob sp sc sn ib hl kd so bo fr tt po ln fi sk ed ba ma sb) ∧ (∀ P : Int32 → SY → Prop, P r v → ∃ n, wY_takeData_234 P (nI e) (nI s) w lf rt sr nw n 0 st ic pr wr ak nx li pc hd tk en td ss say way sh wh ow oby iby scy sny spy hly kd so bo fr tt poy lny sky edy bay may fiy sby) := by
  have ve : vp_in (nI e) 2 := vp_in_nI he (by decide)
  have ce : (nI e).toNatClampNeg = e := nI_clamp (by omega)
  have vs : vp_in (nI s) 12 := vp_in_nI hs (by decide)
  have cs : (nI s).toNatClampNeg = s := nI_clamp (by omega)
  obtain ⟨⟨eed, epo, eln, efi, esk, eba, ema⟩, P, L, K, B, M, ⟨hP, hL, hK, hB, hM⟩, ⟨bL, bP, bK, bB, hm⟩, hby⟩ := D
  have HEe := HE e he
  obtain ⟨S, W, A, N, T, G, ⟨hS, hW, hA, hN, hT, hG⟩, ⟨bS, bW, bA, bN, bT, bG⟩, ⟨hsy, hwa⟩, ⟨rsp, rsc, rhl⟩, hsn, hob, hib, hg1, hg0, hhb⟩ := HE e he
  obtain ⟨hl', ib', a1, a2, a3, a4, HX⟩ := zx_tb_l (w := w) (lf := lf) (rt := rt) (sr := sr) (nw := nw) (st := st) (ic := ic) (pr := pr) (ss := ss) (sa := sa) (wa := wa) (wr := wr) (sh := sh) (ak := ak) (nx := nx) (li := li) (pc := pc) (hd := hd) (go := go) (tk := tk) (en := en) (wh := wh) (ow := ow) (td := td) (ob := ob) (sp := sp) (sc := sc) (sn := sn) (kd := kd) (so := so) (bo := bo) (fr := fr) (tt := tt) (po := po) (ln := ln) (fi := fi) (sk := sk) (ed := ed) (ba := ba) (ma := ma) (sb := sb) (E := tk e + w) he hs hP hL bL bP L 0 hl ib (by omega)
  obtain ⟨hly', iby', b1, b2, b3, b4, HY⟩ := zy_tb_l (w := w) (lf := lf) (rt := rt) (sr := sr) (nw := nw) (st := st) (ic := ic) (pr := pr) (wr := wr) (ak := ak) (nx := nx) (li := li) (pc := pc) (hd := hd) (tk := tk) (en := en) (td := td) (ss := ss) (say := say) (way := way) (sh := sh) (wh := wh) (ow := ow) (oby := oby) (scy := scy) (sny := sny) (spy := spy) (kd := kd) (so := so) (bo := bo) (fr := fr) (tt := tt) (poy := poy) (lny := lny) (sky := sky) (edy := edy) (bay := bay) (may := may) (fiy := fiy) (sby := sby) he hs (epo.trans hP) (eln.trans hL) bL bP L 0 hly iby (by omega)
  have erow : rY hly' e = rX hl' e := by rw [b1, a1, rhl]
  have c01 : ∀ q, rX hl' e q = 0 ∨ rX hl' e q = 1 := by rw [a1]; exact zz_th_01 _ _ _ _ _ hhb
  have cm : ∀ q, q < G → ¬ rX hl' e q = 0 := by rw [a1]; exact fun q hq => zz_th_m _ _ _ _ _ q (hg1 q hq)
  have ci : ∀ q, ¬ rX hl' e q = 0 → rY iby' e q = rX ib' e q := by
    rw [a1, a3, b3, rhl]
    exact zz_ti_e P (tk e + w) (rB sb s) (rB sby s) L hby L 0 (rX hl e) (rX ib e) (rY iby e) (by omega) hib
  obtain ⟨G', l121, z0, z1⟩ := zz_least (rX hl' e) 121 (rX_h (Nat.le_refl 121))
  have lG : G ≤ G' := by
    apply Nat.le_of_not_lt
    intro l
    exact cm G' l z0
  have HP : ∀ go' : Nat → Int32, go' e = nI G' → (∀ e', e' ≠ e → go' e' = go e') → zHE st ss sa say wa way wr ak nx tk go' ob oby sp spy sc scy sn sny ib' iby' hl' hly' := fun go' q1 q2 => by
    refine zHE_on (e := e) HE ?_ (h_go := q2) (h_hl := a2) (h_ib := a4) (h_hly := b2) (h_iby := b4)
    rw [q1, erow]
    exact zE_got HEe hG bG l121 lG ci z1 z0 c01
  have main : ∀ en' : Nat → Int32, ∃ r u v, i_Rel (k + 4) u v ∧ (∀ P : Int32 → SX → Prop, P r u → wX_takeData_159 P (nI s) (nI e) w lf rt sr nw st ic pr ss sa wa wr sh ak nx li pc hd go tk en' wh ow td ob sp sc sn ib' hl' kd so bo fr tt po ln fi sk ed ba ma sb) ∧ (∀ P : Int32 → SY → Prop, P r v → wY_takeData_370 P (nI e) (nI s) w lf rt sr nw st ic pr wr ak nx li pc hd tk en' td ss say way sh wh ow oby iby' scy sny spy hly' kd so bo fr tt poy lny sky edy bay may fiy sby) := fun en' =>
    zm_d6 HS he hs eln efi hG lG l121 c01 z1 z0 erow HP
  unfold wX_takeData_125
  simp only [ce, cs]
  by_cases f : fi s = 0
  · obtain ⟨r, u, v, R, hx, hy⟩ := main en
    refine ⟨r, u, v, R, fun P h => And.intro ve (nm_r (e' := tk e + w) (by rw [ce]) ⟨L + 1, HX _ ⟨vs, br_t f (hx P h)⟩⟩), fun P h => ⟨L + 1, HY P ?_⟩⟩
    unfold wY_takeData_342
    rw [cs, efi]
    exact ⟨vs, br_t f (hy P h)⟩
  · obtain ⟨r, u, v, R, hx, hy⟩ := main (upd en e (po s + ln s))
    refine ⟨r, u, v, R, fun P h => And.intro ve (nm_r (e' := tk e + w) (by rw [ce]) ⟨L + 1, HX _ ⟨vs, br_f f ⟨vs, vs, ve, nm_e (hx P h)⟩⟩⟩), fun P h => ⟨L + 1, HY P ?_⟩⟩
    unfold wY_takeData_342
    rw [cs, ce, efi, epo, eln]
    exact ⟨vs, br_f f ⟨vs, vs, ve, nm_e (hy P h)⟩⟩
end
end
section
/-! deliver: acknowledgements, the end mark; the four kinds -/
section
variable {k : Nat} {w lf rt sr nw : Int32} {st ic pr ss sa wa wr sh ak nx li pc hd go tk en wh ow td ob sp sc sn ib hl kd so bo fr tt po ln fi sk ed ba ma sb say way oby iby scy sny spy hly poy lny sky edy bay may fiy sby : Nat → Int32} {e s : Nat}
theorem zm_d2 (HE : zHE st ss sa say wa way wr ak nx tk go ob oby sp spy sc scy sn sny ib iby hl hly) (HS : zHS kd so po poy ln lny fi fiy sk sky ed edy ba bay ma may sb sby) (he : e < 2) (hs : s < 12) (n0 : ¬ st e = 0) (D : zD (po s) (poy s) (ln s) (lny s) (fi s) (fiy s) (sk s) (sky s) (ed s) (edy s) (ba s) (bay s) (ma s) (may s) (rB sb s) (rB sby s)) :
    ∃ r u v, i_Rel (k + 4) u v ∧ (∀ P : Int32 → SX → Prop, P r u → wX_takeData_80 P (nI s) (nI e) w lf rt sr nw st ic pr ss sa wa wr sh ak nx li pc hd go tk en wh ow td ob sp sc sn ib hl kd so bo fr tt po ln fi sk ed ba ma sb) ∧ (∀ P : Int32 → SY → Prop, P r v → wY_takeData_64 P (nI e) (nI s) w lf rt sr nw st ic pr wr ak nx li pc hd tk en td ss say way sh wh ow oby iby scy sny spy hly kd so bo fr tt poy lny sky edy bay may fiy sby) := by
  have ve : vp_in (nI e) 2 := vp_in_nI he (by decide)
  have ce : (nI e).toNatClampNeg = e := nI_clamp (by omega)
  have vs : vp_in (nI s) 12 := vp_in_nI hs (by decide)
  have cs : (nI s).toNatClampNeg = s := nI_clamp (by omega)
  have D' := D
  obtain ⟨⟨eed, epo, eln, efi, esk, eba, ema⟩, P, L, K, B, M, ⟨hP, hL, hK, hB, hM⟩, ⟨bL, bP, bK, bB, hm⟩, hby⟩ := D'
  have HEe := HE e he
  obtain ⟨S, W, A, N, T, G, ⟨hS, hW, hA, hN, hT, hG⟩, ⟨bS, bW, bA, bN, bT, bG⟩, ⟨hsy, hwa⟩, ⟨rsp, rsc, rhl⟩, hsn, hob, hib, hg1, hg0, hhb⟩ := HE e he
  obtain ⟨sp', a1, a2, HX⟩ := zx_acks (w := w) (lf := lf) (rt := rt) (sr := sr) (nw := nw) (st := st) (ic := ic) (pr := pr) (ss := ss) (sa := sa) (wa := wa) (wr := wr) (sh := sh) (ak := ak) (nx := nx) (li := li) (pc := pc) (hd := hd) (go := go) (tk := tk) (en := en) (wh := wh) (ow := ow) (td := td) (ob := ob) (sp := sp) (sc := sc) (sn := sn) (ib := ib) (hl := hl) (kd := kd) (so := so) (bo := bo) (fr := fr) (tt := tt) (po := po) (ln := ln) (fi := fi) (sk := sk) (ed := ed) (ba := ba) (ma := ma) (sb := sb) he hs hB hM bB hm
  obtain ⟨spy', b1, b2, HY⟩ := zy_acks_l (w := w) (lf := lf) (rt := rt) (sr := sr) (nw := nw) (st := st) (ic := ic) (pr := pr) (wr := wr) (ak := upd ak e (zz_mx (ak e) (sk s))) (nx := nx) (li := li) (pc := pc) (hd := hd) (tk := tk) (en := en) (td := td) (ss := ss) (say := say) (way := way) (sh := sh) (wh := wh) (ow := ow) (oby := oby) (iby := iby) (scy := scy) (sny := sny) (hly := hly) (kd := kd) (so := so) (bo := bo) (fr := fr) (tt := tt) (poy := poy) (lny := lny) (sky := sky) (edy := edy) (bay := bay) (may := may) (fiy := fiy) (sby := sby) he hs (eba.trans hB) (ema.trans hM) bB hm 7 0 spy rfl
  obtain ⟨A', bA', eA⟩ := zz_mx_n bA bK
  rw [← hA, ← hK] at eA
  have HE2 : zHE st ss sa say wa way wr (upd ak e (zz_mx (ak e) (sk s))) nx tk go ob oby sp' spy' sc scy sn sny ib iby hl hly := by
    refine zHE_on (e := e) HE ?_ (h_sp := a2) (h_spy := b2)
    rw [pk_us, a1, b1, rsp, eA]
    exact zE_ack HEe bA'
  -- the reference: from the loop's end on
  have YL : ∀ P : Int32 → SY → Prop, wY_takeData_88 P (nI e) (nI s) w lf rt sr nw 1 (nI 7) st ic pr wr (upd ak e (zz_mx (ak e) (sk s))) nx li pc hd tk en td ss say way sh wh ow oby iby scy sny spy' hly kd so bo fr tt poy lny sky edy bay may fiy sby → wY_takeData_64 P (nI e) (nI s) w lf rt sr nw st ic pr wr ak nx li pc hd tk en td ss say way sh wh ow oby iby scy sny spy hly kd so bo fr tt poy lny sky edy bay may fiy sby := fun P h => by
    unfold wY_takeData_64
    simp only [ce, cs]
    refine ⟨ve, vs, zy_max ?_⟩
    rw [esk]
    exact ⟨ve, nm_e ⟨8, HY P h⟩⟩
  have lim : zz_mx (li e) (edy s) = zz_mx (li e) (ed s) := by rw [eed]
  by_cases h3 : upd ak e (zz_mx (ak e) (sk s)) e = wr e + 1
  · by_cases s6 : st e = 6
    · obtain ⟨r, u, v, R, hx, hy⟩ := zm_d4 (k := k) (li := upd li e (zz_mx (li e) (ed s))) (hd := upd hd e nw) (zm_st (S' := 7) HE2 he (by decide) (by decide)) HS he hs D
      refine ⟨r, u, v, R, fun P h => ?_, fun P h => YL P ?_⟩
      · unfold wX_takeData_80 wpX_endMarkAcked
        simp only [ce]
        exact HX _ (zx_limits he hs ⟨ve, ve, br_t h3 ⟨ve, nm_e (br_t s6 ⟨ve, nm_e ⟨ve, br_f (by rw [pk_us]; decide) (hx P h)⟩⟩)⟩⟩)
      · refine br_t (nI_lt (a := 6) (by decide) (by decide)) (zy_limits he hs ?_)
        rw [ce, lim]
        exact ⟨ve, ve, br_t h3 ⟨ve, br_t s6 ⟨ve, nm_e (hy P h)⟩⟩⟩
    by_cases s8 : st e = 8
    · obtain ⟨r, u, v, R, hx, hy⟩ := zm_d4 (k := k) (li := upd li e (zz_mx (li e) (ed s))) (hd := upd hd e nw) (zm_wt (nw := nw) (S' := 9) HE2 he (by decide)) HS he hs D
      refine ⟨r, u, v, R, fun P h => ?_, fun P h => YL P ?_⟩
      · unfold wX_takeData_80 wpX_endMarkAcked
        simp only [ce]
        exact HX _ (zx_limits he hs ⟨ve, ve, br_t h3 ⟨ve, nm_e (br_f s6 (br_t s8 ⟨ve, nm_e ⟨ve, nm_e ⟨ve, br_f (by rw [pk_us]; decide) (hx P h)⟩⟩⟩))⟩⟩)
      · refine br_t (nI_lt (a := 6) (by decide) (by decide)) (zy_limits he hs ?_)
        rw [ce, lim]
        refine ⟨ve, ve, br_t h3 ⟨ve, br_f s6 ⟨ve, br_t s8 ?_⟩⟩⟩
        unfold wpY_enterTimeWait
        rw [ce]
        exact ⟨ve, nm_e ⟨ve, nm_e (hy P h)⟩⟩
    by_cases s11 : st e = 11
    · refine ⟨1, (w, lf, rt, sr, nw, upd st e 0, ic, pr, ss, sa, wa, wr, sh, upd ak e (zz_mx (ak e) (sk s)), nx, upd li e (zz_mx (li e) (ed s)), pc, upd hd e nw, go, tk, en, wh, ow, td, ob, sp', sc, sn, ib, hl, kd, so, bo, fr, tt, po, ln, fi, sk, ed, ba, ma, sb), (w, lf, rt, sr, nw, upd st e 0, ic, pr, wr, upd ak e (zz_mx (ak e) (sk s)), nx, upd li e (zz_mx (li e) (ed s)), pc, upd hd e nw, tk, en, td, ss, say, way, sh, wh, ow, oby, iby, scy, sny, spy', hly, kd, so, bo, fr, tt, poy, lny, sky, edy, bay, may, fiy, sby), zz_in (zm_st (S' := 0) HE2 he (by decide) (by decide)) HS, fun P h => ?_, fun P h => YL P ?_⟩
      · unfold wX_takeData_80 wpX_endMarkAcked
        simp only [ce]
        exact HX _ (zx_limits he hs ⟨ve, ve, br_t h3 ⟨ve, nm_e (br_f s6 (br_f s8 (br_t s11 ⟨ve, nm_e ⟨ve, br_t (by rw [pk_us]) h⟩⟩)))⟩⟩)
      · refine br_t (nI_lt (a := 6) (by decide) (by decide)) (zy_limits he hs ?_)
        rw [ce, lim]
        exact ⟨ve, ve, br_t h3 ⟨ve, br_f s6 ⟨ve, br_f s8 ⟨ve, br_t s11 ⟨ve, nm_e h⟩⟩⟩⟩⟩
    · obtain ⟨r, u, v, R, hx, hy⟩ := zm_d4 (k := k) (li := upd li e (zz_mx (li e) (ed s))) (hd := upd hd e nw) HE2 HS he hs D
      refine ⟨r, u, v, R, fun P h => ?_, fun P h => YL P ?_⟩
      · unfold wX_takeData_80 wpX_endMarkAcked
        simp only [ce]
        exact HX _ (zx_limits he hs ⟨ve, ve, br_t h3 ⟨ve, nm_e (br_f s6 (br_f s8 (br_f s11 ⟨ve, br_f n0 (hx P h)⟩)))⟩⟩)
      · refine br_t (nI_lt (a := 6) (by decide) (by decide)) (zy_limits he hs ?_)
        rw [ce, lim]
        exact ⟨ve, ve, br_t h3 ⟨ve, br_f s6 ⟨ve, br_f s8 ⟨ve, br_f s11 (hy P h)⟩⟩⟩⟩
  · obtain ⟨r, u, v, R, hx, hy⟩ := zm_d4 (k := k) (li := upd li e (zz_mx (li e) (ed s))) (hd := upd hd e nw) HE2 HS he hs D
    refine ⟨r, u, v, R, fun P h => ?_, fun P h => YL P ?_⟩
    · unfold wX_takeData_80
      simp only [ce]
      exact HX _ (zx_limits he hs ⟨ve, ve, br_f h3 (hx P h)⟩)
    · refine br_t (nI_lt (a := 6) (by decide) (by decide)) (zy_limits he hs ?_)
      rw [ce, lim]
      exact ⟨ve, ve, br_f h3 (hy P h)⟩
theorem zm_takeData (HE : zHE st ss sa say wa way wr ak nx tk go ob oby sp spy sc scy sn sny ib iby hl hly) (HS : zHS kd so po poy ln lny fi fiy sk sky ed edy ba bay ma may sb sby) (he : e < 2) (hs : s < 12) (D : zD (po s) (poy s) (ln s) (lny s) (fi s) (fiy s) (sk s) (sky s) (ed s) (edy s) (ba s) (bay s) (ma s) (may s) (rB sb s) (rB sby s)) :
    ∃ r u v, i_Rel (k + 4) u v ∧ (∀ P : Int32 → SX → Prop, P r u → wpX_takeData P (w, lf, rt, sr, nw, st, ic, pr, ss, sa, wa, wr, sh, ak, nx, li, pc, hd, go, tk, en, wh, ow, td, ob, sp, sc, sn, ib, hl, kd, so, bo, fr, tt, po, ln, fi, sk, ed, ba, ma, sb) (nI s) (nI e)) ∧ (∀ P : Int32 → SY → Prop, P r v → wpY_takeData P (w, lf, rt, sr, nw, st, ic, pr, wr, ak, nx, li, pc, hd, tk, en, td, ss, say, way, sh, wh, ow, oby, iby, scy, sny, spy, hly, kd, so, bo, fr, tt, poy, lny, sky, edy, bay, may, fiy, sby) (nI e) (nI s)) := by
  have ve : vp_in (nI e) 2 := vp_in_nI he (by decide)
  have ce : (nI e).toNatClampNeg = e := nI_clamp (by omega)
  have vs : vp_in (nI s) 12 := vp_in_nI hs (by decide)
  have cs : (nI s).toNatClampNeg = s := nI_clamp (by omega)
  obtain ⟨r, u, v, R, hx, hy⟩ := zm_refuse (k := k) HE HS he hs
  obtain ⟨S, W, A, N, T, G, ⟨hS, hW, hA, hN, hT, hG⟩, ⟨bS, bW, bA, bN, bT, bG⟩, ⟨hsy, hwa⟩, ⟨rsp, rsc, rhl⟩, hsn, hob, hib, hg1, hg0, hhb⟩ := HE e he
  unfold wpX_takeData wX_takeData_21 wX_takeData_58 wpY_takeData wY_takeData_40
  simp only [ce, cs]
  by_cases s0 : st e = 0
  · have l2 : st e ≤ 2 := by rw [s0]; decide
    exact ⟨r, u, v, R, fun P h => ⟨ve, nm_e (br_t s0 (hx _ h))⟩, fun P h => ⟨ve, br_t l2 (hy _ h)⟩⟩
  by_cases s1 : st e = 1
  · have l2 : st e ≤ 2 := by rw [s1]; decide
    exact ⟨r, u, v, R, fun P h => ⟨ve, nm_e (br_f s0 (br_t s1 (hx _ h)))⟩, fun P h => ⟨ve, br_t l2 (hy _ h)⟩⟩
  by_cases s2 : st e = 2
  · have l2 : st e ≤ 2 := by rw [s2]; decide
    exact ⟨r, u, v, R, fun P h => ⟨ve, nm_e (br_f s0 (br_f s1 (br_t s2 (hx _ h))))⟩, fun P h => ⟨ve, br_t l2 (hy _ h)⟩⟩
  have l2 : ¬ st e ≤ 2 := fun l => by
    have l5 : st e < 5 := Int32.lt_of_le_of_lt l (by decide)
    rcases zz_s5 hS bS l5 with c | c | c | c | c
    · exact s0 c
    · exact s1 c
    · exact s2 c
    · rw [c] at l; exact absurd l (by decide)
    · rw [c] at l; exact absurd l (by decide)
  by_cases h1 : tt s = ic e
  case neg => exact ⟨r, u, v, R, fun P h => ⟨ve, nm_e (br_f s0 (br_f s1 (br_f s2 ⟨vs, ve, br_f h1 (hx _ h)⟩)))⟩, fun P h => ⟨ve, br_f l2 ⟨vs, ve, br_f h1 (hy _ h)⟩⟩⟩
  by_cases h2 : fr s = pr e
  case neg => exact ⟨r, u, v, R, fun P h => ⟨ve, nm_e (br_f s0 (br_f s1 (br_f s2 ⟨vs, ve, br_t h1 ⟨vs, ve, br_f h2 (hx _ h)⟩⟩)))⟩, fun P h => ⟨ve, br_f l2 ⟨vs, ve, br_t h1 ⟨vs, ve, br_f h2 (hy _ h)⟩⟩⟩⟩
  by_cases l5 : st e < 5
  · have h34 : st e = 3 ∨ st e = 4 := by
      rcases zz_s5 hS bS l5 with c | c | c | c | c
      · exact absurd c s0
      · exact absurd c s1
      · exact absurd c s2
      · exact Or.inl c
      · exact Or.inr c
    obtain ⟨r, u, v, R, hx, hy⟩ := zm_d2 (k := k) (zm_st (S' := 5) HE he (by decide) (by decide)) HS he hs (by rw [pk_us]; decide) D
    exact ⟨r, u, v, R, fun P h => ⟨ve, nm_e (br_f s0 (br_f s1 (br_f s2 ⟨vs, ve, br_t h1 ⟨vs, ve, br_t h2 (zx_hand1 he h34 (br_f (by decide) ⟨ve, nm_e (hx P h)⟩))⟩⟩)))⟩, fun P h => ⟨ve, br_f l2 ⟨vs, ve, br_t h1 ⟨vs, ve, br_t h2 ⟨ve, br_f (Int32.not_le.mpr l5) ⟨ve, nm_e (hy P h)⟩⟩⟩⟩⟩⟩
  · obtain ⟨_, _, _, n3, n4⟩ := zz_s5n l5
    obtain ⟨r, u, v, R, hx, hy⟩ := zm_d2 (k := k) HE HS he hs s0 D
    exact ⟨r, u, v, R, fun P h => ⟨ve, nm_e (br_f s0 (br_f s1 (br_f s2 ⟨vs, ve, br_t h1 ⟨vs, ve, br_t h2 (zx_hand0 he n3 n4 (br_t rfl (hx P h)))⟩⟩)))⟩, fun P h => ⟨ve, br_f l2 ⟨vs, ve, br_t h1 ⟨vs, ve, br_t h2 ⟨ve, br_t (Int32.not_lt.mp l5) (hy P h)⟩⟩⟩⟩⟩
theorem zm_deliver (HE : zHE st ss sa say wa way wr ak nx tk go ob oby sp spy sc scy sn sny ib iby hl hly) (HS : zHS kd so po poy ln lny fi fiy sk sky ed edy ba bay ma may sb sby) (v1 : Int32) : wpX_deliver (fun r u' => wpY_deliver (fun r' v' => r' = r ∧ i_Rel (k + 4) u' v') (w, lf, rt, sr, nw, st, ic, pr, wr, ak, nx, li, pc, hd, tk, en, td, ss, say, way, sh, wh, ow, oby, iby, scy, sny, spy, hly, kd, so, bo, fr, tt, poy, lny, sky, edy, bay, may, fiy, sby) v1) (w, lf, rt, sr, nw, st, ic, pr, ss, sa, wa, wr, sh, ak, nx, li, pc, hd, go, tk, en, wh, ow, td, ob, sp, sc, sn, ib, hl, kd, so, bo, fr, tt, po, ln, fi, sk, ed, ba, ma, sb) v1 := by
  rcases zz_slot kd v1 with ⟨s, hs, rfl, hk⟩ | hno
  · have vs : vp_in (nI s) 12 := vp_in_nI hs (by decide)
    have cs : (nI s).toNatClampNeg = s := nI_clamp (by omega)
    obtain ⟨⟨e0, he0, hso⟩, hkk, hk2, hk3⟩ := HS s hs hk
    have he : 1 - e0 < 2 := by omega
    have es : (1 : Int32) - so s = nI (1 - e0) := by rw [hso]; exact pk_sub (a := 1) (by omega)
    have HS0 : zHS (upd kd s 0) so po poy ln lny fi fiy sk sky ed edy ba bay ma may sb sby := zHS_on (s := s) HS (by rw [pk_us]; exact zS_0)
    generalize 1 - e0 = e at he es
    have Y : ∀ P : Int32 → SY → Prop, (kd s = 4 → wpY_takeRst P (w, lf, rt, sr, nw, st, ic, pr, wr, ak, nx, li, pc, hd, tk, en, td, ss, say, way, sh, wh, ow, oby, iby, scy, sny, spy, hly, upd kd s 0, so, bo, fr, tt, poy, lny, sky, edy, bay, may, fiy, sby) (nI e) (nI s)) → (kd s = 1 → wpY_takeSyn P (w, lf, rt, sr, nw, st, ic, pr, wr, ak, nx, li, pc, hd, tk, en, td, ss, say, way, sh, wh, ow, oby, iby, scy, sny, spy, hly, upd kd s 0, so, bo, fr, tt, poy, lny, sky, edy, bay, may, fiy, sby) (nI e) (nI s)) → (kd s = 2 → wpY_takeSynack P (w, lf, rt, sr, nw, st, ic, pr, wr, ak, nx, li, pc, hd, tk, en, td, ss, say, way, sh, wh, ow, oby, iby, scy, sny, spy, hly, upd kd s 0, so, bo, fr, tt, poy, lny, sky, edy, bay, may, fiy, sby) (nI e) (nI s)) → (kd s = 3 → wpY_takeData P (w, lf, rt, sr, nw, st, ic, pr, wr, ak, nx, li, pc, hd, tk, en, td, ss, say, way, sh, wh, ow, oby, iby, scy, sny, spy, hly, upd kd s 0, so, bo, fr, tt, poy, lny, sky, edy, bay, may, fiy, sby) (nI e) (nI s)) → wpY_deliver P (w, lf, rt, sr, nw, st, ic, pr, wr, ak, nx, li, pc, hd, tk, en, td, ss, say, way, sh, wh, ow, oby, iby, scy, sny, spy, hly, kd, so, bo, fr, tt, poy, lny, sky, edy, bay, may, fiy, sby) (nI s) := fun P y4 y1 y2 y3 => by
      unfold wpY_deliver
      simp only [cs, es]
      refine zy_goodS hs hk (br_f (by decide) ⟨vs, nm_e ⟨vs, nm_e ⟨vs, nm_e ?_⟩⟩⟩)
      refine br_c (fun h => y4 h) (fun n4 => br_c (fun h => y1 h) (fun n1 => br_c (fun h => y2 h) (fun n2 => y3 ?_)))
      rcases hkk with h | h | h | h
      · exact absurd h n1
      · exact absurd h n2
      · exact h
      · exact absurd h n4
    unfold wpX_deliver
    simp only [cs, es]
    refine zx_isSeg hs hk (br_f (by decide) ⟨vs, nm_e ⟨vs, nm_e (zx_isEnd he (br_f (by decide) ⟨vs, nm_e ?_⟩))⟩⟩)
    by_cases k4 : kd s = 4
    · obtain ⟨r, u, v, R, hx, hy⟩ := zm_takeRst (k := k) HE HS0 he hs
      exact br_t k4 (hx _ (Y _ (fun _ => hy _ ⟨rfl, R⟩) (fun h => absurd (k4.symm.trans h) (by decide)) (fun h => absurd (k4.symm.trans h) (by decide)) (fun h => absurd (k4.symm.trans h) (by decide))))
    refine br_f k4 ?_
    by_cases k1 : kd s = 1
    · obtain ⟨r, u, v, R, hx, hy⟩ := zm_takeSyn (k := k) HE HS0 he hs
      exact br_t k1 (hx _ (Y _ (fun h => absurd h k4) (fun _ => hy _ ⟨rfl, R⟩) (fun h => absurd (k1.symm.trans h) (by decide)) (fun h => absurd (k1.symm.trans h) (by decide))))
    refine br_f k1 ?_
    by_cases k2 : kd s = 2
    · obtain ⟨r, u, v, R, hx, hy⟩ := zm_takeSynAck (k := k) HE HS0 he hs (hk2 k2)
      exact br_t k2 (hx _ (Y _ (fun h => absurd h k4) (fun h => absurd h k1) (fun _ => hy _ ⟨rfl, R⟩) (fun h => absurd (k2.symm.trans h) (by decide))))
    have k3 : kd s = 3 := by
      rcases hkk with h | h | h | h
      · exact absurd h k1
      · exact absurd h k2
      · exact h
      · exact absurd h k4
    obtain ⟨r, u, v, R, hx, hy⟩ := zm_takeData (k := k) HE HS0 he hs (hk3 k3)
    exact br_f k2 (hx _ (Y _ (fun h => absurd h k4) (fun h => absurd h k1) (fun h => absurd h k2) (fun _ => hy _ ⟨rfl, R⟩)))
  · unfold wpX_deliver wpY_deliver
    dsimp only
    exact zx_isSeg0 hno (br_t (by trivial) (zy_goodS0 hno (br_t (by trivial) ⟨by trivial, zz_in HE HS⟩)))
end
end
section
/-! the constructors; the owed statements -/
def zz_cl (a b c : Int32) : Int32 := if b ≤ a then (if a ≤ c then a else c) else b
theorem zz_cl3 {P : Int32 → Prop} {a b c : Int32} (h : P (zz_cl a b c)) : (b ≤ a → ((a ≤ c → P a) ∧ (¬ a ≤ c → P c))) ∧ (¬ b ≤ a → P b) := by
  unfold zz_cl at h
  by_cases h1 : b ≤ a
  · rw [if_pos h1] at h
    exact br_t h1 (zz_ite (P := P) h)
  · rw [if_neg h1] at h
    exact br_f h1 h
theorem rX_0 (e : Nat) : rX (fun _ => 0) e = fun _ => 0 := by
  funext q
  unfold rX
  by_cases h : q < 121
  · rw [if_pos h]
  · rw [if_neg h]
theorem rY_0 (e : Nat) : rY (fun _ => 0) e = fun _ => 0 := by
  funext q
  unfold rY
  by_cases h : q < 160
  · rw [if_pos h]
  · rw [if_neg h]
section
variable {w lf rt sr nw : Int32} {st ic pr ss sa wa wr sh ak nx li pc hd go tk en wh ow td ob sp sc sn ib hl kd so bo fr tt po ln fi sk ed ba ma sb : Nat → Int32} {post : Int32 → Prop} {a b c : Int32}
theorem zx_clamp (h : post (zz_cl a b c)) : wpX_clamp post (w, lf, rt, sr, nw, st, ic, pr, ss, sa, wa, wr, sh, ak, nx, li, pc, hd, go, tk, en, wh, ow, td, ob, sp, sc, sn, ib, hl, kd, so, bo, fr, tt, po, ln, fi, sk, ed, ba, ma, sb) a b c := zz_cl3 (P := post) h
end
theorem i_vc0 (k0 : Int32) (k1 : Int32) (k2 : Int32) (k3 : Int32) : wpX_init (fun u => wpY_init (fun v => i_Rel 4 u v) k0 k1 k2 k3) k0 k1 k2 k3 := by
  unfold wpX_init
  refine zx_clamp (zx_clamp (zx_clamp (zx_clamp (nm_e (nm_e ?_)))))
  unfold wpY_init
  refine zz_cl3 (P := fun z => wY_init_310 _ k1 k2 k3 z 0 0 0 0 0 (fun _ => 0) (fun _ => 0) (fun _ => 0) (fun _ => 0) (fun _ => 0) (fun _ => 0) (fun _ => 0) (fun _ => 0) (fun _ => 0) (fun _ => 0) (fun _ => 0) (fun _ => 0) (fun _ => 0) (fun _ => 0) (fun _ => 0) (fun _ => 0) (fun _ => 0) (fun _ => 0) (fun _ => 0) (fun _ => 0) (fun _ => 0) (fun _ => 0) (fun _ => 0) (fun _ => 0) (fun _ => 0) (fun _ => 0) (fun _ => 0) (fun _ => 0) (fun _ => 0) (fun _ => 0) (fun _ => 0) (fun _ => 0) (fun _ => 0) (fun _ => 0) (fun _ => 0) (fun _ => 0) (fun _ => 0)) ?_
  unfold wY_init_310
  refine zz_cl3 (P := fun z => wY_init_335 _ k2 k3 z (zz_cl k0 1 8) 0 0 0 0 (fun _ => 0) (fun _ => 0) (fun _ => 0) (fun _ => 0) (fun _ => 0) (fun _ => 0) (fun _ => 0) (fun _ => 0) (fun _ => 0) (fun _ => 0) (fun _ => 0) (fun _ => 0) (fun _ => 0) (fun _ => 0) (fun _ => 0) (fun _ => 0) (fun _ => 0) (fun _ => 0) (fun _ => 0) (fun _ => 0) (fun _ => 0) (fun _ => 0) (fun _ => 0) (fun _ => 0) (fun _ => 0) (fun _ => 0) (fun _ => 0) (fun _ => 0) (fun _ => 0) (fun _ => 0) (fun _ => 0) (fun _ => 0) (fun _ => 0) (fun _ => 0) (fun _ => 0) (fun _ => 0) (fun _ => 0)) ?_
  unfold wY_init_335
  refine zz_cl3 (P := fun z => wY_init_360 _ k3 z (zz_cl k0 1 8) (zz_cl k1 1 6) 0 0 0 (fun _ => 0) (fun _ => 0) (fun _ => 0) (fun _ => 0) (fun _ => 0) (fun _ => 0) (fun _ => 0) (fun _ => 0) (fun _ => 0) (fun _ => 0) (fun _ => 0) (fun _ => 0) (fun _ => 0) (fun _ => 0) (fun _ => 0) (fun _ => 0) (fun _ => 0) (fun _ => 0) (fun _ => 0) (fun _ => 0) (fun _ => 0) (fun _ => 0) (fun _ => 0) (fun _ => 0) (fun _ => 0) (fun _ => 0) (fun _ => 0) (fun _ => 0) (fun _ => 0) (fun _ => 0) (fun _ => 0) (fun _ => 0) (fun _ => 0) (fun _ => 0) (fun _ => 0) (fun _ => 0) (fun _ => 0)) ?_
  unfold wY_init_360
  refine zz_cl3 (P := fun z => wY_init_387 _ z (zz_cl k0 1 8) (zz_cl k1 1 6) (zz_cl k2 1 8) 0 0 (fun _ => 0) (fun _ => 0) (fun _ => 0) (fun _ => 0) (fun _ => 0) (fun _ => 0) (fun _ => 0) (fun _ => 0) (fun _ => 0) (fun _ => 0) (fun _ => 0) (fun _ => 0) (fun _ => 0) (fun _ => 0) (fun _ => 0) (fun _ => 0) (fun _ => 0) (fun _ => 0) (fun _ => 0) (fun _ => 0) (fun _ => 0) (fun _ => 0) (fun _ => 0) (fun _ => 0) (fun _ => 0) (fun _ => 0) (fun _ => 0) (fun _ => 0) (fun _ => 0) (fun _ => 0) (fun _ => 0) (fun _ => 0) (fun _ => 0) (fun _ => 0) (fun _ => 0) (fun _ => 0) (fun _ => 0)) ?_
  unfold wY_init_387
  refine nm_e (nm_e (zz_in ?_ ?_))
  · intro e he
    rw [rX_0, rY_0]
    exact zE_op (S' := 0) (by decide) (by decide)
  · intro s hs
    exact zS_0
theorem i_vc_connect {k : Nat} {u : SX} {v : SY} (I : i_Rel k u v) (hk : k + 4 ≤ 2052) (v1 : Int32) : wpX_connect (fun r u' => wpY_connect (fun r' v' => r' = r ∧ i_Rel (k + 4) u' v') v v1) u v1 :=
  zz_el (P := fun u v => wpX_connect (fun r u' => wpY_connect (fun r' v' => r' = r ∧ i_Rel (k + 4) u' v') v v1) u v1) (fun w lf rt sr nw st ic pr ss sa wa wr sh ak nx li pc hd go tk en wh ow td ob sp sc sn ib hl kd so bo fr tt po ln fi sk ed ba ma sb say way oby iby scy sny spy hly poy lny sky edy bay may fiy sby HE HS => zm_connect HE HS v1) I
theorem i_vc_listen {k : Nat} {u : SX} {v : SY} (I : i_Rel k u v) (hk : k + 4 ≤ 2052) (v1 : Int32) : wpX_listen (fun r u' => wpY_listen (fun r' v' => r' = r ∧ i_Rel (k + 4) u' v') v v1) u v1 :=
  zz_el (P := fun u v => wpX_listen (fun r u' => wpY_listen (fun r' v' => r' = r ∧ i_Rel (k + 4) u' v') v v1) u v1) (fun w lf rt sr nw st ic pr ss sa wa wr sh ak nx li pc hd go tk en wh ow td ob sp sc sn ib hl kd so bo fr tt po ln fi sk ed ba ma sb say way oby iby scy sny spy hly poy lny sky edy bay may fiy sby HE HS => zm_listen HE HS v1) I
theorem i_vc_write {k : Nat} {u : SX} {v : SY} (I : i_Rel k u v) (hk : k + 4 ≤ 2052) (v1 : Int32) (v2 : Int32) (v3 : Int32) : wpX_write (fun r u' => wpY_write (fun r' v' => r' = r ∧ i_Rel (k + 4) u' v') v v1 v2 v3) u v1 v2 v3 :=
  zz_el (P := fun u v => wpX_write (fun r u' => wpY_write (fun r' v' => r' = r ∧ i_Rel (k + 4) u' v') v v1 v2 v3) u v1 v2 v3) (fun w lf rt sr nw st ic pr ss sa wa wr sh ak nx li pc hd go tk en wh ow td ob sp sc sn ib hl kd so bo fr tt po ln fi sk ed ba ma sb say way oby iby scy sny spy hly poy lny sky edy bay may fiy sby HE HS => zm_write HE HS v1 v2 v3) I
theorem i_vc_shut {k : Nat} {u : SX} {v : SY} (I : i_Rel k u v) (hk : k + 4 ≤ 2052) (v1 : Int32) : wpX_shut (fun r u' => wpY_shut (fun r' v' => r' = r ∧ i_Rel (k + 4) u' v') v v1) u v1 :=
  zz_el (P := fun u v => wpX_shut (fun r u' => wpY_shut (fun r' v' => r' = r ∧ i_Rel (k + 4) u' v') v v1) u v1) (fun w lf rt sr nw st ic pr ss sa wa wr sh ak nx li pc hd go tk en wh ow td ob sp sc sn ib hl kd so bo fr tt po ln fi sk ed ba ma sb say way oby iby scy sny spy hly poy lny sky edy bay may fiy sby HE HS => zm_shut HE HS v1) I
theorem i_vc_abort {k : Nat} {u : SX} {v : SY} (I : i_Rel k u v) (hk : k + 4 ≤ 2052) (v1 : Int32) : wpX_abort (fun r u' => wpY_abort (fun r' v' => r' = r ∧ i_Rel (k + 4) u' v') v v1) u v1 :=
  zz_el (P := fun u v => wpX_abort (fun r u' => wpY_abort (fun r' v' => r' = r ∧ i_Rel (k + 4) u' v') v v1) u v1) (fun w lf rt sr nw st ic pr ss sa wa wr sh ak nx li pc hd go tk en wh ow td ob sp sc sn ib hl kd so bo fr tt po ln fi sk ed ba ma sb say way oby iby scy sny spy hly poy lny sky edy bay may fiy sby HE HS => zm_abort HE HS v1) I
theorem i_vc_read {k : Nat} {u : SX} {v : SY} (I : i_Rel k u v) (hk : k + 4 ≤ 2052) (v1 : Int32) : wpX_read (fun r u' => wpY_read (fun r' v' => r' = r ∧ i_Rel (k + 4) u' v') v v1) u v1 :=
  zz_el (P := fun u v => wpX_read (fun r u' => wpY_read (fun r' v' => r' = r ∧ i_Rel (k + 4) u' v') v v1) u v1) (fun w lf rt sr nw st ic pr ss sa wa wr sh ak nx li pc hd go tk en wh ow td ob sp sc sn ib hl kd so bo fr tt po ln fi sk ed ba ma sb say way oby iby scy sny spy hly poy lny sky edy bay may fiy sby HE HS => zm_read HE HS v1) I
theorem i_vc_emit {k : Nat} {u : SX} {v : SY} (I : i_Rel k u v) (hk : k + 4 ≤ 2052) (v1 : Int32) : wpX_emit (fun r u' => wpY_emit (fun r' v' => r' = r ∧ i_Rel (k + 4) u' v') v v1) u v1 :=
  zz_el (P := fun u v => wpX_emit (fun r u' => wpY_emit (fun r' v' => r' = r ∧ i_Rel (k + 4) u' v') v v1) u v1) (fun w lf rt sr nw st ic pr ss sa wa wr sh ak nx li pc hd go tk en wh ow td ob sp sc sn ib hl kd so bo fr tt po ln fi sk ed ba ma sb say way oby iby scy sny spy hly poy lny sky edy bay may fiy sby HE HS => zm_emit HE HS v1) I
theorem i_vc_deliver {k : Nat} {u : SX} {v : SY} (I : i_Rel k u v) (hk : k + 4 ≤ 2052) (v1 : Int32) : wpX_deliver (fun r u' => wpY_deliver (fun r' v' => r' = r ∧ i_Rel (k + 4) u' v') v v1) u v1 :=
  zz_el (P := fun u v => wpX_deliver (fun r u' => wpY_deliver (fun r' v' => r' = r ∧ i_Rel (k + 4) u' v') v v1) u v1) (fun w lf rt sr nw st ic pr ss sa wa wr sh ak nx li pc hd go tk en wh ow td ob sp sc sn ib hl kd so bo fr tt po ln fi sk ed ba ma sb say way oby iby scy sny spy hly poy lny sky edy bay may fiy sby HE HS => zm_deliver HE HS v1) I
theorem i_vc_duplicate {k : Nat} {u : SX} {v : SY} (I : i_Rel k u v) (hk : k + 4 ≤ 2052) (v1 : Int32) : wpX_duplicate (fun r u' => wpY_duplicate (fun r' v' => r' = r ∧ i_Rel (k + 4) u' v') v v1) u v1 :=
  zz_el (P := fun u v => wpX_duplicate (fun r u' => wpY_duplicate (fun r' v' => r' = r ∧ i_Rel (k + 4) u' v') v v1) u v1) (fun w lf rt sr nw st ic pr ss sa wa wr sh ak nx li pc hd go tk en wh ow td ob sp sc sn ib hl kd so bo fr tt po ln fi sk ed ba ma sb say way oby iby scy sny spy hly poy lny sky edy bay may fiy sby HE HS => zm_duplicate HE HS v1) I
theorem i_vc_drop {k : Nat} {u : SX} {v : SY} (I : i_Rel k u v) (hk : k + 4 ≤ 2052) (v1 : Int32) : wpX_drop (fun r u' => wpY_drop (fun r' v' => r' = r ∧ i_Rel (k + 4) u' v') v v1) u v1 :=
  zz_el (P := fun u v => wpX_drop (fun r u' => wpY_drop (fun r' v' => r' = r ∧ i_Rel (k + 4) u' v') v v1) u v1) (fun w lf rt sr nw st ic pr ss sa wa wr sh ak nx li pc hd go tk en wh ow td ob sp sc sn ib hl kd so bo fr tt po ln fi sk ed ba ma sb say way oby iby scy sny spy hly poy lny sky edy bay may fiy sby HE HS => zm_drop HE HS v1) I
theorem i_vc_tick {k : Nat} {u : SX} {v : SY} (I : i_Rel k u v) (hk : k + 4 ≤ 2052) (v1 : Int32) : wpX_tick (fun r u' => wpY_tick (fun r' v' => r' = r ∧ i_Rel (k + 4) u' v') v v1) u v1 :=
  zz_el (P := fun u v => wpX_tick (fun r u' => wpY_tick (fun r' v' => r' = r ∧ i_Rel (k + 4) u' v') v v1) u v1) (fun w lf rt sr nw st ic pr ss sa wa wr sh ak nx li pc hd go tk en wh ow td ob sp sc sn ib hl kd so bo fr tt po ln fi sk ed ba ma sb say way oby iby scy sny spy hly poy lny sky edy bay may fiy sby HE HS => zm_tick HE HS v1) I
theorem i_vc_state {k : Nat} {u : SX} {v : SY} (I : i_Rel k u v) (hk : k + 4 ≤ 2052) (v1 : Int32) : wpX_state (fun r => wpY_state (fun r' => r' = r ∧ i_Rel (k + 4) u v) v v1) u v1 :=
  zz_el (P := fun u v => wpX_state (fun r => wpY_state (fun r' => r' = r ∧ i_Rel (k + 4) u v) v v1) u v1) (fun w lf rt sr nw st ic pr ss sa wa wr sh ak nx li pc hd go tk en wh ow td ob sp sc sn ib hl kd so bo fr tt po ln fi sk ed ba ma sb say way oby iby scy sny spy hly poy lny sky edy bay may fiy sby HE HS => zm_state HE HS v1) I
theorem i_vc_due {k : Nat} {u : SX} {v : SY} (I : i_Rel k u v) (hk : k + 4 ≤ 2052) (v1 : Int32) : wpX_due (fun r => wpY_due (fun r' => r' = r ∧ i_Rel (k + 4) u v) v v1) u v1 :=
  zz_el (P := fun u v => wpX_due (fun r => wpY_due (fun r' => r' = r ∧ i_Rel (k + 4) u v) v v1) u v1) (fun w lf rt sr nw st ic pr ss sa wa wr sh ak nx li pc hd go tk en wh ow td ob sp sc sn ib hl kd so bo fr tt po ln fi sk ed ba ma sb say way oby iby scy sny spy hly poy lny sky edy bay may fiy sby HE HS => zm_due HE HS v1) I
theorem i_vc_view {k : Nat} {u : SX} {v : SY} (I : i_Rel k u v) (hk : k + 4 ≤ 2052) (v1 : Int32) (v2 : Int32) : wpX_view (fun r => wpY_view (fun r' => r' = r ∧ i_Rel (k + 4) u v) v v1 v2) u v1 v2 :=
  zz_el (P := fun u v => wpX_view (fun r => wpY_view (fun r' => r' = r ∧ i_Rel (k + 4) u v) v v1 v2) u v1 v2) (fun w lf rt sr nw st ic pr ss sa wa wr sh ak nx li pc hd go tk en wh ow td ob sp sc sn ib hl kd so bo fr tt po ln fi sk ed ba ma sb say way oby iby scy sny spy hly poy lny sky edy bay may fiy sby HE HS => zm_view HE HS v1 v2) I
theorem i_vc_sends {k : Nat} {u : SX} {v : SY} (I : i_Rel k u v) (hk : k + 4 ≤ 2052) (v1 : Int32) (v2 : Int32) : wpX_sends (fun r => wpY_sends (fun r' => r' = r ∧ i_Rel (k + 4) u v) v v1 v2) u v1 v2 :=
  zz_el (P := fun u v => wpX_sends (fun r => wpY_sends (fun r' => r' = r ∧ i_Rel (k + 4) u v) v v1 v2) u v1 v2) (fun w lf rt sr nw st ic pr ss sa wa wr sh ak nx li pc hd go tk en wh ow td ob sp sc sn ib hl kd so bo fr tt po ln fi sk ed ba ma sb say way oby iby scy sny spy hly poy lny sky edy bay may fiy sby HE HS => zm_sends HE HS v1 v2) I
theorem i_vc_ticksLeft {k : Nat} {u : SX} {v : SY} (I : i_Rel k u v) (hk : k + 4 ≤ 2052) (v1 : Int32) (v2 : Int32) : wpX_ticksLeft (fun r => wpY_ticksLeft (fun r' => r' = r ∧ i_Rel (k + 4) u v) v v1 v2) u v1 v2 :=
  zz_el (P := fun u v => wpX_ticksLeft (fun r => wpY_ticksLeft (fun r' => r' = r ∧ i_Rel (k + 4) u v) v v1 v2) u v1 v2) (fun w lf rt sr nw st ic pr ss sa wa wr sh ak nx li pc hd go tk en wh ow td ob sp sc sn ib hl kd so bo fr tt po ln fi sk ed ba ma sb say way oby iby scy sny spy hly poy lny sky edy bay may fiy sby HE HS => zm_ticksLeft HE HS v1 v2) I
theorem i_vc_segment {k : Nat} {u : SX} {v : SY} (I : i_Rel k u v) (hk : k + 4 ≤ 2052) (v1 : Int32) (v2 : Int32) : wpX_segment (fun r => wpY_segment (fun r' => r' = r ∧ i_Rel (k + 4) u v) v v1 v2) u v1 v2 :=
  zz_el (P := fun u v => wpX_segment (fun r => wpY_segment (fun r' => r' = r ∧ i_Rel (k + 4) u v) v v1 v2) u v1 v2) (fun w lf rt sr nw st ic pr ss sa wa wr sh ak nx li pc hd go tk en wh ow td ob sp sc sn ib hl kd so bo fr tt po ln fi sk ed ba ma sb say way oby iby scy sny spy hly poy lny sky edy bay may fiy sby HE HS => zm_segment HE HS v1 v2) I
theorem i_vc_segByte {k : Nat} {u : SX} {v : SY} (I : i_Rel k u v) (hk : k + 4 ≤ 2052) (v1 : Int32) (v2 : Int32) : wpX_segByte (fun r => wpY_segByte (fun r' => r' = r ∧ i_Rel (k + 4) u v) v v1 v2) u v1 v2 :=
  zz_el (P := fun u v => wpX_segByte (fun r => wpY_segByte (fun r' => r' = r ∧ i_Rel (k + 4) u v) v v1 v2) u v1 v2) (fun w lf rt sr nw st ic pr ss sa wa wr sh ak nx li pc hd go tk en wh ow td ob sp sc sn ib hl kd so bo fr tt po ln fi sk ed ba ma sb say way oby iby scy sny spy hly poy lny sky edy bay may fiy sby HE HS => zm_segByte HE HS v1 v2) I
end
