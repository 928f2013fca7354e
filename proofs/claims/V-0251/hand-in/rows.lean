section
/-! rows pk_*: pasted from the kit's rows to paste (PURE-ROWS) -/
theorem pk_us {f : Nat → Int32} {k : Nat} {x : Int32} : upd f k x k = x := if_pos rfl
theorem pk_un {f : Nat → Int32} {k j : Nat} {x : Int32} (h : j ≠ k) : upd f k x j = f j := if_neg h
theorem pk_sub {a b : Nat} (h : b ≤ a) : nI a - nI b = nI (a - b) := by
  obtain ⟨c, rfl⟩ : ∃ c, a = c + b := ⟨a - b, by omega⟩
  rw [← nI_add, Int32.add_sub_cancel, Nat.add_sub_cancel]
theorem pk_m1 (n : Nat) : nI (n + 1) + (-1) = nI n := by
  rw [← nI_1, Int32.add_assoc, show (1 : Int32) + (-1) = 0 from rfl, Int32.add_zero]
theorem pk_mul (a b : Nat) : nI a * nI b = nI (a * b) := (Int32.ofNat_mul a b).symm
theorem pk_div {a d : Nat} (ha : a < 2 ^ 31) (h0 : 0 < d) (hd : d < 2 ^ 31) : nI a / nI d = nI (a / d) := by
  apply Int32.toInt_inj.mp
  rw [lg_idiv_nonneg (by rw [nI_toInt ha]; omega) (by rw [nI_toInt hd]; omega), nI_toInt ha, nI_toInt hd, nI_toInt (Nat.lt_of_le_of_lt (Nat.div_le_self a d) ha)]
  first | rfl | exact (Int.natCast_ediv _ _).symm
theorem pk_sub_toInt {a b : Nat} (ha : a < 2 ^ 30) (hb : b < 2 ^ 30) : (nI a - nI b).toInt = (a : Int) - b := by
  rw [Int32.toInt_sub, nI_toInt (by omega), nI_toInt (by omega)]
  exact Int.bmod_eq_of_le (by omega) (by omega)
theorem pk_ix (x : Int32) {n : Nat} (hn : n < 2 ^ 31) : x < 0 ∨ nI n ≤ x ∨ ∃ j : Nat, j < n ∧ x = nI j := by
  by_cases h : x < 0
  · exact Or.inl h
  · obtain ⟨j, hj, rfl⟩ := nI_of h
    by_cases h2 : j < n
    · exact Or.inr (Or.inr ⟨j, h2, rfl⟩)
    · exact Or.inr (Or.inl (nI_le (by omega) hj))
theorem pk_le {x y : Int32} {A B : Prop} (a b : Nat) (f : a ≤ b → A) (g : b < a → B) (hx : x = nI a := by rfl) (hy : y = nI b := by rfl) (ha : a < 2 ^ 31 := by omega) (hb : b < 2 ^ 31 := by omega) : (x ≤ y → A) ∧ (¬ x ≤ y → B) := by
  subst hx hy
  rw [nI_leI ha hb]
  exact ⟨f, fun z => g (by omega)⟩
theorem pk_lt {x y : Int32} {A B : Prop} (a b : Nat) (f : a < b → A) (g : b ≤ a → B) (hx : x = nI a := by rfl) (hy : y = nI b := by rfl) (ha : a < 2 ^ 31 := by omega) (hb : b < 2 ^ 31 := by omega) : (x < y → A) ∧ (¬ x < y → B) := by
  subst hx hy
  rw [nI_ltI ha hb]
  exact ⟨f, fun z => g (by omega)⟩
theorem pk_eq {x y : Int32} {A B : Prop} (a b : Nat) (f : a = b → A) (g : a ≠ b → B) (hx : x = nI a := by rfl) (hy : y = nI b := by rfl) (ha : a < 2 ^ 31 := by omega) (hb : b < 2 ^ 31 := by omega) : (x = y → A) ∧ (¬ x = y → B) := by
  subst hx hy
  rw [nI_eq ha hb]
  exact ⟨f, g⟩
theorem pk_in {x : Int32} (n N : Nat) (h : n < N) (hx : x = nI n := by rfl) (hN : N < 2 ^ 31 := by omega) : vp_in x N := by
  subst hx
  exact vp_in_nI h hN
theorem pk_cl {x : Int32} (n : Nat) (hx : x = nI n := by rfl) (h : n < 2 ^ 31 := by omega) : x.toNatClampNeg = n := by
  subst hx
  exact nI_clamp h

/-! own base rows -/
theorem zz_p (c b : Nat) : nI c * 4 + nI b = nI (c * 4 + b) := by
  rw [show (4 : Int32) = nI 4 from rfl, pk_mul, nI_add]
theorem zz_cl {i : Int32} {n : Nat} (e : i = nI n) (h : n < 2 ^ 31) : i.toNatClampNeg = n := by
  subst e; exact nI_clamp h
theorem zz_st {i : Int32} {f : Nat → Int32} {x : Int32} {Q : (Nat → Int32) → Prop} (n : Nat) {N : Nat} (e : i = nI n) (h : n < N) (hN : N < 2 ^ 31) (k : Q (upd f n x)) : vp_in i N ∧ ∀ a, a = upd f i.toNatClampNeg x → Q a := by
  subst e
  exact ⟨vp_in_nI h hN, fun a ea => by rw [ea, nI_clamp (by omega)]; exact k⟩
theorem zz_rd {i : Int32} {f : Nat → Int32} {Q : Int32 → Prop} (n : Nat) {N : Nat} (e : i = nI n) (h : n < N) (hN : N < 2 ^ 31) (k : Q (f n)) : vp_in i N ∧ ∀ a, a = f i.toNatClampNeg → Q a := by
  subst e
  exact ⟨vp_in_nI h hN, fun a ea => by rw [ea, nI_clamp (by omega)]; exact k⟩
theorem zz_vi {i : Int32} (n : Nat) {N : Nat} (e : i = nI n) (h : n < N) (hN : N < 2 ^ 31) : vp_in i N := by
  subst e; exact vp_in_nI h hN
theorem zz_if {c : Prop} [Decidable c] {α : Type} {x y : α} {Q : α → Prop} (h : Q (if c then x else y)) : (c → Q x) ∧ (¬ c → Q y) :=
  ⟨fun hc => by rw [if_pos hc] at h; exact h, fun hc => by rw [if_neg hc] at h; exact h⟩
theorem zz_01 : ¬ (1 : Int32) = 0 := by decide
theorem zz_lt {x y : Int32} : x < y ↔ x.toInt < y.toInt := Int32.lt_iff_toInt_lt
theorem zz_le {x y : Int32} : x ≤ y ↔ x.toInt ≤ y.toInt := Int32.le_iff_toInt_le
theorem zz_t0 : (0 : Int32).toInt = 0 := by decide
theorem zz_t1 : (1 : Int32).toInt = 1 := by decide
theorem zz_t2 : (2 : Int32).toInt = 2 := by decide
theorem zz_subT {a b : Int32} (ha : 0 ≤ a.toInt) (hb : 0 ≤ b.toInt) : (a - b).toInt = a.toInt - b.toInt := by
  have h1 := a.toInt_lt
  have h2 := b.toInt_lt
  rw [Int32.toInt_sub]
  exact Int.bmod_eq_of_le (by omega) (by omega)
theorem zz_addT {a b : Int32} (h : -1000000000 ≤ a.toInt ∧ a.toInt ≤ 1000000000) (h' : -1000000000 ≤ b.toInt ∧ b.toInt ≤ 1000000000) : (a + b).toInt = a.toInt + b.toInt := by
  rw [Int32.toInt_add]
  exact Int.bmod_eq_of_le (by omega) (by omega)
theorem zz_pos {a : Int32} (h : 1 ≤ a.toInt) : ¬ a = 0 := by
  intro e; rw [e, zz_t0] at h; omega
/-- seven, five arrays as one function of the field's number -/
def zz_m7 (a0 a1 a2 a3 a4 a5 a6 : Nat → Int32) : Nat → Nat → Int32
  | 0 => a0
  | 1 => a1
  | 2 => a2
  | 3 => a3
  | 4 => a4
  | 5 => a5
  | _ => a6
def zz_m5 (a0 a1 a2 a3 a4 : Nat → Int32) : Nat → Nat → Int32
  | 0 => a0
  | 1 => a1
  | 2 => a2
  | 3 => a3
  | _ => a4
/-! the grant list's pure functions -/
def zz_nw (h g : Nat → Int32) (c b : Int32) : Nat → Int32
  | 0 => 0
  | n + 1 => if g (n * 6 + 3) = c ∧ g (n * 6 + 4) = b then h n else zz_nw h g c b n
def zz_hN (g : Nat → Int32) (n : Nat) : Int32 := g (n * 6)
def zz_hM (g : Nat → Int32) (n : Nat) : Int32 := g (n * 6 + 1)
def zz_hE (g : Nat → Int32) (n : Nat) : Int32 := if g (n * 6 + 5) = 1 then 0 else g (n * 6 + 2)
def zz_mx (g : Nat → Int32) (c b l : Int32) : Nat → Int32
  | 0 => 0
  | n + 1 => if (g (n * 6 + 3) = c ∧ g (n * 6 + 4) = b ∧ ¬ g (n * 6 + 1) < l) ∧ ¬ g (n * 6 + 5) = 1 then (if g (n * 6 + 2) ≤ zz_mx g c b l n then zz_mx g c b l n else g (n * 6 + 2)) else zz_mx g c b l n
def zz_ni (g : Nat → Int32) (c b : Int32) : Nat → Int32
  | 0 => -1
  | n + 1 => if g (n * 6 + 3) = c ∧ g (n * 6 + 4) = b then nI n else zz_ni g c b n
/-- the number of requests among the first n messages -/
def zz_rq (k : Nat → Int32) : Nat → Nat
  | 0 => 0
  | n + 1 => zz_rq k n + (if k n = 1 then 1 else 0)
/-! the relation -/
def zz_cell (a b : Nat → Int32) : Prop := a 0 = b 0 ∧ (¬ a 0 = 0 → a 1 = b 1 ∧ a 2 = b 2 ∧ a 3 = b 3) ∧ a 4 = b 4 ∧ (¬ a 4 = 0 → a 5 = b 5 ∧ a 6 = b 6 ∧ 0 ≤ (a 6).toInt ∧ (a 6).toInt ≤ 1000000)
def zz_mok (nc nb : Nat) (k c b n md la : Int32) : Prop := (∃ j, j < nc ∧ c = nI j) ∧ (∃ j, j < nb ∧ b = nI j) ∧ (k = 1 → 1 ≤ n.toInt ∧ (md = 1 ∨ md = 2) ∧ ∃ t, t ≤ 20 ∧ la = nI t) ∧ (k = 2 → 1 ≤ n.toInt)
def zz_pok (nc : Nat) (c n md t mk : Int32) : Prop := (∃ j, j < nc ∧ c = nI j) ∧ 1 ≤ n.toInt ∧ (md = 1 ∨ md = 2) ∧ (∃ s, s ≤ 20 ∧ t = nI s) ∧ (mk = 0 ∨ mk = 1)
def zz_R0 (nc nb dr lo tm ln lg : Nat) : Prop := 2 ≤ nc ∧ nc ≤ 4 ∧ 1 ≤ nb ∧ nb ≤ 4 ∧ dr ≤ 3 ∧ 1 ≤ lo ∧ lo ≤ 20 ∧ tm ≤ 60000 ∧ ln ≤ 250 ∧ lg ≤ 20
def zz_RC (tm : Nat) (ck rt : Nat → Int32) : Prop := ∀ i, i < 5 → 0 ≤ (ck i).toInt ∧ (ck i).toInt ≤ 13 * tm ∧ 7 ≤ (rt i).toInt ∧ (rt i).toInt ≤ 13
def zz_RL (lk ct : Nat → Int32) : Prop := ∀ c, c < 4 → (lk c = 0 ↔ ¬ ct c = 0)
def zz_RH (nb : Nat) (le : Nat → Nat → Int32) (ha : Nat → Int32) : Prop := ∀ p, p < 16 → p % 4 < nb → zz_cell (fun f => le f p) (fun f => ha (p * 7 + f))
def zz_RM (nc nb mc : Nat) (ms : Nat → Nat → Int32) (mm : Nat → Int32) : Prop := mc ≤ 32 ∧ ∀ i, i < mc → (ms 0 i = mm (i * 7) ∧ ms 1 i = mm (i * 7 + 1) ∧ ms 2 i = mm (i * 7 + 2) ∧ ms 3 i = mm (i * 7 + 3) ∧ ms 4 i = mm (i * 7 + 4) ∧ ms 5 i = mm (i * 7 + 5) ∧ ms 6 i = mm (i * 7 + 6)) ∧ zz_mok nc nb (ms 0 i) (ms 1 i) (ms 2 i) (ms 3 i) (ms 5 i) (ms 6 i)
def zz_RP1 (nc : Nat) (pe : Nat → Nat → Int32) (pp : Nat → Int32) (b k : Nat) : Prop := (pe 0 (b * 4 + k) = pp (b * 20 + k * 5) ∧ pe 1 (b * 4 + k) = pp (b * 20 + k * 5 + 1) ∧ pe 2 (b * 4 + k) = pp (b * 20 + k * 5 + 2) ∧ pe 3 (b * 4 + k) = pp (b * 20 + k * 5 + 3) ∧ pe 4 (b * 4 + k) = pp (b * 20 + k * 5 + 4)) ∧ zz_pok nc (pe 0 (b * 4 + k)) (pe 1 (b * 4 + k)) (pe 2 (b * 4 + k)) (pe 3 (b * 4 + k)) (pe 4 (b * 4 + k))
def zz_RP (nc nb : Nat) (pn : Nat → Nat) (pc : Nat → Int32) (pe : Nat → Nat → Int32) (pp : Nat → Int32) : Prop := ∀ b, b < 4 → pc b = nI (pn b) ∧ pn b ≤ 4 ∧ (nb ≤ b → pn b = 0) ∧ ∀ k, k < pn b → zz_RP1 nc pe pp b k
def zz_RG1 (gc : Nat) (gg : Nat → Int32) : Prop := gc ≤ 250 ∧ ∀ g, g < gc → 1 ≤ (gg (g * 6)).toInt ∧ 0 ≤ (gg (g * 6 + 2)).toInt ∧ (gg (g * 6 + 2)).toInt ≤ 1000000
def zz_RG2 (gc : Nat) (ne : Nat → Nat → Int32) (gg : Nat → Int32) (c b : Nat) : Prop := ne 0 (c * 4 + b) = zz_nw (zz_hN gg) gg (nI c) (nI b) gc ∧ ne 1 (c * 4 + b) = zz_nw (zz_hM gg) gg (nI c) (nI b) gc ∧ ne 2 (c * 4 + b) = zz_nw (zz_hE gg) gg (nI c) (nI b) gc ∧ ne 3 (c * 4 + b) = zz_mx gg (nI c) (nI b) 2 gc ∧ ne 4 (c * 4 + b) = zz_mx gg (nI c) (nI b) 1 gc
def zz_RG (nc nb gc : Nat) (ne : Nat → Nat → Int32) (gg : Nat → Int32) : Prop := zz_RG1 gc gg ∧ ∀ c b, c < nc → b < nb → zz_RG2 gc ne gg c b
def zz_RN (ln mc gc : Nat) (pn : Nat → Nat) (ms : Nat → Nat → Int32) : Prop := gc + (pn 0 + pn 1 + pn 2 + pn 3) + zz_rq (ms 0) mc ≤ ln
def zz_R (nc nb dr lo tm ln lg mc gc : Nat) (pn : Nat → Nat) (ck rt lk : Nat → Int32) (le ne pe ms : Nat → Nat → Int32) (pc ct ha mm gg pp : Nat → Int32) : Prop := zz_R0 nc nb dr lo tm ln lg ∧ zz_RC tm ck rt ∧ zz_RL lk ct ∧ zz_RH nb le ha ∧ zz_RM nc nb mc ms mm ∧ zz_RP nc nb pn pc pe pp ∧ zz_RG nc nb gc ne gg ∧ zz_RN ln mc gc pn ms
def i_Rel (k : Nat) (u : SX) (v : SY) : Prop := ∃ (nc nb dr lo tm ln lg mc gc : Nat) (pn : Nat → Nat) (dn re : Int32) (ck rt lk : Nat → Int32) (le ne pe ms : Nat → Nat → Int32) (pc bv bw ct ha mm gg pp : Nat → Int32), u = ((nI nc), (nI nb), (nI dr), (nI lo), (nI tm), (nI ln), dn, re, (nI lg), (nI mc), ck, rt, lk, (le 0), (le 1), (le 2), (le 3), (le 4), (le 5), (le 6), (ne 0), (ne 1), (ne 2), (ne 3), (ne 4), pc, (pe 0), (pe 1), (pe 2), (pe 3), (pe 4), bv, bw, (ms 0), (ms 1), (ms 2), (ms 3), (ms 4), (ms 5), (ms 6)) ∧ v = ((nI nc), (nI nb), (nI dr), (nI lo), (nI tm), (nI ln), (nI lg), re, (nI mc), (nI gc), dn, ck, rt, ct, bv, bw, ha, mm, gg, pp, pc) ∧ zz_R nc nb dr lo tm ln lg mc gc pn ck rt lk le ne pe ms pc ct ha mm gg pp
theorem i_up {k : Nat} {u : SX} {v : SY} (h : i_Rel k u v) : i_Rel (k + 5) u v := h
theorem zz_rel {k : Nat} {nc nb dr lo tm ln lg mc gc : Nat} {pn : Nat → Nat} {dn re : Int32} {ck rt lk : Nat → Int32} {le ne pe ms : Nat → Nat → Int32} {pc bv bw ct ha mm gg pp : Nat → Int32} (h : zz_R nc nb dr lo tm ln lg mc gc pn ck rt lk le ne pe ms pc ct ha mm gg pp) : i_Rel k ((nI nc), (nI nb), (nI dr), (nI lo), (nI tm), (nI ln), dn, re, (nI lg), (nI mc), ck, rt, lk, (le 0), (le 1), (le 2), (le 3), (le 4), (le 5), (le 6), (ne 0), (ne 1), (ne 2), (ne 3), (ne 4), pc, (pe 0), (pe 1), (pe 2), (pe 3), (pe 4), bv, bw, (ms 0), (ms 1), (ms 2), (ms 3), (ms 4), (ms 5), (ms 6)) ((nI nc), (nI nb), (nI dr), (nI lo), (nI tm), (nI ln), (nI lg), re, (nI mc), (nI gc), dn, ck, rt, ct, bv, bw, ha, mm, gg, pp, pc) :=
  ⟨nc, nb, dr, lo, tm, ln, lg, mc, gc, pn, dn, re, ck, rt, lk, le, ne, pe, ms, pc, bv, bw, ct, ha, mm, gg, pp, rfl, rfl, h⟩
theorem zz_el0 {Q : SX → SY → Prop} {u u' : SX} {v v' : SY} (e : u = u') (e' : v = v') (h : Q u' v') : Q u v := by
  subst e; subst e'; exact h
theorem zz_el {k : Nat} {Q : SX → SY → Prop} (h : ∀ (nc nb dr lo tm ln lg mc gc : Nat) (pn : Nat → Nat) (dn re : Int32) (ck rt lk : Nat → Int32) (le ne pe ms : Nat → Nat → Int32) (pc bv bw ct ha mm gg pp : Nat → Int32), zz_R nc nb dr lo tm ln lg mc gc pn ck rt lk le ne pe ms pc ct ha mm gg pp → Q ((nI nc), (nI nb), (nI dr), (nI lo), (nI tm), (nI ln), dn, re, (nI lg), (nI mc), ck, rt, lk, (le 0), (le 1), (le 2), (le 3), (le 4), (le 5), (le 6), (ne 0), (ne 1), (ne 2), (ne 3), (ne 4), pc, (pe 0), (pe 1), (pe 2), (pe 3), (pe 4), bv, bw, (ms 0), (ms 1), (ms 2), (ms 3), (ms 4), (ms 5), (ms 6)) ((nI nc), (nI nb), (nI dr), (nI lo), (nI tm), (nI ln), (nI lg), re, (nI mc), (nI gc), dn, ck, rt, ct, bv, bw, ha, mm, gg, pp, pc)) {u : SX} {v : SY} (I : i_Rel k u v) : Q u v :=
  Exists.elim I fun nc I_nc => Exists.elim I_nc fun nb I_nb => Exists.elim I_nb fun dr I_dr => Exists.elim I_dr fun lo I_lo => Exists.elim I_lo fun tm I_tm => Exists.elim I_tm fun ln I_ln => Exists.elim I_ln fun lg I_lg => Exists.elim I_lg fun mc I_mc => Exists.elim I_mc fun gc I_gc => Exists.elim I_gc fun pn I_pn => Exists.elim I_pn fun dn I_dn => Exists.elim I_dn fun re I_re => Exists.elim I_re fun ck I_ck => Exists.elim I_ck fun rt I_rt => Exists.elim I_rt fun lk I_lk => Exists.elim I_lk fun le I_le => Exists.elim I_le fun ne I_ne => Exists.elim I_ne fun pe I_pe => Exists.elim I_pe fun ms I_ms => Exists.elim I_ms fun pc I_pc => Exists.elim I_pc fun bv I_bv => Exists.elim I_bv fun bw I_bw => Exists.elim I_bw fun ct I_ct => Exists.elim I_ct fun ha I_ha => Exists.elim I_ha fun mm I_mm => Exists.elim I_mm fun gg I_gg => Exists.elim I_gg fun pp I_pp => zz_el0 I_pp.1 I_pp.2.1 (h nc nb dr lo tm ln lg mc gc pn dn re ck rt lk le ne pe ms pc bv bw ct ha mm gg pp I_pp.2.2)
end
section
/-! pure laws: the grant list, the message count, the stretched term -/
def zz_dl (k e : Int32) : Int32 := if k < e then e - k else 0
def zz_lf (g : Nat → Int32) (k : Int32) (n : Nat) : Int32 := if g (n * 6 + 5) = 1 then 0 else zz_dl k (g (n * 6 + 2))
theorem zz_dlT {k e : Int32} (hk : 0 ≤ k.toInt) (he : 0 ≤ e.toInt) : (k.toInt < e.toInt ∧ (zz_dl k e).toInt = e.toInt - k.toInt) ∨ (e.toInt ≤ k.toInt ∧ (zz_dl k e).toInt = 0) := by
  unfold zz_dl
  by_cases h : k < e
  · rw [if_pos h, zz_subT he hk]; exact Or.inl ⟨zz_lt.mp h, rfl⟩
  · rw [if_neg h, zz_t0]; rw [zz_lt] at h; exact Or.inr ⟨by omega, rfl⟩
theorem zz_dl_max {k e m : Int32} (hk : 0 ≤ k.toInt) (he : 0 ≤ e.toInt) (hm : 0 ≤ m.toInt) : zz_dl k (if e ≤ m then m else e) = if zz_dl k e ≤ zz_dl k m then zz_dl k m else zz_dl k e := by
  have a := zz_dlT hk he
  have b := zz_dlT hk hm
  by_cases h : e ≤ m
  · rw [if_pos h, if_pos]
    rw [zz_le] at h ⊢
    rcases a with a | a <;> rcases b with b | b <;> omega
  · rw [if_neg h]
    by_cases h2 : zz_dl k e ≤ zz_dl k m
    · rw [if_pos h2]
      apply Int32.toInt_inj.mp
      rw [zz_le] at h h2
      rcases a with a | a <;> rcases b with b | b <;> omega
    · rw [if_neg h2]
theorem zz_dl0 {k e : Int32} (hk : 0 ≤ k.toInt) (he : 0 ≤ e.toInt) : zz_dl k e = 0 ↔ e ≤ k := by
  have a := zz_dlT hk he
  constructor
  · intro h
    rw [h, zz_t0] at a
    rw [zz_le]
    rcases a with a | a <;> omega
  · intro h
    unfold zz_dl
    rw [if_neg]
    rw [zz_le] at h
    rw [zz_lt]
    omega
theorem zz_dl_nn {k e : Int32} (hk : 0 ≤ k.toInt) (he : 0 ≤ e.toInt) : (0 : Int32) ≤ zz_dl k e := by
  have a := zz_dlT hk he
  rw [zz_le, zz_t0]
  rcases a with a | a <;> omega
theorem zz_mx_b {g : Nat → Int32} {c b l : Int32} : ∀ n, (∀ i, i < n → 0 ≤ (g (i * 6 + 2)).toInt) → 0 ≤ (zz_mx g c b l n).toInt := by
  intro n
  induction n with
  | zero => intro _; show 0 ≤ (0 : Int32).toInt; rw [zz_t0]; omega
  | succ n ih =>
    intro H
    have h1 := ih (fun i hi => H i (by omega))
    have h2 := H n (by omega)
    rw [zz_mx]
    by_cases q : (g (n * 6 + 3) = c ∧ g (n * 6 + 4) = b ∧ ¬ g (n * 6 + 1) < l) ∧ ¬ g (n * 6 + 5) = 1
    · rw [if_pos q]
      by_cases w : g (n * 6 + 2) ≤ zz_mx g c b l n
      · rw [if_pos w]; exact h1
      · rw [if_neg w]; exact h2
    · rw [if_neg q]; exact h1
theorem zz_ni_spec (g : Nat → Int32) (c b : Int32) : ∀ n, (zz_ni g c b n = -1 ∧ (∀ h, zz_nw h g c b n = 0) ∧ ∀ l, zz_mx g c b l n = 0) ∨ ∃ m, m < n ∧ zz_ni g c b n = nI m ∧ ∀ h, zz_nw h g c b n = h m := by
  intro n
  induction n with
  | zero => exact Or.inl ⟨rfl, fun _ => rfl, fun _ => rfl⟩
  | succ n ih =>
    by_cases hm : g (n * 6 + 3) = c ∧ g (n * 6 + 4) = b
    · exact Or.inr ⟨n, by omega, if_pos hm, fun h => if_pos hm⟩
    · rcases ih with ⟨a, b', d⟩ | ⟨m, h1, h2, h3⟩
      · exact Or.inl ⟨(if_neg hm).trans a, fun h => (if_neg hm).trans (b' h), fun l => (if_neg (fun z => hm ⟨z.1.1, z.1.2.1⟩)).trans (d l)⟩
      · exact Or.inr ⟨m, by omega, (if_neg hm).trans h2, fun h => (if_neg hm).trans (h3 h)⟩
theorem zz_nw_cg {h h' g g' : Nat → Int32} {c b : Int32} : ∀ n, (∀ i, i < n → g (i * 6 + 3) = g' (i * 6 + 3) ∧ g (i * 6 + 4) = g' (i * 6 + 4) ∧ (g (i * 6 + 3) = c ∧ g (i * 6 + 4) = b → h i = h' i)) → zz_nw h g c b n = zz_nw h' g' c b n := by
  intro n
  induction n with
  | zero => intro _; rfl
  | succ n ih =>
    intro H
    have e := H n (by omega)
    have r := ih (fun i hi => H i (by omega))
    by_cases hm : g (n * 6 + 3) = c ∧ g (n * 6 + 4) = b
    · have hm' : g' (n * 6 + 3) = c ∧ g' (n * 6 + 4) = b := by rw [← e.1, ← e.2.1]; exact hm
      exact (if_pos hm).trans ((e.2.2 hm).trans (if_pos hm').symm)
    · have hm' : ¬ (g' (n * 6 + 3) = c ∧ g' (n * 6 + 4) = b) := by rw [← e.1, ← e.2.1]; exact hm
      exact (if_neg hm).trans (r.trans (if_neg hm').symm)
theorem zz_mx_cg {g g' : Nat → Int32} {c b l : Int32} : ∀ n, (∀ i, i < n → g (i * 6 + 3) = g' (i * 6 + 3) ∧ g (i * 6 + 4) = g' (i * 6 + 4) ∧ (g (i * 6 + 3) = c ∧ g (i * 6 + 4) = b → g (i * 6 + 1) = g' (i * 6 + 1) ∧ g (i * 6 + 2) = g' (i * 6 + 2) ∧ g (i * 6 + 5) = g' (i * 6 + 5))) → zz_mx g c b l n = zz_mx g' c b l n := by
  intro n
  induction n with
  | zero => intro _; rfl
  | succ n ih =>
    intro H
    have e := H n (by omega)
    have r := ih (fun i hi => H i (by omega))
    by_cases hm : g (n * 6 + 3) = c ∧ g (n * 6 + 4) = b
    · have e2 := e.2.2 hm
      rw [zz_mx, zz_mx, ← e.1, ← e.2.1, ← e2.1, ← e2.2.1, ← e2.2.2, r]
    · have hm' : ¬ (g' (n * 6 + 3) = c ∧ g' (n * 6 + 4) = b) := by rw [← e.1, ← e.2.1]; exact hm
      exact (if_neg (fun z => hm ⟨z.1.1, z.1.2.1⟩)).trans (r.trans (if_neg (fun z => hm' ⟨z.1.1, z.1.2.1⟩)).symm)
theorem zz_nw_0 {h g : Nat → Int32} {c b : Int32} : ∀ n, (∀ i, i < n → g (i * 6 + 3) = c ∧ g (i * 6 + 4) = b → h i = 0) → zz_nw h g c b n = 0 := by
  intro n
  induction n with
  | zero => intro _; rfl
  | succ n ih =>
    intro H
    by_cases hm : g (n * 6 + 3) = c ∧ g (n * 6 + 4) = b
    · exact (if_pos hm).trans (H n (by omega) hm)
    · exact (if_neg hm).trans (ih (fun i hi => H i (by omega)))
theorem zz_mx_0 {g : Nat → Int32} {c b l : Int32} : ∀ n, (∀ i, i < n → g (i * 6 + 3) = c ∧ g (i * 6 + 4) = b → g (i * 6 + 5) = 1) → zz_mx g c b l n = 0 := by
  intro n
  induction n with
  | zero => intro _; rfl
  | succ n ih =>
    intro H
    exact (if_neg (fun z => z.2 (H n (by omega) ⟨z.1.1, z.1.2.1⟩))).trans (ih (fun i hi => H i (by omega)))
/-- a grant put at place k -/
def zz_ga (g : Nat → Int32) (k : Nat) (x0 x1 x2 x3 x4 x5 : Int32) : Nat → Int32 := upd (upd (upd (upd (upd (upd g (k * 6) x0) (k * 6 + 1) x1) (k * 6 + 2) x2) (k * 6 + 3) x3) (k * 6 + 4) x4) (k * 6 + 5) x5
theorem zz_ga_lo {g : Nat → Int32} {k j : Nat} {x0 x1 x2 x3 x4 x5 : Int32} (h : j < k * 6) : zz_ga g k x0 x1 x2 x3 x4 x5 j = g j := by
  unfold zz_ga
  rw [pk_un (by omega), pk_un (by omega), pk_un (by omega), pk_un (by omega), pk_un (by omega), pk_un (by omega)]
theorem zz_ga_at {g : Nat → Int32} {k : Nat} {x0 x1 x2 x3 x4 x5 : Int32} : zz_ga g k x0 x1 x2 x3 x4 x5 (k * 6) = x0 ∧ zz_ga g k x0 x1 x2 x3 x4 x5 (k * 6 + 1) = x1 ∧ zz_ga g k x0 x1 x2 x3 x4 x5 (k * 6 + 2) = x2 ∧ zz_ga g k x0 x1 x2 x3 x4 x5 (k * 6 + 3) = x3 ∧ zz_ga g k x0 x1 x2 x3 x4 x5 (k * 6 + 4) = x4 ∧ zz_ga g k x0 x1 x2 x3 x4 x5 (k * 6 + 5) = x5 := by
  unfold zz_ga
  refine ⟨?_, ?_, ?_, ?_, ?_, ?_⟩
  · rw [pk_un (by omega), pk_un (by omega), pk_un (by omega), pk_un (by omega), pk_un (by omega), pk_us]
  · rw [pk_un (by omega), pk_un (by omega), pk_un (by omega), pk_un (by omega), pk_us]
  · rw [pk_un (by omega), pk_un (by omega), pk_un (by omega), pk_us]
  · rw [pk_un (by omega), pk_un (by omega), pk_us]
  · rw [pk_un (by omega), pk_us]
  · rw [pk_us]
theorem zz_RG_add {nc nb gc c b : Nat} {ne ne' : Nat → Nat → Int32} {gg : Nat → Int32} {n md e : Int32} (hG : zz_RG nc nb gc ne gg) (hgc : gc < 250) (hc : c < nc) (hb : b < nb) (hnc : nc ≤ 4) (hnb : nb ≤ 4) (hn : 1 ≤ n.toInt) (hmd : md = 1 ∨ md = 2) (he : 0 ≤ e.toInt) (he' : e.toInt ≤ 1000000)
    (a0 : ne' 0 = upd (ne 0) (c * 4 + b) n) (a1 : ne' 1 = upd (ne 1) (c * 4 + b) md) (a2 : ne' 2 = upd (ne 2) (c * 4 + b) e)
    (a3 : ne' 3 (c * 4 + b) = if md = 2 then (if e ≤ ne 3 (c * 4 + b) then ne 3 (c * 4 + b) else e) else ne 3 (c * 4 + b)) (a3' : ∀ q, q ≠ c * 4 + b → ne' 3 q = ne 3 q)
    (a4 : ne' 4 (c * 4 + b) = if e ≤ ne 4 (c * 4 + b) then ne 4 (c * 4 + b) else e) (a4' : ∀ q, q ≠ c * 4 + b → ne' 4 q = ne 4 q) :
    zz_RG nc nb (gc + 1) ne' (zz_ga gg gc n md e (nI c) (nI b) 0) := by
  obtain ⟨⟨hg1, hg2⟩, hg3⟩ := hG
  obtain ⟨z0, z1, z2, z3, z4, z5⟩ := zz_ga_at (g := gg) (k := gc) (x0 := n) (x1 := md) (x2 := e) (x3 := nI c) (x4 := nI b) (x5 := 0)
  have lo : ∀ i, i < gc → ∀ j, j < 6 → zz_ga gg gc n md e (nI c) (nI b) 0 (i * 6 + j) = gg (i * 6 + j) := fun i hi j hj => zz_ga_lo (by omega)
  have lo0 : ∀ i, i < gc → zz_ga gg gc n md e (nI c) (nI b) 0 (i * 6) = gg (i * 6) := fun i hi => zz_ga_lo (by omega)
  refine ⟨⟨by omega, ?_⟩, ?_⟩
  · intro g hg
    by_cases q : g = gc
    · subst q; rw [z0, z2]; exact ⟨hn, he, he'⟩
    · rw [lo0 g (by omega), lo g (by omega) 2 (by omega)]; exact hg2 g (by omega)
  · intro x y hx hy
    obtain ⟨r0, r1, r2, r3, r4⟩ := hg3 x y hx hy
    have cgh : ∀ h h' : Nat → Int32, (∀ i, i < gc → h' i = h i) → zz_nw h' (zz_ga gg gc n md e (nI c) (nI b) 0) (nI x) (nI y) gc = zz_nw h gg (nI x) (nI y) gc := fun h h' hh => zz_nw_cg gc (fun i hi => ⟨lo i hi 3 (by omega), lo i hi 4 (by omega), fun _ => hh i hi⟩)
    have cgm : ∀ l, zz_mx (zz_ga gg gc n md e (nI c) (nI b) 0) (nI x) (nI y) l gc = zz_mx gg (nI x) (nI y) l gc := fun l => zz_mx_cg gc (fun i hi => ⟨lo i hi 3 (by omega), lo i hi 4 (by omega), fun _ => ⟨lo i hi 1 (by omega), lo i hi 2 (by omega), lo i hi 5 (by omega)⟩⟩)
    have hN : ∀ i, i < gc → zz_hN (zz_ga gg gc n md e (nI c) (nI b) 0) i = zz_hN gg i := fun i hi => lo0 i hi
    have hM : ∀ i, i < gc → zz_hM (zz_ga gg gc n md e (nI c) (nI b) 0) i = zz_hM gg i := fun i hi => lo i hi 1 (by omega)
    have hE : ∀ i, i < gc → zz_hE (zz_ga gg gc n md e (nI c) (nI b) 0) i = zz_hE gg i := fun i hi => by
      unfold zz_hE; rw [lo i hi 5 (by omega), lo i hi 2 (by omega)]
    by_cases q : x = c ∧ y = b
    · obtain ⟨rfl, rfl⟩ := q
      have hm : zz_ga gg gc n md e (nI x) (nI y) 0 (gc * 6 + 3) = nI x ∧ zz_ga gg gc n md e (nI x) (nI y) 0 (gc * 6 + 4) = nI y := ⟨z3, z4⟩
      refine ⟨?_, ?_, ?_, ?_, ?_⟩
      · rw [a0, pk_us]; exact ((if_pos hm).trans z0).symm
      · rw [a1, pk_us]; exact ((if_pos hm).trans z1).symm
      · rw [a2, pk_us]
        refine ((if_pos hm).trans ?_).symm
        unfold zz_hE
        rw [z5, z2, if_neg (by decide)]
      · rw [a3, zz_mx, cgm, z1, z2, z5, r3]
        rcases hmd with rfl | rfl
        · rw [if_neg (by decide), if_neg]
          intro z; exact z.1.2.2 (by decide)
        · exact (if_pos rfl).trans (if_pos ⟨⟨z3, z4, by decide⟩, by decide⟩).symm
      · rw [a4, zz_mx, cgm, z1, z2, z5, r4]
        refine (if_pos ⟨⟨z3, z4, ?_⟩, by decide⟩).symm
        rcases hmd with rfl | rfl <;> decide
    · have hp : x * 4 + y ≠ c * 4 + b := by omega
      have hm : ¬ (zz_ga gg gc n md e (nI c) (nI b) 0 (gc * 6 + 3) = nI x ∧ zz_ga gg gc n md e (nI c) (nI b) 0 (gc * 6 + 4) = nI y) := by
        rw [z3, z4, nI_eq (by omega) (by omega), nI_eq (by omega) (by omega)]
        omega
      refine ⟨?_, ?_, ?_, ?_, ?_⟩
      · rw [a0, pk_un hp, r0]; exact ((if_neg hm).trans (cgh _ _ hN)).symm
      · rw [a1, pk_un hp, r1]; exact ((if_neg hm).trans (cgh _ _ hM)).symm
      · rw [a2, pk_un hp, r2]; exact ((if_neg hm).trans (cgh _ _ hE)).symm
      · rw [a3' _ hp, r3]; exact ((if_neg (fun z => hm ⟨z.1.1, z.1.2.1⟩)).trans (cgm _)).symm
      · rw [a4' _ hp, r4]; exact ((if_neg (fun z => hm ⟨z.1.1, z.1.2.1⟩)).trans (cgm _)).symm
theorem zz_RG_end {nc nb gc c b : Nat} {ne ne' : Nat → Nat → Int32} {gg g' : Nat → Int32} (hG : zz_RG nc nb gc ne gg) (hc : c < nc) (hb : b < nb) (hnc : nc ≤ 4) (hnb : nb ≤ 4)
    (a0 : ne' 0 = ne 0) (a1 : ne' 1 = ne 1) (a2 : ne' 2 = upd (ne 2) (c * 4 + b) 0) (a3 : ne' 3 = upd (ne 3) (c * 4 + b) 0) (a4 : ne' 4 = upd (ne 4) (c * 4 + b) 0)
    (k0 : ∀ i, i < gc → g' (i * 6) = gg (i * 6)) (k : ∀ i, i < gc → ∀ j, j < 5 → g' (i * 6 + j) = gg (i * 6 + j))
    (k5 : ∀ i, i < gc → (gg (i * 6 + 3) = nI c ∧ gg (i * 6 + 4) = nI b → g' (i * 6 + 5) = 1) ∧ (¬ (gg (i * 6 + 3) = nI c ∧ gg (i * 6 + 4) = nI b) → g' (i * 6 + 5) = gg (i * 6 + 5))) :
    zz_RG nc nb gc ne' g' := by
  obtain ⟨⟨hg1, hg2⟩, hg3⟩ := hG
  refine ⟨⟨hg1, ?_⟩, ?_⟩
  · intro g hg
    rw [k0 g hg, k g hg 2 (by omega)]; exact hg2 g hg
  · intro x y hx hy
    obtain ⟨r0, r1, r2, r3, r4⟩ := hg3 x y hx hy
    have cN : zz_nw (zz_hN g') g' (nI x) (nI y) gc = zz_nw (zz_hN gg) gg (nI x) (nI y) gc := zz_nw_cg gc (fun i hi => ⟨k i hi 3 (by omega), k i hi 4 (by omega), fun _ => k0 i hi⟩)
    have cM : zz_nw (zz_hM g') g' (nI x) (nI y) gc = zz_nw (zz_hM gg) gg (nI x) (nI y) gc := zz_nw_cg gc (fun i hi => ⟨k i hi 3 (by omega), k i hi 4 (by omega), fun _ => k i hi 1 (by omega)⟩)
    by_cases q : x = c ∧ y = b
    · obtain ⟨rfl, rfl⟩ := q
      have e5 : ∀ i, i < gc → g' (i * 6 + 3) = nI x ∧ g' (i * 6 + 4) = nI y → g' (i * 6 + 5) = 1 := fun i hi z => (k5 i hi).1 (by rw [← k i hi 3 (by omega), ← k i hi 4 (by omega)]; exact z)
      refine ⟨by rw [a0, r0, cN], by rw [a1, r1, cM], ?_, ?_, ?_⟩
      · rw [a2, pk_us]
        exact (zz_nw_0 gc (fun i hi z => if_pos (e5 i hi z))).symm
      · rw [a3, pk_us]; exact (zz_mx_0 gc e5).symm
      · rw [a4, pk_us]; exact (zz_mx_0 gc e5).symm
    · have hp : x * 4 + y ≠ c * 4 + b := by omega
      have e5 : ∀ i, i < gc → g' (i * 6 + 3) = nI x ∧ g' (i * 6 + 4) = nI y → g' (i * 6 + 5) = gg (i * 6 + 5) := fun i hi z => (k5 i hi).2 (fun w => by
        have w1 := w.1
        have w2 := w.2
        rw [← k i hi 3 (by omega), z.1, nI_eq (by omega) (by omega)] at w1
        rw [← k i hi 4 (by omega), z.2, nI_eq (by omega) (by omega)] at w2
        omega)
      have cE : zz_nw (zz_hE g') g' (nI x) (nI y) gc = zz_nw (zz_hE gg) gg (nI x) (nI y) gc := zz_nw_cg gc (fun i hi => ⟨k i hi 3 (by omega), k i hi 4 (by omega), fun z => by
        unfold zz_hE; rw [e5 i hi z, k i hi 2 (by omega)]⟩)
      have cX : ∀ l, zz_mx g' (nI x) (nI y) l gc = zz_mx gg (nI x) (nI y) l gc := fun l => zz_mx_cg gc (fun i hi => ⟨k i hi 3 (by omega), k i hi 4 (by omega), fun z => ⟨k i hi 1 (by omega), k i hi 2 (by omega), e5 i hi z⟩⟩)
      exact ⟨by rw [a0, r0, cN], by rw [a1, r1, cM], by rw [a2, pk_un hp, r2, cE], by rw [a3, pk_un hp, r3, cX], by rw [a4, pk_un hp, r4, cX]⟩
theorem zz_rq_cg {k k' : Nat → Int32} : ∀ n, (∀ i, i < n → k' i = k i) → zz_rq k' n = zz_rq k n := by
  intro n
  induction n with
  | zero => intro _; rfl
  | succ n ih =>
    intro H
    rw [zz_rq, zz_rq, ih (fun i hi => H i (by omega)), H n (by omega)]
theorem zz_rq_del {k k' : Nat → Int32} {i : Nat} : ∀ n, i ≤ n → (∀ q, q < n → k' q = if i ≤ q then k (q + 1) else k q) → zz_rq k' n + (if k i = 1 then 1 else 0) = zz_rq k (n + 1) := by
  intro n
  induction n with
  | zero =>
    intro hi _
    obtain rfl : i = 0 := by omega
    rw [zz_rq, zz_rq, zz_rq]
  | succ n ih =>
    intro hi H
    by_cases q : i = n + 1
    · subst q
      rw [zz_rq_cg (k := k) (k' := k') (n + 1) (fun j hj => by rw [H j hj, if_neg (by omega)])]
      rfl
    · have a := ih (by omega) (fun j hj => H j (by omega))
      have b : k' n = k (n + 1) := by rw [H n (by omega), if_pos (by omega)]
      have c : zz_rq k' (n + 1) = zz_rq k' n + (if k (n + 1) = 1 then 1 else 0) := by rw [← b]; rfl
      have d : zz_rq k (n + 1 + 1) = zz_rq k (n + 1) + (if k (n + 1) = 1 then 1 else 0) := rfl
      omega
def zz_W (t d : Nat) : Nat := (10 * t * (10 + d) + (10 - d) - 1) / (10 - d)
theorem zz_W_le {t d : Nat} (ht : t ≤ 20) (hd : d ≤ 3) : zz_W t d ≤ 372 := by
  unfold zz_W
  obtain rfl | rfl | rfl | rfl : d = 0 ∨ d = 1 ∨ d = 2 ∨ d = 3 := by omega
  all_goals omega
theorem zz_W_lt {t d w : Nat} (hd : d ≤ 3) : w * (10 - d) < 10 * t * (10 + d) ↔ w < zz_W t d := by
  unfold zz_W
  obtain rfl | rfl | rfl | rfl : d = 0 ∨ d = 1 ∨ d = 2 ∨ d = 3 := by omega
  all_goals omega
end
section
/-! the small methods -/
def zz_ok (nc nb : Nat) (x y : Int32) : Prop := ∃ c b, c < nc ∧ b < nb ∧ x = nI c ∧ y = nI b
def zz_hd (m e k : Int32) : Int32 := if m = 0 then 0 else if e ≤ k then 0 else 1
def zz_clm (x a b : Int32) : Int32 := if a ≤ x then (if x ≤ b then x else b) else a
def zz_sv (d r k : Int32) : Int32 := if d = 0 then (if r ≤ k then 2 else 1) else 0
def zz_cE (e3 e4 : Nat → Int32) (md : Int32) (p : Nat) : Int32 := if md = 2 then e4 p else e3 p
def zz_cf (e3 e4 : Nat → Int32) (k md : Int32) (b c x : Nat) : Prop := ¬ x = c ∧ ¬ zz_cE e3 e4 md (x * 4 + b) ≤ k
theorem zz_x7 (p : Nat) : nI p * 7 = nI (p * 7) := pk_mul p 7
theorem zz_x6 (p k : Nat) : nI p * 6 + nI k = nI (p * 6 + k) := by
  rw [show (6 : Int32) = nI 6 from rfl, pk_mul, nI_add]
theorem zz_tU (t d : Nat) : 10 * nI t * (10 + nI d) = nI (10 * t * (10 + d)) := by
  rw [show (10 : Int32) = nI 10 from rfl, pk_mul, nI_add, pk_mul]
theorem zz_tU_le {t d : Nat} (ht : t ≤ 20) (hd : d ≤ 3) : 10 * t * (10 + d) ≤ 2600 := by
  have := Nat.mul_le_mul (show 10 * t ≤ 200 by omega) (show 10 + d ≤ 13 by omega)
  omega
section
variable {f_clients f_blocks f_drift f_longest f_time f_lastNumber f_down f_recoveryEnd f_longestGranted f_msgCount : Int32} {a_clock a_rate a_linkUp a_leaseMode a_leaseNumber a_leaseEnd a_leaseUnacked a_awaitNumber a_awaitMode a_awaitEnd a_newestNumber a_newestMode a_newestEnd a_maxWriteEnd a_maxAnyEnd a_pendCount a_pendClient a_pendNumber a_pendMode a_pendTerm a_pendMark a_blockValue a_blockWrite a_msgKind a_msgClient a_msgBlock a_msgNumber a_msgLease a_msgMode a_msgLast : Nat → Int32} {nc nb c b : Nat} {post : Int32 → Prop}
theorem zz_clampX {x a b : Int32} (h : post (zz_clm x a b)) : wpX_clamp post (f_clients, f_blocks, f_drift, f_longest, f_time, f_lastNumber, f_down, f_recoveryEnd, f_longestGranted, f_msgCount, a_clock, a_rate, a_linkUp, a_leaseMode, a_leaseNumber, a_leaseEnd, a_leaseUnacked, a_awaitNumber, a_awaitMode, a_awaitEnd, a_newestNumber, a_newestMode, a_newestEnd, a_maxWriteEnd, a_maxAnyEnd, a_pendCount, a_pendClient, a_pendNumber, a_pendMode, a_pendTerm, a_pendMark, a_blockValue, a_blockWrite, a_msgKind, a_msgClient, a_msgBlock, a_msgNumber, a_msgLease, a_msgMode, a_msgLast) x a b := by
  unfold zz_clm at h
  by_cases h1 : a ≤ x
  · rw [if_pos h1] at h
    exact br_t h1 (zz_if h)
  · rw [if_neg h1] at h
    exact br_f h1 h
theorem zz_pairX1 (hc : c < nc) (hb : b < nb) (hnc : nc ≤ 4) (hnb : nb ≤ 4) (h : post 1) : wpX_isPair post ((nI nc), (nI nb), f_drift, f_longest, f_time, f_lastNumber, f_down, f_recoveryEnd, f_longestGranted, f_msgCount, a_clock, a_rate, a_linkUp, a_leaseMode, a_leaseNumber, a_leaseEnd, a_leaseUnacked, a_awaitNumber, a_awaitMode, a_awaitEnd, a_newestNumber, a_newestMode, a_newestEnd, a_maxWriteEnd, a_maxAnyEnd, a_pendCount, a_pendClient, a_pendNumber, a_pendMode, a_pendTerm, a_pendMark, a_blockValue, a_blockWrite, a_msgKind, a_msgClient, a_msgBlock, a_msgNumber, a_msgLease, a_msgMode, a_msgLast) (nI c) (nI b) :=
  br_f (nI_pos (by omega)) (br_f (nI_ge hc (by omega)) (br_f (nI_pos (by omega)) (br_f (nI_ge hb (by omega)) h)))
theorem zz_pairX0 {x y : Int32} (h : ¬ zz_ok nc nb x y) (hnc : nc ≤ 4) (hnb : nb ≤ 4) (k : post 0) : wpX_isPair post ((nI nc), (nI nb), f_drift, f_longest, f_time, f_lastNumber, f_down, f_recoveryEnd, f_longestGranted, f_msgCount, a_clock, a_rate, a_linkUp, a_leaseMode, a_leaseNumber, a_leaseEnd, a_leaseUnacked, a_awaitNumber, a_awaitMode, a_awaitEnd, a_newestNumber, a_newestMode, a_newestEnd, a_maxWriteEnd, a_maxAnyEnd, a_pendCount, a_pendClient, a_pendNumber, a_pendMode, a_pendTerm, a_pendMark, a_blockValue, a_blockWrite, a_msgKind, a_msgClient, a_msgBlock, a_msgNumber, a_msgLease, a_msgMode, a_msgLast) x y := by
  refine br_c (fun _ => k) (fun h0 => br_c (fun _ => k) (fun h1 => br_c (fun _ => k) (fun h2 => br_c (fun _ => k) (fun h3 => (h ?_).elim))))
  obtain ⟨c, hc, rfl⟩ := nI_of h0
  obtain ⟨b, hb, rfl⟩ := nI_of h2
  rw [nI_leI (by omega) hc] at h1
  rw [nI_leI (by omega) hb] at h3
  exact ⟨c, b, by omega, by omega, rfl, rfl⟩
theorem zz_holdsX (hc : c < 4) (hb : b < 4) (h : post (zz_hd (a_leaseMode (c * 4 + b)) (a_leaseEnd (c * 4 + b)) (a_clock c))) : wpX_holds post (f_clients, f_blocks, f_drift, f_longest, f_time, f_lastNumber, f_down, f_recoveryEnd, f_longestGranted, f_msgCount, a_clock, a_rate, a_linkUp, a_leaseMode, a_leaseNumber, a_leaseEnd, a_leaseUnacked, a_awaitNumber, a_awaitMode, a_awaitEnd, a_newestNumber, a_newestMode, a_newestEnd, a_maxWriteEnd, a_maxAnyEnd, a_pendCount, a_pendClient, a_pendNumber, a_pendMode, a_pendTerm, a_pendMark, a_blockValue, a_blockWrite, a_msgKind, a_msgClient, a_msgBlock, a_msgNumber, a_msgLease, a_msgMode, a_msgLast) (nI c) (nI b) := by
  refine nm_r (zz_p c b) ?_
  refine ⟨vp_in_nI (by omega) (by decide), ?_⟩
  rw [nI_clamp (n := c * 4 + b) (by omega), nI_clamp (n := c) (by omega)]
  unfold zz_hd at h
  by_cases h0 : a_leaseMode (c * 4 + b) = 0
  · rw [if_pos h0] at h
    exact br_t h0 h
  · rw [if_neg h0] at h
    exact br_f h0 ⟨vp_in_nI (by omega) (by decide), vp_in_nI (by omega) (by decide), zz_if h⟩
theorem zz_stateX (hnc : nc ≤ 4) (h : post (zz_sv f_down f_recoveryEnd (a_clock nc))) : wpX_serverState post ((nI nc), f_blocks, f_drift, f_longest, f_time, f_lastNumber, f_down, f_recoveryEnd, f_longestGranted, f_msgCount, a_clock, a_rate, a_linkUp, a_leaseMode, a_leaseNumber, a_leaseEnd, a_leaseUnacked, a_awaitNumber, a_awaitMode, a_awaitEnd, a_newestNumber, a_newestMode, a_newestEnd, a_maxWriteEnd, a_maxAnyEnd, a_pendCount, a_pendClient, a_pendNumber, a_pendMode, a_pendTerm, a_pendMark, a_blockValue, a_blockWrite, a_msgKind, a_msgClient, a_msgBlock, a_msgNumber, a_msgLease, a_msgMode, a_msgLast) := by
  unfold zz_sv at h
  by_cases hd : f_down = 0
  · rw [if_pos hd] at h
    refine br_t hd ⟨vp_in_nI (by omega) (by decide), ?_⟩
    rw [nI_clamp (n := nc) (by omega)]
    exact zz_if h
  · rw [if_neg hd] at h
    exact br_f hd h
theorem zz_stretchX {t dr : Nat} (ht : t ≤ 20) (hd : dr ≤ 3) (h : post (nI (zz_W t dr))) : wpX_stretched post (f_clients, f_blocks, (nI dr), f_longest, f_time, f_lastNumber, f_down, f_recoveryEnd, f_longestGranted, f_msgCount, a_clock, a_rate, a_linkUp, a_leaseMode, a_leaseNumber, a_leaseEnd, a_leaseUnacked, a_awaitNumber, a_awaitMode, a_awaitEnd, a_newestNumber, a_newestMode, a_newestEnd, a_maxWriteEnd, a_maxAnyEnd, a_pendCount, a_pendClient, a_pendNumber, a_pendMode, a_pendTerm, a_pendMark, a_blockValue, a_blockWrite, a_msgKind, a_msgClient, a_msgBlock, a_msgNumber, a_msgLease, a_msgMode, a_msgLast) (nI t) := by
  refine nm_r (e' := nI (10 - dr)) (pk_sub (a := 10) (by omega)) ?_
  refine nm_r (e' := nI (10 * t * (10 + dr))) (zz_tU t dr) ?_
  refine ⟨nI_ne0 (by omega) (by omega), ?_⟩
  have hb := zz_tU_le ht hd
  have e : (nI (10 * t * (10 + dr)) + nI (10 - dr) - 1) / nI (10 - dr) = nI (zz_W t dr) := by
    rw [nI_add, show (1 : Int32) = nI 1 from rfl, pk_sub (by omega), pk_div (by omega) (by omega) (by omega)]
    rfl
  rw [e]; exact h
theorem zz_confX {x : Nat} {md : Int32} (hx : x < 4) (hb : b < 4) (hc : c < 4) (hnc : nc ≤ 4) (h1 : zz_cf a_maxWriteEnd a_maxAnyEnd (a_clock nc) md b c x → post 1) (h0 : ¬ zz_cf a_maxWriteEnd a_maxAnyEnd (a_clock nc) md b c x → post 0) : wpX_conflicts post ((nI nc), f_blocks, f_drift, f_longest, f_time, f_lastNumber, f_down, f_recoveryEnd, f_longestGranted, f_msgCount, a_clock, a_rate, a_linkUp, a_leaseMode, a_leaseNumber, a_leaseEnd, a_leaseUnacked, a_awaitNumber, a_awaitMode, a_awaitEnd, a_newestNumber, a_newestMode, a_newestEnd, a_maxWriteEnd, a_maxAnyEnd, a_pendCount, a_pendClient, a_pendNumber, a_pendMode, a_pendTerm, a_pendMark, a_blockValue, a_blockWrite, a_msgKind, a_msgClient, a_msgBlock, a_msgNumber, a_msgLease, a_msgMode, a_msgLast) (nI x) (nI b) (nI c) md := by
  unfold zz_cf zz_cE at h1 h0
  refine br_c (fun e => h0 (fun z => z.1 ((nI_eq (by omega) (by omega)).mp e))) (fun e => ?_)
  rw [nI_eq (by omega) (by omega)] at e
  refine nm_r (zz_p x b) ?_
  by_cases m : md = 2
  · refine br_t m ⟨vp_in_nI (by omega) (by decide), vp_in_nI (by omega) (by decide), ?_⟩
    rw [nI_clamp (n := x * 4 + b) (by omega), nI_clamp (n := nc) (by omega)]
    rw [if_pos m] at h1 h0
    exact br_c (fun z => h0 (fun w => w.2 z)) (fun z => h1 ⟨e, z⟩)
  · refine br_f m ⟨vp_in_nI (by omega) (by decide), vp_in_nI (by omega) (by decide), ?_⟩
    rw [nI_clamp (n := x * 4 + b) (by omega), nI_clamp (n := nc) (by omega)]
    rw [if_neg m] at h1 h0
    exact br_c (fun z => h0 (fun w => w.2 z)) (fun z => h1 ⟨e, z⟩)
theorem zz_anyX_l {md : Int32} (hb : b < 4) (hc : c < 4) (hnc : nc ≤ 4) : ∀ d x, x + d = nc → ∀ post : Int32 → Prop, ((∃ y, x ≤ y ∧ y < nc ∧ zz_cf a_maxWriteEnd a_maxAnyEnd (a_clock nc) md b c y) → post 1) → ((¬ ∃ y, x ≤ y ∧ y < nc ∧ zz_cf a_maxWriteEnd a_maxAnyEnd (a_clock nc) md b c y) → post 0) → wX_anyConflict_3 post (nI b) (nI c) md (nI nc) f_blocks f_drift f_longest f_time f_lastNumber f_down f_recoveryEnd f_longestGranted f_msgCount a_clock a_rate a_linkUp a_leaseMode a_leaseNumber a_leaseEnd a_leaseUnacked a_awaitNumber a_awaitMode a_awaitEnd a_newestNumber a_newestMode a_newestEnd a_maxWriteEnd a_maxAnyEnd a_pendCount a_pendClient a_pendNumber a_pendMode a_pendTerm a_pendMark a_blockValue a_blockWrite a_msgKind a_msgClient a_msgBlock a_msgNumber a_msgLease a_msgMode a_msgLast (d + 1) (nI x) := by
  intro d
  induction d with
  | zero =>
    intro x hx post h1 h0
    refine br_t (nI_le (by omega) (by omega)) (h0 ?_)
    rintro ⟨y, a, b, _⟩; omega
  | succ d ih =>
    intro x hx post h1 h0
    refine br_f (nI_ge (by omega) (by omega)) ?_
    refine zz_confX (by omega) hb hc hnc (fun z => ?_) (fun z => ?_)
    · exact br_f zz_01 (h1 ⟨x, by omega, by omega, z⟩)
    · refine br_t rfl (nm_r (nI_1 x) (ih (x + 1) (by omega) post (fun ⟨y, a, b, w⟩ => h1 ⟨y, by omega, b, w⟩) (fun w => h0 ?_)))
      rintro ⟨y, a, b, v⟩
      by_cases q : y = x
      · subst q; exact z v
      · exact w ⟨y, by omega, b, v⟩
theorem zz_anyX {md : Int32} (hb : b < 4) (hc : c < 4) (hnc : nc ≤ 4) (h1 : (∃ y, y < nc ∧ zz_cf a_maxWriteEnd a_maxAnyEnd (a_clock nc) md b c y) → post 1) (h0 : (¬ ∃ y, y < nc ∧ zz_cf a_maxWriteEnd a_maxAnyEnd (a_clock nc) md b c y) → post 0) : wpX_anyConflict post ((nI nc), f_blocks, f_drift, f_longest, f_time, f_lastNumber, f_down, f_recoveryEnd, f_longestGranted, f_msgCount, a_clock, a_rate, a_linkUp, a_leaseMode, a_leaseNumber, a_leaseEnd, a_leaseUnacked, a_awaitNumber, a_awaitMode, a_awaitEnd, a_newestNumber, a_newestMode, a_newestEnd, a_maxWriteEnd, a_maxAnyEnd, a_pendCount, a_pendClient, a_pendNumber, a_pendMode, a_pendTerm, a_pendMark, a_blockValue, a_blockWrite, a_msgKind, a_msgClient, a_msgBlock, a_msgNumber, a_msgLease, a_msgMode, a_msgLast) (nI b) (nI c) md :=
  ⟨nc + 1, zz_anyX_l hb hc hnc nc 0 (by omega) post (fun ⟨y, _, b, w⟩ => h1 ⟨y, b, w⟩) (fun w => h0 (fun ⟨y, b, v⟩ => w ⟨y, by omega, b, v⟩))⟩
end
section
variable {f_clients f_blocks f_drift f_longest f_time f_lastNumber f_longestGranted f_recoveryEnd f_msgCount f_grantCount f_down : Int32} {a_clock a_rate a_cut a_value a_written a_has a_msg a_grant a_pend a_pendCount : Nat → Int32} {nc nb c b gc : Nat} {post : Int32 → Prop}
theorem zz_clampY {x a b : Int32} (h : post (zz_clm x a b)) : wpY_clamp post (f_clients, f_blocks, f_drift, f_longest, f_time, f_lastNumber, f_longestGranted, f_recoveryEnd, f_msgCount, f_grantCount, f_down, a_clock, a_rate, a_cut, a_value, a_written, a_has, a_msg, a_grant, a_pend, a_pendCount) x a b := by
  unfold zz_clm at h
  by_cases h1 : a ≤ x
  · rw [if_pos h1] at h
    exact br_t h1 (zz_if h)
  · rw [if_neg h1] at h
    exact br_f h1 h
theorem zz_pairY1 (hc : c < nc) (hb : b < nb) (hnc : nc ≤ 4) (hnb : nb ≤ 4) (h : post 0) : wpY_badPair post ((nI nc), (nI nb), f_drift, f_longest, f_time, f_lastNumber, f_longestGranted, f_recoveryEnd, f_msgCount, f_grantCount, f_down, a_clock, a_rate, a_cut, a_value, a_written, a_has, a_msg, a_grant, a_pend, a_pendCount) (nI c) (nI b) :=
  br_f (nI_pos (by omega)) (br_f (nI_ge hc (by omega)) (br_f (nI_pos (by omega)) (br_t (nI_lt hb (by omega)) h)))
theorem zz_pairY0 {x y : Int32} (h : ¬ zz_ok nc nb x y) (hnc : nc ≤ 4) (hnb : nb ≤ 4) (k : post 1) : wpY_badPair post ((nI nc), (nI nb), f_drift, f_longest, f_time, f_lastNumber, f_longestGranted, f_recoveryEnd, f_msgCount, f_grantCount, f_down, a_clock, a_rate, a_cut, a_value, a_written, a_has, a_msg, a_grant, a_pend, a_pendCount) x y := by
  refine br_c (fun _ => k) (fun h0 => br_c (fun _ => k) (fun h1 => br_c (fun _ => k) (fun h2 => br_c (fun h3 => (h ?_).elim) (fun _ => k))))
  obtain ⟨c, hc, rfl⟩ := nI_of h0
  obtain ⟨b, hb, rfl⟩ := nI_of h2
  rw [nI_leI (by omega) hc] at h1
  rw [nI_ltI hb (by omega)] at h3
  exact ⟨c, b, by omega, by omega, rfl, rfl⟩
theorem zz_cellY (h : post (nI ((c * 4 + b) * 7))) : wpY_cell post (f_clients, f_blocks, f_drift, f_longest, f_time, f_lastNumber, f_longestGranted, f_recoveryEnd, f_msgCount, f_grantCount, f_down, a_clock, a_rate, a_cut, a_value, a_written, a_has, a_msg, a_grant, a_pend, a_pendCount) (nI c) (nI b) := by
  show post (((nI c * 4) + nI b) * 7)
  rw [zz_p, zz_x7]; exact h
theorem zz_holdsY (hc : c < 4) (hb : b < 4) (h : post (zz_hd (a_has ((c * 4 + b) * 7)) (a_has ((c * 4 + b) * 7 + 2)) (a_clock c))) : wpY_holds post (f_clients, f_blocks, f_drift, f_longest, f_time, f_lastNumber, f_longestGranted, f_recoveryEnd, f_msgCount, f_grantCount, f_down, a_clock, a_rate, a_cut, a_value, a_written, a_has, a_msg, a_grant, a_pend, a_pendCount) (nI c) (nI b) := by
  unfold wpY_holds
  refine zz_cellY ?_
  refine ⟨vp_in_nI (by omega) (by decide), ?_⟩
  rw [nI_clamp (n := (c * 4 + b) * 7) (by omega), nI_clamp (n := c) (by omega)]
  unfold zz_hd at h
  by_cases h0 : a_has ((c * 4 + b) * 7) = 0
  · rw [if_pos h0] at h
    exact br_t h0 h
  · rw [if_neg h0] at h
    refine br_f h0 ⟨vp_in_nI (by omega) (by decide), zz_cellY ?_⟩
    have e : nI ((c * 4 + b) * 7) + 2 = nI ((c * 4 + b) * 7 + 2) := nI_add _ 2
    refine ⟨zz_vi _ e (by omega) (by decide), ?_⟩
    rw [zz_cl e (by omega)]
    exact zz_if h
theorem zz_stateY (hnc : nc ≤ 4) (h : post (zz_sv f_down f_recoveryEnd (a_clock nc))) : wpY_state post ((nI nc), f_blocks, f_drift, f_longest, f_time, f_lastNumber, f_longestGranted, f_recoveryEnd, f_msgCount, f_grantCount, f_down, a_clock, a_rate, a_cut, a_value, a_written, a_has, a_msg, a_grant, a_pend, a_pendCount) := by
  unfold zz_sv at h
  by_cases hd : f_down = 0
  · rw [if_pos hd] at h
    refine br_t hd ⟨vp_in_nI (by omega) (by decide), ?_⟩
    rw [nI_clamp (n := nc) (by omega)]
    exact zz_if h
  · rw [if_neg hd] at h
    exact br_f hd h
theorem zz_stretchY_l {t dr : Nat} (ht : t ≤ 20) (hd : dr ≤ 3) : ∀ d i w, i + d = 400 → w ≤ zz_W t dr → w ≤ i → (w < zz_W t dr → w = i) → ∀ post : Int32 → Prop, post (nI (zz_W t dr)) → wY_stretch_4 post (nI t) f_clients f_blocks (nI dr) f_longest f_time f_lastNumber f_longestGranted f_recoveryEnd f_msgCount f_grantCount f_down a_clock a_rate a_cut a_value a_written a_has a_msg a_grant a_pend a_pendCount (d + 1) (nI w) (nI i) := by
  intro d
  have hU := zz_tU_le ht hd
  have hW := zz_W_le ht hd
  induction d with
  | zero =>
    intro i w hi h1 h2 h3 post h
    have e : w = zz_W t dr := by omega
    subst e
    exact br_t (nI_le (a := 400) (by omega) (by omega)) h
  | succ d ih =>
    intro i w hi h1 h2 h3 post h
    have q := zz_W_lt (t := t) (w := w) hd
    have hw : w * (10 - dr) ≤ 3720 := by
      have := Nat.mul_le_mul (show w ≤ 372 by omega) (show 10 - dr ≤ 10 by omega)
      omega
    have e2 : nI w * (10 - nI dr) = nI (w * (10 - dr)) := by
      rw [show (10 : Int32) = nI 10 from rfl, pk_sub (by omega), pk_mul]
    refine br_f (nI_ge (b := 400) (by omega) (by decide)) (pk_le (10 * t * (10 + dr)) (w * (10 - dr)) (fun z => ?_) (fun z => ?_) (zz_tU t dr) e2)
    · exact nm_r (nI_1 i) (ih (i + 1) w (by omega) h1 (by omega) (by omega) post h)
    · exact nm_r (nI_1 w) (nm_r (nI_1 i) (ih (i + 1) (w + 1) (by omega) (by omega) (by omega) (by omega) post h))
theorem zz_stretchY {t dr : Nat} (ht : t ≤ 20) (hd : dr ≤ 3) (h : post (nI (zz_W t dr))) : wpY_stretch post (f_clients, f_blocks, (nI dr), f_longest, f_time, f_lastNumber, f_longestGranted, f_recoveryEnd, f_msgCount, f_grantCount, f_down, a_clock, a_rate, a_cut, a_value, a_written, a_has, a_msg, a_grant, a_pend, a_pendCount) (nI t) :=
  ⟨401, zz_stretchY_l ht hd 400 0 0 (by omega) (by omega) (by omega) (by omega) post h⟩
theorem zz_newestY_l {x y : Int32} : ∀ n, n ≤ 250 → ∀ post : Int32 → Prop, post (zz_ni a_grant x y n) → wY_newest_7 post x y f_clients f_blocks f_drift f_longest f_time f_lastNumber f_longestGranted f_recoveryEnd f_msgCount f_grantCount f_down a_clock a_rate a_cut a_value a_written a_has a_msg a_grant a_pend a_pendCount (n + 1) (nI n - 1) := by
  intro n
  induction n with
  | zero => intro _ post h; exact br_t (by decide) h
  | succ n ih =>
    intro hn post h
    rw [nI_pred n]
    have i3 : nI n * 6 + 3 = nI (n * 6 + 3) := zz_x6 n 3
    have i4 : nI n * 6 + 4 = nI (n * 6 + 4) := zz_x6 n 4
    have m1 : nI n + (-1) = nI n - 1 := (Int32.sub_eq_add_neg _ _).symm
    rw [zz_ni] at h
    refine br_f (nI_pos (by omega)) ⟨zz_vi _ i3 (by omega) (by decide), ?_⟩
    rw [zz_cl i3 (by omega)]
    by_cases h3 : a_grant (n * 6 + 3) = x
    · refine br_t h3 ⟨zz_vi _ i4 (by omega) (by decide), ?_⟩
      rw [zz_cl i4 (by omega)]
      by_cases h4 : a_grant (n * 6 + 4) = y
      · rw [if_pos ⟨h3, h4⟩] at h
        exact br_t h4 h
      · rw [if_neg (fun z => h4 z.2)] at h
        exact br_f h4 (nm_r m1 (ih (by omega) post h))
    · rw [if_neg (fun z => h3 z.1)] at h
      exact br_f h3 (nm_r m1 (ih (by omega) post h))
theorem zz_newestY {x y : Int32} (hgc : gc ≤ 250) (h : post (zz_ni a_grant x y gc)) : wpY_newest post (f_clients, f_blocks, f_drift, f_longest, f_time, f_lastNumber, f_longestGranted, f_recoveryEnd, f_msgCount, (nI gc), f_down, a_clock, a_rate, a_cut, a_value, a_written, a_has, a_msg, a_grant, a_pend, a_pendCount) x y :=
  nm_e ⟨gc + 1, zz_newestY_l gc hgc post h⟩
theorem zz_leftY {n : Nat} (hn : n < 250) (hnc : nc ≤ 4) (h : post (zz_lf a_grant (a_clock nc) n)) : wpY_left post ((nI nc), f_blocks, f_drift, f_longest, f_time, f_lastNumber, f_longestGranted, f_recoveryEnd, f_msgCount, f_grantCount, f_down, a_clock, a_rate, a_cut, a_value, a_written, a_has, a_msg, a_grant, a_pend, a_pendCount) (nI n) := by
  have i5 : nI n * 6 + 5 = nI (n * 6 + 5) := zz_x6 n 5
  have i2 : nI n * 6 + 2 = nI (n * 6 + 2) := zz_x6 n 2
  refine ⟨zz_vi _ i5 (by omega) (by decide), ?_⟩
  rw [zz_cl i5 (by omega), zz_cl i2 (by omega), nI_clamp (n := nc) (by omega)]
  unfold zz_lf zz_dl at h
  by_cases h5 : a_grant (n * 6 + 5) = 1
  · rw [if_pos h5] at h
    exact br_t h5 h
  · rw [if_neg h5] at h
    refine br_f h5 ⟨vp_in_nI (by omega) (by decide), zz_vi _ i2 (by omega) (by decide), ?_⟩
    by_cases h2 : a_clock nc < a_grant (n * 6 + 2)
    · rw [if_pos h2] at h
      exact br_t h2 ⟨zz_vi _ i2 (by omega) (by decide), vp_in_nI (by omega) (by decide), h⟩
    · rw [if_neg h2] at h
      exact br_f h2 h
theorem zz_mx_step {g : Nat → Int32} {x y l k : Int32} {n : Nat} (hk : 0 ≤ k.toInt) (hg : ∀ i, i < n + 1 → 0 ≤ (g (i * 6 + 2)).toInt) (h3 : g (n * 6 + 3) = x) (h4 : g (n * 6 + 4) = y) (h1 : ¬ g (n * 6 + 1) < l) : zz_dl k (zz_mx g x y l (n + 1)) = if zz_lf g k n ≤ zz_dl k (zz_mx g x y l n) then zz_dl k (zz_mx g x y l n) else zz_lf g k n := by
  have hm := zz_mx_b (c := x) (b := y) (l := l) n (fun i hi => hg i (by omega))
  rw [zz_mx]
  unfold zz_lf
  by_cases h5 : g (n * 6 + 5) = 1
  · rw [if_neg (fun z => z.2 h5), if_pos h5, if_pos (zz_dl_nn hk hm)]
  · rw [if_pos ⟨⟨h3, h4, h1⟩, h5⟩, if_neg h5, zz_dl_max hk (hg n (by omega)) hm]
theorem zz_unitsY_l {x y l : Int32} (hgc : gc ≤ 250) (hnc : nc ≤ 4) (hk : 0 ≤ (a_clock nc).toInt) (hg : ∀ i, i < gc → 0 ≤ (a_grant (i * 6 + 2)).toInt) : ∀ d n, n + d = gc → ∀ post : Int32 → Prop, post (zz_dl (a_clock nc) (zz_mx a_grant x y l gc)) → wY_unitsLeft_6 post x y l (nI nc) f_blocks f_drift f_longest f_time f_lastNumber f_longestGranted f_recoveryEnd f_msgCount (nI gc) f_down a_clock a_rate a_cut a_value a_written a_has a_msg a_grant a_pend a_pendCount (d + 1) (zz_dl (a_clock nc) (zz_mx a_grant x y l n)) (nI n) := by
  intro d
  induction d with
  | zero =>
    intro n hn post h
    obtain rfl : n = gc := by omega
    exact br_t (nI_le (by omega) (by omega)) h
  | succ d ih =>
    intro n hn post h
    have i3 : nI n * 6 + 3 = nI (n * 6 + 3) := zz_x6 n 3
    have i4 : nI n * 6 + 4 = nI (n * 6 + 4) := zz_x6 n 4
    have i1 : nI n * 6 + 1 = nI (n * 6 + 1) := zz_x6 n 1
    have ih' := ih (n + 1) (by omega) post h
    have no : zz_mx a_grant x y l (n + 1) = zz_mx a_grant x y l n → wY_unitsLeft_67 post (wY_unitsLeft_6 post x y l (nI nc) f_blocks f_drift f_longest f_time f_lastNumber f_longestGranted f_recoveryEnd f_msgCount (nI gc) f_down a_clock a_rate a_cut a_value a_written a_has a_msg a_grant a_pend a_pendCount (d + 1)) x y l (zz_dl (a_clock nc) (zz_mx a_grant x y l n)) (nI n) (nI nc) f_blocks f_drift f_longest f_time f_lastNumber f_longestGranted f_recoveryEnd f_msgCount (nI gc) f_down a_clock a_rate a_cut a_value a_written a_has a_msg a_grant a_pend a_pendCount := by
      intro e
      rw [e] at ih'
      unfold wY_unitsLeft_67 wY_unitsLeft_68
      exact br_t rfl (nm_r (nI_1 n) ih')
    refine br_f (nI_ge (by omega) (by omega)) ⟨zz_vi _ i3 (by omega) (by decide), ?_⟩
    rw [zz_cl i3 (by omega), zz_cl i4 (by omega), zz_cl i1 (by omega)]
    by_cases h3 : a_grant (n * 6 + 3) = x
    · refine br_t h3 ⟨zz_vi _ i4 (by omega) (by decide), ?_⟩
      by_cases h4 : a_grant (n * 6 + 4) = y
      · refine br_t h4 ⟨zz_vi _ i1 (by omega) (by decide), ?_⟩
        by_cases h1 : a_grant (n * 6 + 1) < l
        · exact br_t h1 (no (if_neg (fun z => z.1.2.2 h1)))
        · refine br_f h1 ?_
          have st := zz_mx_step (g := a_grant) (n := n) hk (fun i hi => hg i (by omega)) h3 h4 h1
          rw [st] at ih'
          unfold wY_unitsLeft_68
          refine br_f zz_01 (zz_leftY (by omega) hnc ?_)
          by_cases w : zz_lf a_grant (a_clock nc) n ≤ zz_dl (a_clock nc) (zz_mx a_grant x y l n)
          · rw [if_pos w] at ih'
            exact br_t w (nm_r (nI_1 n) ih')
          · rw [if_neg w] at ih'
            exact br_f w (zz_leftY (by omega) hnc (nm_r (nI_1 n) ih'))
      · exact br_f h4 (no (if_neg (fun z => h4 z.1.2.1)))
    · exact br_f h3 (no (if_neg (fun z => h3 z.1.1)))
theorem zz_unitsY {x y l : Int32} (hgc : gc ≤ 250) (hnc : nc ≤ 4) (hk : 0 ≤ (a_clock nc).toInt) (hg : ∀ i, i < gc → 0 ≤ (a_grant (i * 6 + 2)).toInt) (h : post (zz_dl (a_clock nc) (zz_mx a_grant x y l gc))) : wpY_unitsLeft post ((nI nc), f_blocks, f_drift, f_longest, f_time, f_lastNumber, f_longestGranted, f_recoveryEnd, f_msgCount, (nI gc), f_down, a_clock, a_rate, a_cut, a_value, a_written, a_has, a_msg, a_grant, a_pend, a_pendCount) x y l := by
  refine ⟨gc + 1, ?_⟩
  have e : zz_dl (a_clock nc) (zz_mx a_grant x y l 0) = 0 := (zz_dl0 hk (by rw [zz_mx, zz_t0]; omega)).mpr (by rw [zz_mx, zz_le, zz_t0]; exact hk)
  have q : wY_unitsLeft_6 post x y l (nI nc) f_blocks f_drift f_longest f_time f_lastNumber f_longestGranted f_recoveryEnd f_msgCount (nI gc) f_down a_clock a_rate a_cut a_value a_written a_has a_msg a_grant a_pend a_pendCount (gc + 1) (zz_dl (a_clock nc) (zz_mx a_grant x y l 0)) (nI 0) := zz_unitsY_l hgc hnc hk hg gc 0 (by omega) post h
  rw [e] at q
  exact q
end
end
section
/-! send and the removal of a message -/
def zz_a7 (g : Nat → Int32) (k : Nat) (x0 x1 x2 x3 x4 x5 x6 : Int32) : Nat → Int32 := upd (upd (upd (upd (upd (upd (upd g (k * 7) x0) (k * 7 + 1) x1) (k * 7 + 2) x2) (k * 7 + 3) x3) (k * 7 + 4) x4) (k * 7 + 5) x5) (k * 7 + 6) x6
theorem zz_a7_lo {g : Nat → Int32} {k j : Nat} {x0 x1 x2 x3 x4 x5 x6 : Int32} (h : j < k * 7) : zz_a7 g k x0 x1 x2 x3 x4 x5 x6 j = g j := by
  unfold zz_a7
  rw [pk_un (by omega), pk_un (by omega), pk_un (by omega), pk_un (by omega), pk_un (by omega), pk_un (by omega), pk_un (by omega)]
theorem zz_a7_at {g : Nat → Int32} {k : Nat} {x0 x1 x2 x3 x4 x5 x6 : Int32} : zz_a7 g k x0 x1 x2 x3 x4 x5 x6 (k * 7) = x0 ∧ zz_a7 g k x0 x1 x2 x3 x4 x5 x6 (k * 7 + 1) = x1 ∧ zz_a7 g k x0 x1 x2 x3 x4 x5 x6 (k * 7 + 2) = x2 ∧ zz_a7 g k x0 x1 x2 x3 x4 x5 x6 (k * 7 + 3) = x3 ∧ zz_a7 g k x0 x1 x2 x3 x4 x5 x6 (k * 7 + 4) = x4 ∧ zz_a7 g k x0 x1 x2 x3 x4 x5 x6 (k * 7 + 5) = x5 ∧ zz_a7 g k x0 x1 x2 x3 x4 x5 x6 (k * 7 + 6) = x6 := by
  unfold zz_a7
  refine ⟨?_, ?_, ?_, ?_, ?_, ?_, ?_⟩
  · rw [pk_un (by omega), pk_un (by omega), pk_un (by omega), pk_un (by omega), pk_un (by omega), pk_un (by omega), pk_us]
  · rw [pk_un (by omega), pk_un (by omega), pk_un (by omega), pk_un (by omega), pk_un (by omega), pk_us]
  · rw [pk_un (by omega), pk_un (by omega), pk_un (by omega), pk_un (by omega), pk_us]
  · rw [pk_un (by omega), pk_un (by omega), pk_un (by omega), pk_us]
  · rw [pk_un (by omega), pk_un (by omega), pk_us]
  · rw [pk_un (by omega), pk_us]
  · rw [pk_us]
/-- the arrays of messages with one more at place k -/
def zz_p7 (ms : Nat → Nat → Int32) (k : Nat) (x0 x1 x2 x3 x4 x5 x6 : Int32) : Nat → Nat → Int32 := zz_m7 (upd (ms 0) k x0) (upd (ms 1) k x1) (upd (ms 2) k x2) (upd (ms 3) k x3) (upd (ms 4) k x4) (upd (ms 5) k x5) (upd (ms 6) k x6)
theorem zz_RM_put {nc nb mc : Nat} {ms : Nat → Nat → Int32} {mm : Nat → Int32} {k c b n l md la : Int32} (hM : zz_RM nc nb mc ms mm) (hm : mc < 32) (hok : zz_mok nc nb k c b n md la) : zz_RM nc nb (mc + 1) (zz_p7 ms mc k c b n l md la) (zz_a7 mm mc k c b n l md la) := by
  obtain ⟨_, h⟩ := hM
  refine ⟨by omega, fun i hi => ?_⟩
  obtain ⟨z0, z1, z2, z3, z4, z5, z6⟩ := zz_a7_at (g := mm) (k := mc) (x0 := k) (x1 := c) (x2 := b) (x3 := n) (x4 := l) (x5 := md) (x6 := la)
  show (upd (ms 0) mc k i = _ ∧ upd (ms 1) mc c i = _ ∧ upd (ms 2) mc b i = _ ∧ upd (ms 3) mc n i = _ ∧ upd (ms 4) mc l i = _ ∧ upd (ms 5) mc md i = _ ∧ upd (ms 6) mc la i = _) ∧ zz_mok nc nb (upd (ms 0) mc k i) (upd (ms 1) mc c i) (upd (ms 2) mc b i) (upd (ms 3) mc n i) (upd (ms 5) mc md i) (upd (ms 6) mc la i)
  by_cases q : i = mc
  · subst q
    rw [z0, z1, z2, z3, z4, z5, z6, pk_us, pk_us, pk_us, pk_us, pk_us, pk_us, pk_us]
    exact ⟨⟨rfl, rfl, rfl, rfl, rfl, rfl, rfl⟩, hok⟩
  · rw [pk_un q, pk_un q, pk_un q, pk_un q, pk_un q, pk_un q, pk_un q, zz_a7_lo (by omega), zz_a7_lo (by omega), zz_a7_lo (by omega), zz_a7_lo (by omega), zz_a7_lo (by omega), zz_a7_lo (by omega), zz_a7_lo (by omega)]
    exact h i (by omega)
theorem zz_rq_put {ms : Nat → Nat → Int32} {mc : Nat} {k c b n l md la : Int32} : zz_rq (zz_p7 ms mc k c b n l md la 0) (mc + 1) ≤ zz_rq (ms 0) mc + (if k = 1 then 1 else 0) := by
  show zz_rq (upd (ms 0) mc k) (mc + 1) ≤ _
  rw [zz_rq, pk_us, zz_rq_cg (k := ms 0) mc (fun i hi => pk_un (by omega))]
  exact Nat.le_refl _
theorem zz_sendX1 {f_clients f_blocks f_drift f_longest f_time f_lastNumber f_down f_recoveryEnd f_longestGranted : Int32} {a_clock a_rate a_linkUp a_leaseMode a_leaseNumber a_leaseEnd a_leaseUnacked a_awaitNumber a_awaitMode a_awaitEnd a_newestNumber a_newestMode a_newestEnd a_maxWriteEnd a_maxAnyEnd a_pendCount a_pendClient a_pendNumber a_pendMode a_pendTerm a_pendMark a_blockValue a_blockWrite : Nat → Int32} {mc c : Nat} {ms : Nat → Nat → Int32} {k b n l md la : Int32} {post : SX → Prop} (hc : c < 4) (hl : ¬ a_linkUp c = 0) (hm : mc < 32) (h : post (f_clients, f_blocks, f_drift, f_longest, f_time, f_lastNumber, f_down, f_recoveryEnd, f_longestGranted, (nI (mc + 1)), a_clock, a_rate, a_linkUp, a_leaseMode, a_leaseNumber, a_leaseEnd, a_leaseUnacked, a_awaitNumber, a_awaitMode, a_awaitEnd, a_newestNumber, a_newestMode, a_newestEnd, a_maxWriteEnd, a_maxAnyEnd, a_pendCount, a_pendClient, a_pendNumber, a_pendMode, a_pendTerm, a_pendMark, a_blockValue, a_blockWrite, ((zz_p7 ms mc k (nI c) b n l md la) 0), ((zz_p7 ms mc k (nI c) b n l md la) 1), ((zz_p7 ms mc k (nI c) b n l md la) 2), ((zz_p7 ms mc k (nI c) b n l md la) 3), ((zz_p7 ms mc k (nI c) b n l md la) 4), ((zz_p7 ms mc k (nI c) b n l md la) 5), ((zz_p7 ms mc k (nI c) b n l md la) 6))) : wpX_send post (f_clients, f_blocks, f_drift, f_longest, f_time, f_lastNumber, f_down, f_recoveryEnd, f_longestGranted, (nI mc), a_clock, a_rate, a_linkUp, a_leaseMode, a_leaseNumber, a_leaseEnd, a_leaseUnacked, a_awaitNumber, a_awaitMode, a_awaitEnd, a_newestNumber, a_newestMode, a_newestEnd, a_maxWriteEnd, a_maxAnyEnd, a_pendCount, a_pendClient, a_pendNumber, a_pendMode, a_pendTerm, a_pendMark, a_blockValue, a_blockWrite, (ms 0), (ms 1), (ms 2), (ms 3), (ms 4), (ms 5), (ms 6)) k (nI c) b n l md la := by
  refine ⟨vp_in_nI hc (by decide), ?_⟩
  rw [nI_clamp (n := c) (by omega)]
  refine br_f hl (br_t (nI_lt (b := 32) hm (by decide)) ?_)
  refine zz_st mc rfl hm (by decide) ?_
  refine zz_st mc rfl hm (by decide) ?_
  refine zz_st mc rfl hm (by decide) ?_
  refine zz_st mc rfl hm (by decide) ?_
  refine zz_st mc rfl hm (by decide) ?_
  refine zz_st mc rfl hm (by decide) ?_
  refine zz_st mc rfl hm (by decide) ?_
  exact nm_r (nI_1 mc) h
theorem zz_sendX0 {f_clients f_blocks f_drift f_longest f_time f_lastNumber f_down f_recoveryEnd f_longestGranted : Int32} {a_clock a_rate a_linkUp a_leaseMode a_leaseNumber a_leaseEnd a_leaseUnacked a_awaitNumber a_awaitMode a_awaitEnd a_newestNumber a_newestMode a_newestEnd a_maxWriteEnd a_maxAnyEnd a_pendCount a_pendClient a_pendNumber a_pendMode a_pendTerm a_pendMark a_blockValue a_blockWrite a_msgKind a_msgClient a_msgBlock a_msgNumber a_msgLease a_msgMode a_msgLast : Nat → Int32} {mc c : Nat} {k b n l md la : Int32} {post : SX → Prop} (hc : c < 4) (hl : a_linkUp c = 0 ∨ 32 ≤ mc) (hmc : mc ≤ 32) (h : post (f_clients, f_blocks, f_drift, f_longest, f_time, f_lastNumber, f_down, f_recoveryEnd, f_longestGranted, (nI mc), a_clock, a_rate, a_linkUp, a_leaseMode, a_leaseNumber, a_leaseEnd, a_leaseUnacked, a_awaitNumber, a_awaitMode, a_awaitEnd, a_newestNumber, a_newestMode, a_newestEnd, a_maxWriteEnd, a_maxAnyEnd, a_pendCount, a_pendClient, a_pendNumber, a_pendMode, a_pendTerm, a_pendMark, a_blockValue, a_blockWrite, a_msgKind, a_msgClient, a_msgBlock, a_msgNumber, a_msgLease, a_msgMode, a_msgLast)) : wpX_send post (f_clients, f_blocks, f_drift, f_longest, f_time, f_lastNumber, f_down, f_recoveryEnd, f_longestGranted, (nI mc), a_clock, a_rate, a_linkUp, a_leaseMode, a_leaseNumber, a_leaseEnd, a_leaseUnacked, a_awaitNumber, a_awaitMode, a_awaitEnd, a_newestNumber, a_newestMode, a_newestEnd, a_maxWriteEnd, a_maxAnyEnd, a_pendCount, a_pendClient, a_pendNumber, a_pendMode, a_pendTerm, a_pendMark, a_blockValue, a_blockWrite, a_msgKind, a_msgClient, a_msgBlock, a_msgNumber, a_msgLease, a_msgMode, a_msgLast) k (nI c) b n l md la := by
  refine ⟨vp_in_nI hc (by decide), ?_⟩
  rw [nI_clamp (n := c) (by omega)]
  by_cases q : a_linkUp c = 0
  · exact br_t q h
  · rcases hl with hl | hl
    · exact (q hl).elim
    · exact br_f q (br_f (nI_nlt (b := 32) hl (by omega)) h)
theorem zz_sendY1 {f_clients f_blocks f_drift f_longest f_time f_lastNumber f_longestGranted f_recoveryEnd f_grantCount f_down : Int32} {a_clock a_rate a_cut a_value a_written a_has a_msg a_grant a_pend a_pendCount : Nat → Int32} {mc c : Nat} {k b n l md la : Int32} {post : SY → Prop} (hc : c < 4) (hl : a_cut c = 0) (hm : mc < 32) (h : post (f_clients, f_blocks, f_drift, f_longest, f_time, f_lastNumber, f_longestGranted, f_recoveryEnd, (nI (mc + 1)), f_grantCount, f_down, a_clock, a_rate, a_cut, a_value, a_written, a_has, (zz_a7 a_msg mc k (nI c) b n l md la), a_grant, a_pend, a_pendCount)) : wpY_send post (f_clients, f_blocks, f_drift, f_longest, f_time, f_lastNumber, f_longestGranted, f_recoveryEnd, (nI mc), f_grantCount, f_down, a_clock, a_rate, a_cut, a_value, a_written, a_has, a_msg, a_grant, a_pend, a_pendCount) k (nI c) b n l md la := by
  refine ⟨vp_in_nI hc (by decide), ?_⟩
  rw [nI_clamp (n := c) (by omega)]
  refine br_t hl (br_t (nI_lt (b := 32) hm (by decide)) ?_)
  refine nm_r (zz_x7 mc) ?_
  refine zz_st (mc * 7) rfl (by omega) (by decide) ?_
  refine zz_st (mc * 7 + 1) (nI_add _ 1) (by omega) (by decide) ?_
  refine zz_st (mc * 7 + 2) (nI_add _ 2) (by omega) (by decide) ?_
  refine zz_st (mc * 7 + 3) (nI_add _ 3) (by omega) (by decide) ?_
  refine zz_st (mc * 7 + 4) (nI_add _ 4) (by omega) (by decide) ?_
  refine zz_st (mc * 7 + 5) (nI_add _ 5) (by omega) (by decide) ?_
  refine zz_st (mc * 7 + 6) (nI_add _ 6) (by omega) (by decide) ?_
  exact nm_r (nI_1 mc) h
theorem zz_sendY0 {f_clients f_blocks f_drift f_longest f_time f_lastNumber f_longestGranted f_recoveryEnd f_grantCount f_down : Int32} {a_clock a_rate a_cut a_value a_written a_has a_msg a_grant a_pend a_pendCount : Nat → Int32} {mc c : Nat} {k b n l md la : Int32} {post : SY → Prop} (hc : c < 4) (hl : ¬ a_cut c = 0 ∨ 32 ≤ mc) (hmc : mc ≤ 32) (h : post (f_clients, f_blocks, f_drift, f_longest, f_time, f_lastNumber, f_longestGranted, f_recoveryEnd, (nI mc), f_grantCount, f_down, a_clock, a_rate, a_cut, a_value, a_written, a_has, a_msg, a_grant, a_pend, a_pendCount)) : wpY_send post (f_clients, f_blocks, f_drift, f_longest, f_time, f_lastNumber, f_longestGranted, f_recoveryEnd, (nI mc), f_grantCount, f_down, a_clock, a_rate, a_cut, a_value, a_written, a_has, a_msg, a_grant, a_pend, a_pendCount) k (nI c) b n l md la := by
  refine ⟨vp_in_nI hc (by decide), ?_⟩
  rw [nI_clamp (n := c) (by omega)]
  by_cases q : a_cut c = 0
  · rcases hl with hl | hl
    · exact (hl q).elim
    · exact br_t q (br_f (nI_nlt (b := 32) hl (by omega)) h)
  · exact br_f q h
theorem zz_send {nc nb mc c b : Nat} {ms : Nat → Nat → Int32} {mm lk ct : Nat → Int32} {k n l md la : Int32} (hM : zz_RM nc nb mc ms mm) (hL : zz_RL lk ct) (hc : c < nc) (hnc : nc ≤ 4) (hok : zz_mok nc nb k (nI c) (nI b) n md la) :
    ∃ (mc' : Nat) (ms' : Nat → Nat → Int32) (mm' : Nat → Int32), zz_RM nc nb mc' ms' mm' ∧ zz_rq (ms' 0) mc' ≤ zz_rq (ms 0) mc + (if k = 1 then 1 else 0) ∧
      (∀ {f_clients f_blocks f_drift f_longest f_time f_lastNumber f_down f_recoveryEnd f_longestGranted : Int32} {a_clock a_rate a_leaseMode a_leaseNumber a_leaseEnd a_leaseUnacked a_awaitNumber a_awaitMode a_awaitEnd a_newestNumber a_newestMode a_newestEnd a_maxWriteEnd a_maxAnyEnd a_pendCount a_pendClient a_pendNumber a_pendMode a_pendTerm a_pendMark a_blockValue a_blockWrite : Nat → Int32} (post : SX → Prop), post (f_clients, f_blocks, f_drift, f_longest, f_time, f_lastNumber, f_down, f_recoveryEnd, f_longestGranted, (nI mc'), a_clock, a_rate, lk, a_leaseMode, a_leaseNumber, a_leaseEnd, a_leaseUnacked, a_awaitNumber, a_awaitMode, a_awaitEnd, a_newestNumber, a_newestMode, a_newestEnd, a_maxWriteEnd, a_maxAnyEnd, a_pendCount, a_pendClient, a_pendNumber, a_pendMode, a_pendTerm, a_pendMark, a_blockValue, a_blockWrite, (ms' 0), (ms' 1), (ms' 2), (ms' 3), (ms' 4), (ms' 5), (ms' 6)) → wpX_send post (f_clients, f_blocks, f_drift, f_longest, f_time, f_lastNumber, f_down, f_recoveryEnd, f_longestGranted, (nI mc), a_clock, a_rate, lk, a_leaseMode, a_leaseNumber, a_leaseEnd, a_leaseUnacked, a_awaitNumber, a_awaitMode, a_awaitEnd, a_newestNumber, a_newestMode, a_newestEnd, a_maxWriteEnd, a_maxAnyEnd, a_pendCount, a_pendClient, a_pendNumber, a_pendMode, a_pendTerm, a_pendMark, a_blockValue, a_blockWrite, (ms 0), (ms 1), (ms 2), (ms 3), (ms 4), (ms 5), (ms 6)) k (nI c) (nI b) n l md la) ∧
      (∀ {f_clients f_blocks f_drift f_longest f_time f_lastNumber f_longestGranted f_recoveryEnd f_grantCount f_down : Int32} {a_clock a_rate a_value a_written a_has a_grant a_pend a_pendCount : Nat → Int32} (post : SY → Prop), post (f_clients, f_blocks, f_drift, f_longest, f_time, f_lastNumber, f_longestGranted, f_recoveryEnd, (nI mc'), f_grantCount, f_down, a_clock, a_rate, ct, a_value, a_written, a_has, mm', a_grant, a_pend, a_pendCount) → wpY_send post (f_clients, f_blocks, f_drift, f_longest, f_time, f_lastNumber, f_longestGranted, f_recoveryEnd, (nI mc), f_grantCount, f_down, a_clock, a_rate, ct, a_value, a_written, a_has, mm, a_grant, a_pend, a_pendCount) k (nI c) (nI b) n l md la) := by
  have hl := hL c (by omega)
  have hm := hM.1
  by_cases q : lk c = 0 ∨ 32 ≤ mc
  · refine ⟨mc, ms, mm, hM, by omega, ?_, ?_⟩
    · intros; refine zz_sendX0 (by omega) q hm ?_; assumption
    · intros; refine zz_sendY0 (by omega) ?_ hm ?_
      · rcases q with q | q
        · exact Or.inl (hl.mp q)
        · exact Or.inr q
      · assumption
  · have q1 : ¬ lk c = 0 := fun z => q (Or.inl z)
    have q2 : mc < 32 := by
      rcases Nat.lt_or_ge mc 32 with z | z
      · exact z
      · exact (q (Or.inr z)).elim
    refine ⟨mc + 1, zz_p7 ms mc k (nI c) (nI b) n l md la, zz_a7 mm mc k (nI c) (nI b) n l md la, zz_RM_put hM q2 hok, zz_rq_put, ?_, ?_⟩
    · intros; refine zz_sendX1 (by omega) q1 q2 ?_; assumption
    · intros; refine zz_sendY1 (by omega) ?_ q2 ?_
      · by_cases z : ct c = 0
        · exact z
        · exact (q1 (hl.mpr z)).elim
      · assumption
theorem zz_rmX_l {f_clients f_blocks f_drift f_longest f_time f_lastNumber f_down f_recoveryEnd f_longestGranted : Int32} {a_clock a_rate a_linkUp a_leaseMode a_leaseNumber a_leaseEnd a_leaseUnacked a_awaitNumber a_awaitMode a_awaitEnd a_newestNumber a_newestMode a_newestEnd a_maxWriteEnd a_maxAnyEnd a_pendCount a_pendClient a_pendNumber a_pendMode a_pendTerm a_pendMark a_blockValue a_blockWrite : Nat → Int32} {cnt : Nat} (hcnt : cnt < 32) : ∀ d j, j + d = cnt → ∀ ms ms' : Nat → Nat → Int32, (∀ f q, ms' f q = if j ≤ q ∧ q < cnt then ms f (q + 1) else ms f q) → ∀ post : SX → Prop, post (f_clients, f_blocks, f_drift, f_longest, f_time, f_lastNumber, f_down, f_recoveryEnd, f_longestGranted, (nI cnt), a_clock, a_rate, a_linkUp, a_leaseMode, a_leaseNumber, a_leaseEnd, a_leaseUnacked, a_awaitNumber, a_awaitMode, a_awaitEnd, a_newestNumber, a_newestMode, a_newestEnd, a_maxWriteEnd, a_maxAnyEnd, a_pendCount, a_pendClient, a_pendNumber, a_pendMode, a_pendTerm, a_pendMark, a_blockValue, a_blockWrite, (ms' 0), (ms' 1), (ms' 2), (ms' 3), (ms' 4), (ms' 5), (ms' 6)) → wX_removeMessage_12 post f_clients f_blocks f_drift f_longest f_time f_lastNumber f_down f_recoveryEnd f_longestGranted (nI cnt) (d + 1) (nI j) a_clock a_rate a_linkUp a_leaseMode a_leaseNumber a_leaseEnd a_leaseUnacked a_awaitNumber a_awaitMode a_awaitEnd a_newestNumber a_newestMode a_newestEnd a_maxWriteEnd a_maxAnyEnd a_pendCount a_pendClient a_pendNumber a_pendMode a_pendTerm a_pendMark a_blockValue a_blockWrite (ms 0) (ms 1) (ms 2) (ms 3) (ms 4) (ms 5) (ms 6) := by
  intro d
  induction d with
  | zero =>
    intro j hj ms ms' e post h
    obtain rfl : ms' = ms := funext fun f => funext fun q => by rw [e, if_neg (by omega)]
    exact br_t (nI_le (by omega) (by omega)) h
  | succ d ih =>
    intro j hj ms ms' e post h
    have e1 : nI j + 1 = nI (j + 1) := nI_1 j
    refine br_f (nI_ge (by omega) (by omega)) ?_
    rw [e1, nI_clamp (n := j + 1) (by omega)]
    have i1 : vp_in (nI (j + 1)) 32 := vp_in_nI (by omega) (by decide)
    refine ⟨i1, zz_st j rfl (by omega) (by decide) ?_⟩
    refine ⟨i1, zz_st j rfl (by omega) (by decide) ?_⟩
    refine ⟨i1, zz_st j rfl (by omega) (by decide) ?_⟩
    refine ⟨i1, zz_st j rfl (by omega) (by decide) ?_⟩
    refine ⟨i1, zz_st j rfl (by omega) (by decide) ?_⟩
    refine ⟨i1, zz_st j rfl (by omega) (by decide) ?_⟩
    refine ⟨i1, zz_st j rfl (by omega) (by decide) ?_⟩
    refine nm_e (ih (j + 1) (by omega) (fun f => upd (ms f) j (ms f (j + 1))) ms' (fun f q => ?_) post h)
    rw [e f q]
    show _ = (if _ then upd (ms f) j (ms f (j + 1)) (q + 1) else upd (ms f) j (ms f (j + 1)) q)
    by_cases q1 : q = j
    · subst q1
      rw [if_pos (by omega), if_neg (by omega), pk_us]
    · rw [pk_un (f := ms f) (k := j) (j := q) q1]
      by_cases q2 : j + 1 ≤ q ∧ q < cnt
      · rw [if_pos (by omega), if_pos q2, pk_un (by omega)]
      · rw [if_neg (by omega), if_neg q2]
theorem zz_rmY_l {f_clients f_blocks f_drift f_longest f_time f_lastNumber f_longestGranted f_recoveryEnd f_grantCount f_down : Int32} {a_clock a_rate a_cut a_value a_written a_has a_grant a_pend a_pendCount : Nat → Int32} {cnt : Nat} (hcnt : cnt < 32) : ∀ d j, j + d = cnt * 7 → ∀ mm mm' : Nat → Int32, (∀ q, mm' q = if j ≤ q ∧ q < cnt * 7 then mm (q + 7) else mm q) → ∀ post : Int32 → SY → Prop, post 0 (f_clients, f_blocks, f_drift, f_longest, f_time, f_lastNumber, f_longestGranted, f_recoveryEnd, (nI cnt), f_grantCount, f_down, a_clock, a_rate, a_cut, a_value, a_written, a_has, mm', a_grant, a_pend, a_pendCount) → wY_drop_29 post f_clients f_blocks f_drift f_longest f_time f_lastNumber f_longestGranted f_recoveryEnd (nI cnt) f_grantCount f_down (d + 1) (nI j) a_clock a_rate a_cut a_value a_written a_has mm a_grant a_pend a_pendCount := by
  intro d
  induction d with
  | zero =>
    intro j hj mm mm' e post h
    obtain rfl : mm' = mm := funext fun q => by rw [e, if_neg (by omega)]
    refine br_t ?_ h
    rw [zz_x7]; exact nI_le (by omega) (by omega)
  | succ d ih =>
    intro j hj mm mm' e post h
    have e1 : nI j + 7 = nI (j + 7) := nI_add j 7
    refine br_f ?_ ⟨zz_vi _ e1 (by omega) (by decide), ?_⟩
    · rw [zz_x7]; exact nI_ge (by omega) (by omega)
    · rw [zz_cl e1 (by omega)]
      refine zz_st j rfl (by omega) (by decide) (nm_r (nI_1 j) (ih (j + 1) (by omega) (upd mm j (mm (j + 7))) mm' (fun q => ?_) post h))
      rw [e q]
      by_cases q1 : q = j
      · subst q1
        rw [if_pos (by omega), if_neg (by omega), pk_us]
      · rw [pk_un (f := mm) (k := j) (j := q) q1]
        by_cases q2 : j + 1 ≤ q ∧ q < cnt * 7
        · rw [if_pos (by omega), if_pos q2, pk_un (by omega)]
        · rw [if_neg (by omega), if_neg q2]
theorem zz_rem {nc nb mc i : Nat} {ms : Nat → Nat → Int32} {mm : Nat → Int32} (hM : zz_RM nc nb mc ms mm) (hi : i < mc) :
    ∃ (ms' : Nat → Nat → Int32) (mm' : Nat → Int32), zz_RM nc nb (mc - 1) ms' mm' ∧ zz_rq (ms' 0) (mc - 1) + (if ms 0 i = 1 then 1 else 0) = zz_rq (ms 0) mc ∧
      (∀ {f_clients f_blocks f_drift f_longest f_time f_lastNumber f_down f_recoveryEnd f_longestGranted : Int32} {a_clock a_rate a_linkUp a_leaseMode a_leaseNumber a_leaseEnd a_leaseUnacked a_awaitNumber a_awaitMode a_awaitEnd a_newestNumber a_newestMode a_newestEnd a_maxWriteEnd a_maxAnyEnd a_pendCount a_pendClient a_pendNumber a_pendMode a_pendTerm a_pendMark a_blockValue a_blockWrite : Nat → Int32} (post : SX → Prop), post (f_clients, f_blocks, f_drift, f_longest, f_time, f_lastNumber, f_down, f_recoveryEnd, f_longestGranted, (nI (mc - 1)), a_clock, a_rate, a_linkUp, a_leaseMode, a_leaseNumber, a_leaseEnd, a_leaseUnacked, a_awaitNumber, a_awaitMode, a_awaitEnd, a_newestNumber, a_newestMode, a_newestEnd, a_maxWriteEnd, a_maxAnyEnd, a_pendCount, a_pendClient, a_pendNumber, a_pendMode, a_pendTerm, a_pendMark, a_blockValue, a_blockWrite, (ms' 0), (ms' 1), (ms' 2), (ms' 3), (ms' 4), (ms' 5), (ms' 6)) → wpX_removeMessage post (f_clients, f_blocks, f_drift, f_longest, f_time, f_lastNumber, f_down, f_recoveryEnd, f_longestGranted, (nI mc), a_clock, a_rate, a_linkUp, a_leaseMode, a_leaseNumber, a_leaseEnd, a_leaseUnacked, a_awaitNumber, a_awaitMode, a_awaitEnd, a_newestNumber, a_newestMode, a_newestEnd, a_maxWriteEnd, a_maxAnyEnd, a_pendCount, a_pendClient, a_pendNumber, a_pendMode, a_pendTerm, a_pendMark, a_blockValue, a_blockWrite, (ms 0), (ms 1), (ms 2), (ms 3), (ms 4), (ms 5), (ms 6)) (nI i)) ∧
      (∀ {f_clients f_blocks f_drift f_longest f_time f_lastNumber f_longestGranted f_recoveryEnd f_grantCount f_down : Int32} {a_clock a_rate a_cut a_value a_written a_has a_grant a_pend a_pendCount : Nat → Int32} (post : Int32 → SY → Prop), post 0 (f_clients, f_blocks, f_drift, f_longest, f_time, f_lastNumber, f_longestGranted, f_recoveryEnd, (nI (mc - 1)), f_grantCount, f_down, a_clock, a_rate, a_cut, a_value, a_written, a_has, mm', a_grant, a_pend, a_pendCount) → wpY_drop post (f_clients, f_blocks, f_drift, f_longest, f_time, f_lastNumber, f_longestGranted, f_recoveryEnd, (nI mc), f_grantCount, f_down, a_clock, a_rate, a_cut, a_value, a_written, a_has, mm, a_grant, a_pend, a_pendCount) (nI i)) := by
  have hm := hM.1
  obtain ⟨cnt, rfl⟩ : ∃ cnt, mc = cnt + 1 := ⟨mc - 1, by omega⟩
  rw [Nat.add_sub_cancel]
  have ex : ∃ ms' : Nat → Nat → Int32, ∀ f q, ms' f q = if i ≤ q ∧ q < cnt then ms f (q + 1) else ms f q := ⟨fun f q => if i ≤ q ∧ q < cnt then ms f (q + 1) else ms f q, fun _ _ => rfl⟩
  have ey : ∃ mm' : Nat → Int32, ∀ q, mm' q = if i * 7 ≤ q ∧ q < cnt * 7 then mm (q + 7) else mm q := ⟨fun q => if i * 7 ≤ q ∧ q < cnt * 7 then mm (q + 7) else mm q, fun _ => rfl⟩
  obtain ⟨ms', e⟩ := ex
  obtain ⟨mm', e'⟩ := ey
  refine ⟨ms', mm', ⟨by omega, fun q hq => ?_⟩, ?_, ?_, ?_⟩
  · by_cases z : i ≤ q
    · have w := hM.2 (q + 1) (by omega)
      have y : ∀ j, j < 7 → mm' (q * 7 + j) = mm ((q + 1) * 7 + j) := fun j hj => by
        rw [e', if_pos (by omega)]; exact congrArg mm (by omega)
      have y0 : mm' (q * 7) = mm ((q + 1) * 7) := y 0 (by omega)
      have x : ∀ f, ms' f q = ms f (q + 1) := fun f => by rw [e, if_pos ⟨z, hq⟩]
      rw [y0, y 1 (by omega), y 2 (by omega), y 3 (by omega), y 4 (by omega), y 5 (by omega), y 6 (by omega), x, x, x, x, x, x, x]
      exact w
    · have w := hM.2 q (by omega)
      have y : ∀ j, j < 7 → mm' (q * 7 + j) = mm (q * 7 + j) := fun j hj => by
        rw [e', if_neg (by omega)]
      have y0 : mm' (q * 7) = mm (q * 7) := y 0 (by omega)
      have x : ∀ f, ms' f q = ms f q := fun f => by rw [e, if_neg (fun v => z v.1)]
      rw [y0, y 1 (by omega), y 2 (by omega), y 3 (by omega), y 4 (by omega), y 5 (by omega), y 6 (by omega), x, x, x, x, x, x, x]
      exact w
  · exact zz_rq_del cnt (by omega) (fun q hq => by
      rw [e]
      by_cases z : i ≤ q
      · rw [if_pos ⟨z, hq⟩, if_pos z]
      · rw [if_neg (fun v => z v.1), if_neg z])
  · intros; rename_i post h
    exact nm_r (nI_pred cnt) ⟨cnt - i + 1, zz_rmX_l (by omega) (cnt - i) i (by omega) ms ms' e post h⟩
  · intros; rename_i post h
    exact br_f (nI_pos (by omega)) (br_t (nI_lt hi (by omega)) (nm_r (nI_pred cnt) (nm_r (zz_x7 i) ⟨cnt * 7 - i * 7 + 1, zz_rmY_l (by omega) (cnt * 7 - i * 7) (i * 7) (by omega) mm mm' e' post h⟩)))
end
section
/-! the getters -/
theorem zz_rp {i : Int32} {f : Nat → Int32} {post : Int32 → Prop} (n : Nat) {N : Nat} (e : i = nI n) (h : n < N) (hN : N < 2 ^ 31) (k : post (f n)) : vp_in i N ∧ post (f i.toNatClampNeg) := by
  subst e
  rw [nI_clamp (by omega)]
  exact ⟨vp_in_nI h hN, k⟩
theorem zz_ix (x : Int32) (n : Nat) (hn : n < 2 ^ 31) : x < 0 ∨ (¬ x < 0 ∧ nI n ≤ x ∧ ¬ x < nI n) ∨ ∃ j, j < n ∧ x = nI j := by
  by_cases h : x < 0
  · exact Or.inl h
  · obtain ⟨j, hj, rfl⟩ := nI_of h
    by_cases h2 : j < n
    · exact Or.inr (Or.inr ⟨j, h2, rfl⟩)
    · exact Or.inr (Or.inl ⟨h, nI_le (by omega) hj, nI_nlt (by omega) hj⟩)
theorem zz_gt {n : Nat} {x : Int32} (h : nI (n + 1) ≤ x) (hn : n + 1 < 2 ^ 31) : nI n < x ∧ ¬ x ≤ nI n := by
  rw [zz_le, nI_toInt hn] at h
  rw [zz_lt, zz_le, nI_toInt (by omega)]
  omega
theorem zz_hd_eq {nb p : Nat} {le : Nat → Nat → Int32} {ha : Nat → Int32} (hH : zz_RH nb le ha) (hp : p < 16) (hb : p % 4 < nb) (k : Int32) : zz_hd (ha (p * 7)) (ha (p * 7 + 2)) k = zz_hd (le 0 p) (le 2 p) k := by
  have h1 : le 0 p = ha (p * 7) := (hH p hp hb).1
  unfold zz_hd
  rw [← h1]
  by_cases q : le 0 p = 0
  · rw [if_pos q, if_pos q]
  · have h2 : le 2 p = ha (p * 7 + 2) := ((hH p hp hb).2.1 q).2.1
    rw [h2]
theorem zz_hd01 (m e k : Int32) : zz_hd m e k = 0 ∨ (zz_hd m e k = 1 ∧ ¬ m = 0) := by
  unfold zz_hd
  by_cases q : m = 0
  · rw [if_pos q]; exact Or.inl rfl
  · rw [if_neg q]
    by_cases w : e ≤ k
    · rw [if_pos w]; exact Or.inl rfl
    · rw [if_neg w]; exact Or.inr ⟨rfl, q⟩
section
variable {nc nb dr lo tm ln lg mc gc : Nat} {pn : Nat → Nat} {dn re : Int32} {ck rt lk : Nat → Int32} {le ne pe ms : Nat → Nat → Int32} {pc bv bw ct ha mm gg pp : Nat → Int32}
theorem zz_g_messageCount (hR : zz_R nc nb dr lo tm ln lg mc gc pn ck rt lk le ne pe ms pc ct ha mm gg pp) : ∃ r : Int32, (∀ post : Int32 → Prop, post r → wpX_messageCount post ((nI nc), (nI nb), (nI dr), (nI lo), (nI tm), (nI ln), dn, re, (nI lg), (nI mc), ck, rt, lk, (le 0), (le 1), (le 2), (le 3), (le 4), (le 5), (le 6), (ne 0), (ne 1), (ne 2), (ne 3), (ne 4), pc, (pe 0), (pe 1), (pe 2), (pe 3), (pe 4), bv, bw, (ms 0), (ms 1), (ms 2), (ms 3), (ms 4), (ms 5), (ms 6))) ∧ (∀ post : Int32 → Prop, post r → wpY_messageCount post ((nI nc), (nI nb), (nI dr), (nI lo), (nI tm), (nI ln), (nI lg), re, (nI mc), (nI gc), dn, ck, rt, ct, bv, bw, ha, mm, gg, pp, pc)) := by
  obtain ⟨⟨c1, c2, b1, b2, d3, l1, l2, t6, n2, g2⟩, hC, hL, hH, ⟨hm, hM⟩, hP, hG, hN⟩ := hR
  exact ⟨nI mc, fun _ h => h, fun _ h => h⟩
theorem zz_g_messageField (hR : zz_R nc nb dr lo tm ln lg mc gc pn ck rt lk le ne pe ms pc ct ha mm gg pp) (v1 v2 : Int32) : ∃ r : Int32, (∀ post : Int32 → Prop, post r → wpX_messageField post ((nI nc), (nI nb), (nI dr), (nI lo), (nI tm), (nI ln), dn, re, (nI lg), (nI mc), ck, rt, lk, (le 0), (le 1), (le 2), (le 3), (le 4), (le 5), (le 6), (ne 0), (ne 1), (ne 2), (ne 3), (ne 4), pc, (pe 0), (pe 1), (pe 2), (pe 3), (pe 4), bv, bw, (ms 0), (ms 1), (ms 2), (ms 3), (ms 4), (ms 5), (ms 6)) v1 v2) ∧ (∀ post : Int32 → Prop, post r → wpY_messageField post ((nI nc), (nI nb), (nI dr), (nI lo), (nI tm), (nI ln), (nI lg), re, (nI mc), (nI gc), dn, ck, rt, ct, bv, bw, ha, mm, gg, pp, pc) v1 v2) := by
  obtain ⟨⟨c1, c2, b1, b2, d3, l1, l2, t6, n2, g2⟩, hC, hL, hH, ⟨hm, hM⟩, hP, hG, hN⟩ := hR
  rcases zz_ix v1 mc (by omega) with a | ⟨a, a1, a2⟩ | ⟨i, hi, rfl⟩
  · exact ⟨-1, fun _ h => br_t a h, fun _ h => br_t a h⟩
  · exact ⟨-1, fun _ h => br_f a (br_f a2 h), fun _ h => br_f a (br_t a1 h)⟩
  · have p0 : ¬ nI i < 0 := nI_pos (by omega)
    have p1 : nI i < nI mc := nI_lt hi (by omega)
    have p2 : ¬ nI mc ≤ nI i := nI_ge hi (by omega)
    obtain ⟨⟨e0, e1, e2, e3, e4, e5, e6⟩, _⟩ := hM i hi
    rcases zz_ix v2 7 (by omega) with b | ⟨b, b1, _⟩ | ⟨j, hj, rfl⟩
    · exact ⟨-1, fun _ h => br_f p0 (br_t p1 (br_t b h)), fun _ h => br_f p0 (br_f p2 (br_t b h))⟩
    · have b' := zz_gt (n := 6) b1 (by omega)
      exact ⟨-1, fun _ h => br_f p0 (br_t p1 (br_f b (br_t b'.1 h))), fun _ h => br_f p0 (br_f p2 (br_f b (br_f b'.2 h)))⟩
    · have q0 : ¬ nI j < 0 := nI_pos (by omega)
      have q1 : ¬ (6 : Int32) < nI j := nI_nlt (a := 6) (by omega) (by omega)
      have q2 : nI j ≤ 6 := nI_le (b := 6) (by omega) (by decide)
      have ix : nI i * 7 + nI j = nI (i * 7 + j) := by rw [zz_x7, nI_add]
      refine ⟨mm (i * 7 + j), fun post h => br_f p0 (br_t p1 (br_f q0 (br_f q1 ?_))), fun post h => br_f p0 (br_f p2 (br_f q0 (br_t q2 (zz_rp (i * 7 + j) ix (by omega) (by decide) h))))⟩
      obtain rfl | rfl | rfl | rfl | rfl | rfl | rfl : j = 0 ∨ j = 1 ∨ j = 2 ∨ j = 3 ∨ j = 4 ∨ j = 5 ∨ j = 6 := by omega
      · have h' : post (ms 0 i) := by rw [e0]; exact h
        exact br_t rfl (zz_rp i rfl (by omega) (by decide) h')
      · have h' : post (ms 1 i) := by rw [e1]; exact h
        exact br_f (by decide) (br_t rfl (zz_rp i rfl (by omega) (by decide) h'))
      · have h' : post (ms 2 i) := by rw [e2]; exact h
        exact br_f (by decide) (br_f (by decide) (br_t rfl (zz_rp i rfl (by omega) (by decide) h')))
      · have h' : post (ms 3 i) := by rw [e3]; exact h
        exact br_f (by decide) (br_f (by decide) (br_f (by decide) (br_t rfl (zz_rp i rfl (by omega) (by decide) h'))))
      · have h' : post (ms 4 i) := by rw [e4]; exact h
        exact br_f (by decide) (br_f (by decide) (br_f (by decide) (br_f (by decide) (br_t rfl (zz_rp i rfl (by omega) (by decide) h')))))
      · have h' : post (ms 5 i) := by rw [e5]; exact h
        exact br_f (by decide) (br_f (by decide) (br_f (by decide) (br_f (by decide) (br_f (by decide) (br_t rfl (zz_rp i rfl (by omega) (by decide) h'))))))
      · have h' : post (ms 6 i) := by rw [e6]; exact h
        exact br_f (by decide) (br_f (by decide) (br_f (by decide) (br_f (by decide) (br_f (by decide) (br_f (by decide) (br_t rfl (zz_rp i rfl (by omega) (by decide) h')))))))
theorem zz_g_stored (hR : zz_R nc nb dr lo tm ln lg mc gc pn ck rt lk le ne pe ms pc ct ha mm gg pp) (v1 : Int32) : ∃ r : Int32, (∀ post : Int32 → Prop, post r → wpX_stored post ((nI nc), (nI nb), (nI dr), (nI lo), (nI tm), (nI ln), dn, re, (nI lg), (nI mc), ck, rt, lk, (le 0), (le 1), (le 2), (le 3), (le 4), (le 5), (le 6), (ne 0), (ne 1), (ne 2), (ne 3), (ne 4), pc, (pe 0), (pe 1), (pe 2), (pe 3), (pe 4), bv, bw, (ms 0), (ms 1), (ms 2), (ms 3), (ms 4), (ms 5), (ms 6)) v1) ∧ (∀ post : Int32 → Prop, post r → wpY_stored post ((nI nc), (nI nb), (nI dr), (nI lo), (nI tm), (nI ln), (nI lg), re, (nI mc), (nI gc), dn, ck, rt, ct, bv, bw, ha, mm, gg, pp, pc) v1) := by
  obtain ⟨⟨c1, c2, b1, b2, d3, l1, l2, t6, n2, g2⟩, hC, hL, hH, ⟨hm, hM⟩, hP, hG, hN⟩ := hR
  rcases zz_ix v1 nb (by omega) with a | ⟨a, a1, a2⟩ | ⟨i, hi, rfl⟩
  · have z : ¬ zz_ok nc nb 0 v1 := by
      rintro ⟨c, b, _, _, _, rfl⟩
      exact nI_pos (by omega) a
    refine ⟨-1, fun _ h => br_t a h, fun post h => ?_⟩
    unfold wpY_stored
    exact zz_pairY0 z c2 b2 (br_f zz_01 h)
  · have z : ¬ zz_ok nc nb 0 v1 := by
      rintro ⟨c, b, _, hb, _, rfl⟩
      exact nI_ge hb (by omega) a1
    refine ⟨-1, fun _ h => br_f a (br_f a2 h), fun post h => ?_⟩
    unfold wpY_stored
    exact zz_pairY0 z c2 b2 (br_f zz_01 h)
  · refine ⟨bv i, fun _ h => br_f (nI_pos (by omega)) (br_t (nI_lt hi (by omega)) (zz_rp i rfl (by omega) (by decide) h)), fun post h => ?_⟩
    unfold wpY_stored
    exact zz_pairY1 (c := 0) (by omega) hi c2 b2 (br_t rfl (zz_rp i rfl (by omega) (by decide) h))
theorem zz_g_lastWrite (hR : zz_R nc nb dr lo tm ln lg mc gc pn ck rt lk le ne pe ms pc ct ha mm gg pp) (v1 : Int32) : ∃ r : Int32, (∀ post : Int32 → Prop, post r → wpX_lastWrite post ((nI nc), (nI nb), (nI dr), (nI lo), (nI tm), (nI ln), dn, re, (nI lg), (nI mc), ck, rt, lk, (le 0), (le 1), (le 2), (le 3), (le 4), (le 5), (le 6), (ne 0), (ne 1), (ne 2), (ne 3), (ne 4), pc, (pe 0), (pe 1), (pe 2), (pe 3), (pe 4), bv, bw, (ms 0), (ms 1), (ms 2), (ms 3), (ms 4), (ms 5), (ms 6)) v1) ∧ (∀ post : Int32 → Prop, post r → wpY_lastWrite post ((nI nc), (nI nb), (nI dr), (nI lo), (nI tm), (nI ln), (nI lg), re, (nI mc), (nI gc), dn, ck, rt, ct, bv, bw, ha, mm, gg, pp, pc) v1) := by
  obtain ⟨⟨c1, c2, b1, b2, d3, l1, l2, t6, n2, g2⟩, hC, hL, hH, ⟨hm, hM⟩, hP, hG, hN⟩ := hR
  rcases zz_ix v1 nb (by omega) with a | ⟨a, a1, a2⟩ | ⟨i, hi, rfl⟩
  · have z : ¬ zz_ok nc nb 0 v1 := by
      rintro ⟨c, b, _, _, _, rfl⟩
      exact nI_pos (by omega) a
    refine ⟨-1, fun _ h => br_t a h, fun post h => ?_⟩
    unfold wpY_lastWrite
    exact zz_pairY0 z c2 b2 (br_f zz_01 h)
  · have z : ¬ zz_ok nc nb 0 v1 := by
      rintro ⟨c, b, _, hb, _, rfl⟩
      exact nI_ge hb (by omega) a1
    refine ⟨-1, fun _ h => br_f a (br_f a2 h), fun post h => ?_⟩
    unfold wpY_lastWrite
    exact zz_pairY0 z c2 b2 (br_f zz_01 h)
  · refine ⟨bw i, fun _ h => br_f (nI_pos (by omega)) (br_t (nI_lt hi (by omega)) (zz_rp i rfl (by omega) (by decide) h)), fun post h => ?_⟩
    unfold wpY_lastWrite
    exact zz_pairY1 (c := 0) (by omega) hi c2 b2 (br_t rfl (zz_rp i rfl (by omega) (by decide) h))
theorem zz_g_pendingCount (hR : zz_R nc nb dr lo tm ln lg mc gc pn ck rt lk le ne pe ms pc ct ha mm gg pp) (v1 : Int32) : ∃ r : Int32, (∀ post : Int32 → Prop, post r → wpX_pendingCount post ((nI nc), (nI nb), (nI dr), (nI lo), (nI tm), (nI ln), dn, re, (nI lg), (nI mc), ck, rt, lk, (le 0), (le 1), (le 2), (le 3), (le 4), (le 5), (le 6), (ne 0), (ne 1), (ne 2), (ne 3), (ne 4), pc, (pe 0), (pe 1), (pe 2), (pe 3), (pe 4), bv, bw, (ms 0), (ms 1), (ms 2), (ms 3), (ms 4), (ms 5), (ms 6)) v1) ∧ (∀ post : Int32 → Prop, post r → wpY_pendingCount post ((nI nc), (nI nb), (nI dr), (nI lo), (nI tm), (nI ln), (nI lg), re, (nI mc), (nI gc), dn, ck, rt, ct, bv, bw, ha, mm, gg, pp, pc) v1) := by
  obtain ⟨⟨c1, c2, b1, b2, d3, l1, l2, t6, n2, g2⟩, hC, hL, hH, ⟨hm, hM⟩, hP, hG, hN⟩ := hR
  rcases zz_ix v1 nb (by omega) with a | ⟨a, a1, a2⟩ | ⟨i, hi, rfl⟩
  · have z : ¬ zz_ok nc nb 0 v1 := by
      rintro ⟨c, b, _, _, _, rfl⟩
      exact nI_pos (by omega) a
    refine ⟨-1, fun _ h => br_t a h, fun post h => ?_⟩
    unfold wpY_pendingCount
    exact zz_pairY0 z c2 b2 (br_f zz_01 h)
  · have z : ¬ zz_ok nc nb 0 v1 := by
      rintro ⟨c, b, _, hb, _, rfl⟩
      exact nI_ge hb (by omega) a1
    refine ⟨-1, fun _ h => br_f a (br_f a2 h), fun post h => ?_⟩
    unfold wpY_pendingCount
    exact zz_pairY0 z c2 b2 (br_f zz_01 h)
  · refine ⟨pc i, fun _ h => br_f (nI_pos (by omega)) (br_t (nI_lt hi (by omega)) (zz_rp i rfl (by omega) (by decide) h)), fun post h => ?_⟩
    unfold wpY_pendingCount
    exact zz_pairY1 (c := 0) (by omega) hi c2 b2 (br_t rfl (zz_rp i rfl (by omega) (by decide) h))
theorem zz_g_pendingField (hR : zz_R nc nb dr lo tm ln lg mc gc pn ck rt lk le ne pe ms pc ct ha mm gg pp) (v1 v2 v3 : Int32) : ∃ r : Int32, (∀ post : Int32 → Prop, post r → wpX_pendingField post ((nI nc), (nI nb), (nI dr), (nI lo), (nI tm), (nI ln), dn, re, (nI lg), (nI mc), ck, rt, lk, (le 0), (le 1), (le 2), (le 3), (le 4), (le 5), (le 6), (ne 0), (ne 1), (ne 2), (ne 3), (ne 4), pc, (pe 0), (pe 1), (pe 2), (pe 3), (pe 4), bv, bw, (ms 0), (ms 1), (ms 2), (ms 3), (ms 4), (ms 5), (ms 6)) v1 v2 v3) ∧ (∀ post : Int32 → Prop, post r → wpY_pendingField post ((nI nc), (nI nb), (nI dr), (nI lo), (nI tm), (nI ln), (nI lg), re, (nI mc), (nI gc), dn, ck, rt, ct, bv, bw, ha, mm, gg, pp, pc) v1 v2 v3) := by
  obtain ⟨⟨c1, c2, b1, b2, d3, l1, l2, t6, n2, g2⟩, hC, hL, hH, ⟨hm, hM⟩, hP, hG, hN⟩ := hR
  rcases zz_ix v1 nb (by omega) with a | ⟨a, a1, a2⟩ | ⟨b, hb, rfl⟩
  · have z : ¬ zz_ok nc nb 0 v1 := by
      rintro ⟨c, b, _, _, _, rfl⟩
      exact nI_pos (by omega) a
    refine ⟨-1, fun _ h => br_t a h, fun post h => ?_⟩
    unfold wpY_pendingField
    exact zz_pairY0 z c2 b2 (br_f zz_01 h)
  · have z : ¬ zz_ok nc nb 0 v1 := by
      rintro ⟨c, b, _, hb, _, rfl⟩
      exact nI_ge hb (by omega) a1
    refine ⟨-1, fun _ h => br_f a (br_f a2 h), fun post h => ?_⟩
    unfold wpY_pendingField
    exact zz_pairY0 z c2 b2 (br_f zz_01 h)
  · have p0 : ¬ nI b < 0 := nI_pos (by omega)
    have p1 : nI b < nI nb := nI_lt hb (by omega)
    have pb : vp_in (nI b) 4 := vp_in_nI (by omega) (by decide)
    have cb : (nI b).toNatClampNeg = b := nI_clamp (by omega)
    obtain ⟨hp1, hp2, _, hp3⟩ := hP b (by omega)
    rcases zz_ix v2 (pn b) (by omega) with q | ⟨q, q1, q2⟩ | ⟨k, hk, rfl⟩
    · refine ⟨-1, fun _ h => br_f p0 (br_t p1 (br_t q h)), fun post h => ?_⟩
      unfold wpY_pendingField
      exact zz_pairY1 (c := 0) (by omega) hb c2 b2 (br_t rfl (br_t q h))
    · refine ⟨-1, fun _ h => br_f p0 (br_t p1 (br_f q ⟨pb, ?_⟩)), fun post h => ?_⟩
      · rw [cb, hp1]; exact br_f q2 h
      · unfold wpY_pendingField
        refine zz_pairY1 (c := 0) (by omega) hb c2 b2 (br_t rfl (br_f q ⟨pb, ?_⟩))
        rw [cb, hp1]; exact br_t q1 h
    · have s0 : ¬ nI k < 0 := nI_pos (by omega)
      have s1 : nI k < nI (pn b) := nI_lt hk (by omega)
      have s2 : ¬ nI (pn b) ≤ nI k := nI_ge hk (by omega)
      obtain ⟨⟨e0, e1, e2, e3, e4⟩, _⟩ := hp3 k hk
      rcases zz_ix v3 5 (by omega) with r | ⟨r, r1, _⟩ | ⟨j, hj, rfl⟩
      · refine ⟨-1, fun _ h => br_f p0 (br_t p1 (br_f s0 ⟨pb, ?_⟩)), fun post h => ?_⟩
        · rw [cb, hp1]; exact br_t s1 (nm_e (br_t r h))
        · unfold wpY_pendingField
          refine zz_pairY1 (c := 0) (by omega) hb c2 b2 (br_t rfl (br_f s0 ⟨pb, ?_⟩))
          rw [cb, hp1]; exact br_f s2 (br_t r h)
      · have r' := zz_gt (n := 4) r1 (by omega)
        refine ⟨-1, fun _ h => br_f p0 (br_t p1 (br_f s0 ⟨pb, ?_⟩)), fun post h => ?_⟩
        · rw [cb, hp1]; exact br_t s1 (nm_e (br_f r (br_t r'.1 h)))
        · unfold wpY_pendingField
          refine zz_pairY1 (c := 0) (by omega) hb c2 b2 (br_t rfl (br_f s0 ⟨pb, ?_⟩))
          rw [cb, hp1]; exact br_f s2 (br_f r (br_f r'.2 h))
      · have q0 : ¬ nI j < 0 := nI_pos (by omega)
        have q1 : ¬ (4 : Int32) < nI j := nI_nlt (a := 4) (by omega) (by omega)
        have q2 : nI j ≤ 4 := nI_le (b := 4) (by omega) (by decide)
        have ix : nI b * 20 + nI k * 5 + nI j = nI (b * 20 + k * 5 + j) := by
          rw [show (20 : Int32) = nI 20 from rfl, show (5 : Int32) = nI 5 from rfl, pk_mul, pk_mul, nI_add, nI_add]
        refine ⟨pp (b * 20 + k * 5 + j), fun post h => br_f p0 (br_t p1 (br_f s0 ⟨pb, ?_⟩)), fun post h => ?_⟩
        · rw [cb, hp1]
          refine br_t s1 (nm_r (zz_p b k) (br_f q0 (br_f q1 ?_)))
          obtain rfl | rfl | rfl | rfl | rfl : j = 0 ∨ j = 1 ∨ j = 2 ∨ j = 3 ∨ j = 4 := by omega
          · have h' : post (pe 0 (b * 4 + k)) := by rw [e0]; exact h
            exact br_t rfl (zz_rp (b * 4 + k) rfl (by omega) (by decide) h')
          · have h' : post (pe 1 (b * 4 + k)) := by rw [e1]; exact h
            exact br_f (by decide) (br_t rfl (zz_rp (b * 4 + k) rfl (by omega) (by decide) h'))
          · have h' : post (pe 2 (b * 4 + k)) := by rw [e2]; exact h
            exact br_f (by decide) (br_f (by decide) (br_t rfl (zz_rp (b * 4 + k) rfl (by omega) (by decide) h')))
          · have h' : post (pe 3 (b * 4 + k)) := by rw [e3]; exact h
            exact br_f (by decide) (br_f (by decide) (br_f (by decide) (br_t rfl (zz_rp (b * 4 + k) rfl (by omega) (by decide) h'))))
          · have h' : post (pe 4 (b * 4 + k)) := by rw [e4]; exact h
            exact br_f (by decide) (br_f (by decide) (br_f (by decide) (br_f (by decide) (br_t rfl (zz_rp (b * 4 + k) rfl (by omega) (by decide) h')))))
        · unfold wpY_pendingField
          refine zz_pairY1 (c := 0) (by omega) hb c2 b2 (br_t rfl (br_f s0 ⟨pb, ?_⟩))
          rw [cb, hp1]
          exact br_f s2 (br_f q0 (br_t q2 (zz_rp (b * 20 + k * 5 + j) ix (by omega) (by decide) h)))
theorem zz_g_nodeField (hR : zz_R nc nb dr lo tm ln lg mc gc pn ck rt lk le ne pe ms pc ct ha mm gg pp) (v1 v2 : Int32) : ∃ r : Int32, (∀ post : Int32 → Prop, post r → wpX_nodeField post ((nI nc), (nI nb), (nI dr), (nI lo), (nI tm), (nI ln), dn, re, (nI lg), (nI mc), ck, rt, lk, (le 0), (le 1), (le 2), (le 3), (le 4), (le 5), (le 6), (ne 0), (ne 1), (ne 2), (ne 3), (ne 4), pc, (pe 0), (pe 1), (pe 2), (pe 3), (pe 4), bv, bw, (ms 0), (ms 1), (ms 2), (ms 3), (ms 4), (ms 5), (ms 6)) v1 v2) ∧ (∀ post : Int32 → Prop, post r → wpY_nodeField post ((nI nc), (nI nb), (nI dr), (nI lo), (nI tm), (nI ln), (nI lg), re, (nI mc), (nI gc), dn, ck, rt, ct, bv, bw, ha, mm, gg, pp, pc) v1 v2) := by
  obtain ⟨⟨c1, c2, b1, b2, d3, l1, l2, t6, n2, g2⟩, hC, hL, hH, ⟨hm, hM⟩, hP, hG, hN⟩ := hR
  rcases zz_ix v1 (nc + 1) (by omega) with a | ⟨a, a1, a2⟩ | ⟨i, hi, rfl⟩
  · exact ⟨-1, fun _ h => br_t a h, fun _ h => br_t a h⟩
  · have a' := zz_gt a1 (by omega)
    exact ⟨-1, fun _ h => br_f a (br_f a'.2 h), fun _ h => br_f a (br_t a'.1 h)⟩
  · have p0 : ¬ nI i < 0 := nI_pos (by omega)
    have p1 : nI i ≤ nI nc := nI_le (by omega) (by omega)
    have p2 : ¬ nI nc < nI i := nI_nlt (by omega) (by omega)
    rcases zz_ix v2 3 (by omega) with b | ⟨b, b1, _⟩ | ⟨j, hj, rfl⟩
    · exact ⟨-1, fun _ h => br_f p0 (br_t p1 (br_t b h)), fun _ h => br_f p0 (br_f p2 (br_t b h))⟩
    · have b' := zz_gt (n := 2) b1 (by omega)
      exact ⟨-1, fun _ h => br_f p0 (br_t p1 (br_f b (br_t b'.1 h))), fun _ h => br_f p0 (br_f p2 (br_f b (br_f b'.2 h)))⟩
    · have q0 : ¬ nI j < 0 := nI_pos (by omega)
      have q1 : ¬ (2 : Int32) < nI j := nI_nlt (a := 2) (by omega) (by omega)
      have q2 : nI j ≤ 2 := nI_le (b := 2) (by omega) (by decide)
      obtain rfl | rfl | rfl : j = 0 ∨ j = 1 ∨ j = 2 := by omega
      · exact ⟨ck i, fun _ h => br_f p0 (br_t p1 (br_f q0 (br_f q1 (br_t rfl (zz_rp i rfl (by omega) (by decide) h))))), fun _ h => br_f p0 (br_f p2 (br_f q0 (br_t q2 (br_f (by decide) (br_t rfl (zz_rp i rfl (by omega) (by decide) h))))))⟩
      · exact ⟨rt i, fun _ h => br_f p0 (br_t p1 (br_f q0 (br_f q1 (br_f (by decide) (br_t rfl (zz_rp i rfl (by omega) (by decide) h)))))), fun _ h => br_f p0 (br_f p2 (br_f q0 (br_t q2 (br_f (by decide) (br_f (by decide) (zz_rp i rfl (by omega) (by decide) h))))))⟩
      · by_cases z : i = nc
        · subst z
          exact ⟨1, fun _ h => br_f p0 (br_t p1 (br_f q0 (br_f q1 (br_f (by decide) (br_f (by decide) (br_t rfl (br_t rfl h))))))), fun _ h => br_f p0 (br_f p2 (br_f q0 (br_t q2 (br_t (by decide) (br_t p1 h)))))⟩
        · have z1 : ¬ nI i = nI nc := by rw [nI_eq (by omega) (by omega)]; exact z
          have z2 : ¬ nI nc ≤ nI i := nI_ge (by omega) (by omega)
          have vi : vp_in (nI i) 4 := vp_in_nI (by omega) (by decide)
          have ci : (nI i).toNatClampNeg = i := nI_clamp (by omega)
          have hl := hL i (by omega)
          by_cases y : lk i = 0
          · refine ⟨0, fun _ h => br_f p0 (br_t p1 (br_f q0 (br_f q1 (br_f (by decide) (br_f (by decide) (br_t rfl (br_f z1 ⟨vi, ?_⟩))))))), fun _ h => br_f p0 (br_f p2 (br_f q0 (br_t q2 (br_t (by decide) (br_f z2 ⟨vi, ?_⟩)))))⟩
            · rw [ci]; exact br_t y h
            · rw [ci]; exact br_f (hl.mp y) h
          · have y' : ct i = 0 := by
              by_cases x : ct i = 0
              · exact x
              · exact (y (hl.mpr x)).elim
            refine ⟨1, fun _ h => br_f p0 (br_t p1 (br_f q0 (br_f q1 (br_f (by decide) (br_f (by decide) (br_t rfl (br_f z1 ⟨vi, ?_⟩))))))), fun _ h => br_f p0 (br_f p2 (br_f q0 (br_t q2 (br_t (by decide) (br_f z2 ⟨vi, ?_⟩)))))⟩
            · rw [ci]; exact br_f y h
            · rw [ci]; exact br_t y' h
theorem zz_g_serverField (hR : zz_R nc nb dr lo tm ln lg mc gc pn ck rt lk le ne pe ms pc ct ha mm gg pp) (v1 : Int32) : ∃ r : Int32, (∀ post : Int32 → Prop, post r → wpX_serverField post ((nI nc), (nI nb), (nI dr), (nI lo), (nI tm), (nI ln), dn, re, (nI lg), (nI mc), ck, rt, lk, (le 0), (le 1), (le 2), (le 3), (le 4), (le 5), (le 6), (ne 0), (ne 1), (ne 2), (ne 3), (ne 4), pc, (pe 0), (pe 1), (pe 2), (pe 3), (pe 4), bv, bw, (ms 0), (ms 1), (ms 2), (ms 3), (ms 4), (ms 5), (ms 6)) v1) ∧ (∀ post : Int32 → Prop, post r → wpY_serverField post ((nI nc), (nI nb), (nI dr), (nI lo), (nI tm), (nI ln), (nI lg), re, (nI mc), (nI gc), dn, ck, rt, ct, bv, bw, ha, mm, gg, pp, pc) v1) := by
  obtain ⟨⟨c1, c2, b1, b2, d3, l1, l2, t6, n2, g2⟩, hC, hL, hH, ⟨hm, hM⟩, hP, hG, hN⟩ := hR
  rcases zz_ix v1 9 (by omega) with a | ⟨a, a1, _⟩ | ⟨j, hj, rfl⟩
  · have z : ∀ j, j < 9 → ¬ v1 = nI j := fun j hj e => nI_pos (n := j) (by omega) (e ▸ a)
    exact ⟨-1, fun _ h => br_t a h, fun _ h => br_f (z 0 (by decide)) (br_f (z 1 (by decide)) (br_f (z 2 (by decide)) (br_f (z 3 (by decide)) (br_f (z 4 (by decide)) (br_f (z 5 (by decide)) (br_f (z 6 (by decide)) (br_f (z 7 (by decide)) (br_f (z 8 (by decide)) h))))))))⟩
  · have z : ∀ j, j < 9 → ¬ v1 = nI j := fun j hj e => nI_ge (b := 9) (a := j) (by omega) (by omega) (e ▸ a1)
    exact ⟨-1, fun _ h => br_f a (br_t (zz_gt (n := 8) a1 (by omega)).1 h), fun _ h => br_f (z 0 (by decide)) (br_f (z 1 (by decide)) (br_f (z 2 (by decide)) (br_f (z 3 (by decide)) (br_f (z 4 (by decide)) (br_f (z 5 (by decide)) (br_f (z 6 (by decide)) (br_f (z 7 (by decide)) (br_f (z 8 (by decide)) h))))))))⟩
  · have q0 : ¬ nI j < 0 := nI_pos (by omega)
    have q1 : ¬ (8 : Int32) < nI j := nI_nlt (a := 8) (by omega) (by omega)
    obtain rfl | rfl | rfl | rfl | rfl | rfl | rfl | rfl | rfl : j = 0 ∨ j = 1 ∨ j = 2 ∨ j = 3 ∨ j = 4 ∨ j = 5 ∨ j = 6 ∨ j = 7 ∨ j = 8 := by omega
    · exact ⟨zz_sv dn re (ck nc), fun _ h => br_f q0 (br_f q1 (br_t rfl (zz_stateX c2 h))), fun _ h => br_t rfl (zz_stateY c2 h)⟩
    · have cn : (nI nc).toNatClampNeg = nc := nI_clamp (by omega)
      have vn : vp_in (nI nc) 5 := vp_in_nI (by omega) (by decide)
      by_cases z : zz_sv dn re (ck nc) = 1
      · refine ⟨re - ck nc, fun _ h => br_f q0 (br_f q1 (br_f (by decide) (br_t rfl (zz_stateX c2 (br_t z ⟨vn, ?_⟩))))), fun _ h => br_f (by decide) (br_t rfl (zz_stateY c2 (br_t z ⟨vn, ?_⟩)))⟩
        · rw [cn]; exact h
        · rw [cn]; exact h
      · exact ⟨0, fun _ h => br_f q0 (br_f q1 (br_f (by decide) (br_t rfl (zz_stateX c2 (br_f z h))))), fun _ h => br_f (by decide) (br_t rfl (zz_stateY c2 (br_f z h)))⟩
    · exact ⟨nI lg, fun _ h => br_f q0 (br_f q1 (br_f (by decide) (br_f (by decide) (br_t rfl h)))), fun _ h => br_f (by decide) (br_f (by decide) (br_t rfl (br_t rfl h)))⟩
    · exact ⟨nI tm, fun _ h => br_f q0 (br_f q1 (br_f (by decide) (br_f (by decide) (br_f (by decide) (br_t rfl h))))), fun _ h => br_f (by decide) (br_f (by decide) (br_f (by decide) (br_t rfl (br_f (by decide) h))))⟩
    · exact ⟨nI ln, fun _ h => br_f q0 (br_f q1 (br_f (by decide) (br_f (by decide) (br_f (by decide) (br_f (by decide) (br_t rfl h)))))), fun _ h => br_f (by decide) (br_f (by decide) (br_f (by decide) (br_f (by decide) (br_t rfl (br_t rfl h)))))⟩
    · exact ⟨nI nc, fun _ h => br_f q0 (br_f q1 (br_f (by decide) (br_f (by decide) (br_f (by decide) (br_f (by decide) (br_f (by decide) (br_t rfl h))))))), fun _ h => br_f (by decide) (br_f (by decide) (br_f (by decide) (br_f (by decide) (br_f (by decide) (br_t rfl (br_f (by decide) h))))))⟩
    · exact ⟨nI nb, fun _ h => br_f q0 (br_f q1 (br_f (by decide) (br_f (by decide) (br_f (by decide) (br_f (by decide) (br_f (by decide) (br_f (by decide) (br_t rfl h)))))))), fun _ h => br_f (by decide) (br_f (by decide) (br_f (by decide) (br_f (by decide) (br_f (by decide) (br_f (by decide) (br_t rfl (br_t rfl h)))))))⟩
    · exact ⟨nI dr, fun _ h => br_f q0 (br_f q1 (br_f (by decide) (br_f (by decide) (br_f (by decide) (br_f (by decide) (br_f (by decide) (br_f (by decide) (br_f (by decide) (br_t rfl h))))))))), fun _ h => br_f (by decide) (br_f (by decide) (br_f (by decide) (br_f (by decide) (br_f (by decide) (br_f (by decide) (br_f (by decide) (br_t rfl (br_f (by decide) h))))))))⟩
    · exact ⟨nI lo, fun _ h => br_f q0 (br_f q1 (br_f (by decide) (br_f (by decide) (br_f (by decide) (br_f (by decide) (br_f (by decide) (br_f (by decide) (br_f (by decide) (br_f (by decide) (br_t rfl h)))))))))), fun _ h => br_f (by decide) (br_f (by decide) (br_f (by decide) (br_f (by decide) (br_f (by decide) (br_f (by decide) (br_f (by decide) (br_f (by decide) (br_t rfl h))))))))⟩
theorem zz_g_read (hR : zz_R nc nb dr lo tm ln lg mc gc pn ck rt lk le ne pe ms pc ct ha mm gg pp) (v1 v2 : Int32) : ∃ r : Int32, (∀ post : Int32 → Prop, post r → wpX_read post ((nI nc), (nI nb), (nI dr), (nI lo), (nI tm), (nI ln), dn, re, (nI lg), (nI mc), ck, rt, lk, (le 0), (le 1), (le 2), (le 3), (le 4), (le 5), (le 6), (ne 0), (ne 1), (ne 2), (ne 3), (ne 4), pc, (pe 0), (pe 1), (pe 2), (pe 3), (pe 4), bv, bw, (ms 0), (ms 1), (ms 2), (ms 3), (ms 4), (ms 5), (ms 6)) v1 v2) ∧ (∀ post : Int32 → Prop, post r → wpY_read post ((nI nc), (nI nb), (nI dr), (nI lo), (nI tm), (nI ln), (nI lg), re, (nI mc), (nI gc), dn, ck, rt, ct, bv, bw, ha, mm, gg, pp, pc) v1 v2) := by
  obtain ⟨⟨c1, c2, b1, b2, d3, l1, l2, t6, n2, g2⟩, hC, hL, hH, ⟨hm, hM⟩, hP, hG, hN⟩ := hR
  by_cases z : zz_ok nc nb v1 v2
  · obtain ⟨c, b, hc, hb, rfl, rfl⟩ := z
    have hp : c * 4 + b < 16 := by omega
    have hq : (c * 4 + b) % 4 < nb := by omega
    have hE := zz_hd_eq hH hp hq (ck c)
    rcases zz_hd01 (le 0 (c * 4 + b)) (le 2 (c * 4 + b)) (ck c) with e | ⟨e, e0⟩
    · rw [e] at hE
      refine ⟨-3, fun post h => ?_, fun post h => ?_⟩
      · unfold wpX_read
        refine zz_pairX1 hc hb c2 b2 (br_f zz_01 (zz_holdsX (by omega) (by omega) ?_))
        rw [e]; exact br_t rfl h
      · unfold wpY_read
        refine zz_pairY1 hc hb c2 b2 (br_t rfl (zz_holdsY (by omega) (by omega) ?_))
        rw [hE]; exact br_t rfl h
    · rw [e] at hE
      have u : le 3 (c * 4 + b) = ha ((c * 4 + b) * 7 + 3) := ((hH _ hp hq).2.1 e0).2.2
      have ix : nI ((c * 4 + b) * 7) + 3 = nI ((c * 4 + b) * 7 + 3) := nI_add _ 3
      refine ⟨if le 3 (c * 4 + b) = 0 then bv b else -5, fun post h => ?_, fun post h => ?_⟩
      · unfold wpX_read
        refine zz_pairX1 hc hb c2 b2 (br_f zz_01 (zz_holdsX (by omega) (by omega) ?_))
        rw [e]
        refine br_f zz_01 ⟨zz_vi _ (zz_p c b) hp (by decide), ?_⟩
        rw [zz_cl (zz_p c b) (by omega), nI_clamp (n := b) (by omega)]
        by_cases y : le 3 (c * 4 + b) = 0
        · rw [if_pos y] at h
          exact br_t y ⟨vp_in_nI (by omega) (by decide), h⟩
        · rw [if_neg y] at h
          exact br_f y h
      · unfold wpY_read
        refine zz_pairY1 hc hb c2 b2 (br_t rfl (zz_holdsY (by omega) (by omega) ?_))
        rw [hE]
        refine br_f zz_01 (zz_cellY ⟨zz_vi _ ix (by omega) (by decide), ?_⟩)
        rw [zz_cl ix (by omega), nI_clamp (n := b) (by omega), ← u]
        by_cases y : le 3 (c * 4 + b) = 0
        · rw [if_pos y] at h
          exact br_t y ⟨vp_in_nI (by omega) (by decide), h⟩
        · rw [if_neg y] at h
          exact br_f y h
  · refine ⟨-1, fun post h => ?_, fun post h => ?_⟩
    · unfold wpX_read
      exact zz_pairX0 z c2 b2 (br_t rfl h)
    · unfold wpY_read
      exact zz_pairY0 z c2 b2 (br_f zz_01 h)
end
end
section
/-! clientField, grantField -/
theorem zz_dlc {e k : Int32} {post : Int32 → Prop} (hk : 0 ≤ k.toInt) (he : 0 ≤ e.toInt) (h : post (zz_dl k e)) : ∀ x, x = e - k → (0 ≤ x → post x) ∧ (¬ 0 ≤ x → post 0) := by
  have a := zz_subT he hk
  unfold zz_dl at h
  refine nm_e (br_c (fun z => ?_) (fun z => ?_))
  · by_cases q : k < e
    · rw [if_pos q] at h; exact h
    · rw [if_neg q] at h
      have e0 : e - k = 0 := by
        apply Int32.toInt_inj.mp
        rw [zz_le, zz_t0, a] at z
        rw [zz_lt] at q
        rw [a, zz_t0]
        omega
      rw [e0]; exact h
  · by_cases q : k < e
    · rw [zz_le, zz_t0, a] at z
      rw [zz_lt] at q
      omega
    · rw [if_neg q] at h; exact h
theorem zz_dlc2 {e k : Int32} {post : Int32 → Prop} {A B : Prop} (hk : 0 ≤ k.toInt) (he : 0 ≤ e.toInt) (fa : post (e - k) → A) (fb : post 0 → B) (h : post (zz_dl k e)) : (k ≤ e → A) ∧ (¬ k ≤ e → B) := by
  have a := zz_subT he hk
  unfold zz_dl at h
  refine br_c (fun z => fa ?_) (fun z => fb ?_)
  · by_cases q : k < e
    · rw [if_pos q] at h; exact h
    · rw [if_neg q] at h
      have e0 : e - k = 0 := by
        apply Int32.toInt_inj.mp
        rw [zz_le] at z
        rw [zz_lt] at q
        rw [a, zz_t0]
        omega
      rw [e0]; exact h
  · have q : ¬ k < e := by
      rw [zz_le] at z
      rw [zz_lt]
      omega
    rw [if_neg q] at h; exact h
theorem zz_unitsX {f_blocks f_drift f_longest f_time f_lastNumber f_down f_recoveryEnd f_longestGranted f_msgCount : Int32} {a_clock a_rate a_linkUp a_leaseMode a_leaseNumber a_leaseEnd a_leaseUnacked a_awaitNumber a_awaitMode a_awaitEnd a_newestNumber a_newestMode a_newestEnd a_maxWriteEnd a_maxAnyEnd a_pendCount a_pendClient a_pendNumber a_pendMode a_pendTerm a_pendMark a_blockValue a_blockWrite a_msgKind a_msgClient a_msgBlock a_msgNumber a_msgLease a_msgMode a_msgLast : Nat → Int32} {nc : Nat} {e : Int32} {post : Int32 → Prop} (hnc : nc ≤ 4) (hk : 0 ≤ (a_clock nc).toInt) (he : 0 ≤ e.toInt) (h : post (zz_dl (a_clock nc) e)) : wpX_unitsLeft post ((nI nc), f_blocks, f_drift, f_longest, f_time, f_lastNumber, f_down, f_recoveryEnd, f_longestGranted, f_msgCount, a_clock, a_rate, a_linkUp, a_leaseMode, a_leaseNumber, a_leaseEnd, a_leaseUnacked, a_awaitNumber, a_awaitMode, a_awaitEnd, a_newestNumber, a_newestMode, a_newestEnd, a_maxWriteEnd, a_maxAnyEnd, a_pendCount, a_pendClient, a_pendNumber, a_pendMode, a_pendTerm, a_pendMark, a_blockValue, a_blockWrite, a_msgKind, a_msgClient, a_msgBlock, a_msgNumber, a_msgLease, a_msgMode, a_msgLast) e := by
  refine ⟨vp_in_nI (by omega) (by decide), ?_⟩
  rw [nI_clamp (n := nc) (by omega)]
  exact zz_dlc hk he h
theorem zz_nwE_nn {g : Nat → Int32} {c b : Int32} {n : Nat} (hg : ∀ i, i < n → 0 ≤ (g (i * 6 + 2)).toInt) : 0 ≤ (zz_nw (zz_hE g) g c b n).toInt := by
  rcases zz_ni_spec g c b n with ⟨_, e, _⟩ | ⟨m, hm, _, e⟩
  · rw [e, zz_t0]; omega
  · rw [e]
    unfold zz_hE
    by_cases q : g (m * 6 + 5) = 1
    · rw [if_pos q, zz_t0]; omega
    · rw [if_neg q]; exact hg m hm
theorem zz_lf_hE {g : Nat → Int32} {k : Int32} {m : Nat} (hk : 0 ≤ k.toInt) : zz_dl k (zz_hE g m) = zz_lf g k m := by
  unfold zz_hE zz_lf
  by_cases q : g (m * 6 + 5) = 1
  · rw [if_pos q, if_pos q]
    exact (zz_dl0 hk (by rw [zz_t0]; omega)).mpr (by rw [zz_le, zz_t0]; exact hk)
  · rw [if_neg q, if_neg q]
section
variable {nc nb dr lo tm ln lg mc gc : Nat} {pn : Nat → Nat} {dn re : Int32} {ck rt lk : Nat → Int32} {le ne pe ms : Nat → Nat → Int32} {pc bv bw ct ha mm gg pp : Nat → Int32}
theorem zz_g_clientField (hR : zz_R nc nb dr lo tm ln lg mc gc pn ck rt lk le ne pe ms pc ct ha mm gg pp) (v1 v2 v3 : Int32) : ∃ r : Int32, (∀ post : Int32 → Prop, post r → wpX_clientField post ((nI nc), (nI nb), (nI dr), (nI lo), (nI tm), (nI ln), dn, re, (nI lg), (nI mc), ck, rt, lk, (le 0), (le 1), (le 2), (le 3), (le 4), (le 5), (le 6), (ne 0), (ne 1), (ne 2), (ne 3), (ne 4), pc, (pe 0), (pe 1), (pe 2), (pe 3), (pe 4), bv, bw, (ms 0), (ms 1), (ms 2), (ms 3), (ms 4), (ms 5), (ms 6)) v1 v2 v3) ∧ (∀ post : Int32 → Prop, post r → wpY_clientField post ((nI nc), (nI nb), (nI dr), (nI lo), (nI tm), (nI ln), (nI lg), re, (nI mc), (nI gc), dn, ck, rt, ct, bv, bw, ha, mm, gg, pp, pc) v1 v2 v3) := by
  obtain ⟨⟨c1, c2, b1, b2, d3, l1, l2, t6, n2, g2⟩, hC, hL, hH, ⟨hm, hM⟩, hP, hG, hN⟩ := hR
  by_cases z : zz_ok nc nb v1 v2
  · obtain ⟨c, b, hc, hb, rfl, rfl⟩ := z
    rcases zz_ix v3 7 (by omega) with r | ⟨r, r1, _⟩ | ⟨j, hj, rfl⟩
    · refine ⟨-1, fun post h => ?_, fun post h => ?_⟩
      · unfold wpX_clientField
        exact zz_pairX1 hc hb c2 b2 (br_f zz_01 (br_t r h))
      · unfold wpY_clientField
        exact zz_pairY1 hc hb c2 b2 (br_t rfl (br_t r h))
    · have r' := zz_gt (n := 6) r1 (by omega)
      refine ⟨-1, fun post h => ?_, fun post h => ?_⟩
      · unfold wpX_clientField
        exact zz_pairX1 hc hb c2 b2 (br_f zz_01 (br_f r (br_f r'.2 h)))
      · unfold wpY_clientField
        exact zz_pairY1 hc hb c2 b2 (br_t rfl (br_f r (br_f r'.2 h)))
    · have q0 : ¬ nI j < 0 := nI_pos (by omega)
      have q2 : nI j ≤ 6 := nI_le (b := 6) (by omega) (by decide)
      have hp : c * 4 + b < 16 := by omega
      have hq : (c * 4 + b) % 4 < nb := by omega
      have vc : vp_in (nI c) 5 := vp_in_nI (by omega) (by decide)
      have cc : (nI c).toNatClampNeg = c := nI_clamp (by omega)
      obtain ⟨k0, k1, k4, k5⟩ := hH _ hp hq
      by_cases j4 : j < 4
      · have q3 : ¬ (3 : Int32) < nI j := nI_nlt (a := 3) (by omega) (by omega)
        have q4 : ¬ (4 : Int32) ≤ nI j := nI_ge (b := 4) (by omega) (by omega)
        have hE := zz_hd_eq hH hp hq (ck c)
        rcases zz_hd01 (le 0 (c * 4 + b)) (le 2 (c * 4 + b)) (ck c) with e | ⟨e, e0⟩
        · rw [e] at hE
          refine ⟨0, fun post h => ?_, fun post h => ?_⟩
          · unfold wpX_clientField
            refine zz_pairX1 hc hb c2 b2 (br_f zz_01 (br_f q0 (br_t q2 (br_f q3 ?_))))
            unfold wpX_leaseField
            refine zz_holdsX (by omega) (by omega) ?_
            rw [e]; exact br_t rfl h
          · unfold wpY_clientField
            refine zz_pairY1 hc hb c2 b2 (br_t rfl (br_f q0 (br_t q2 (zz_cellY (zz_rd ((c * 4 + b) * 7 + j) (nI_add _ _) (by omega) (by decide) (br_f q4 (zz_holdsY (by omega) (by omega) ?_)))))))
            rw [hE]; exact br_t rfl h
        · rw [e] at hE
          obtain ⟨u1, u2, u3⟩ := k1 e0
          obtain rfl | rfl | rfl | rfl : j = 0 ∨ j = 1 ∨ j = 2 ∨ j = 3 := by omega
          · have u : le 0 (c * 4 + b) = ha ((c * 4 + b) * 7 + 0) := k0
            refine ⟨le 0 (c * 4 + b), fun post h => ?_, fun post h => ?_⟩
            · unfold wpX_clientField
              refine zz_pairX1 hc hb c2 b2 (br_f zz_01 (br_f q0 (br_t q2 (br_f q3 ?_))))
              unfold wpX_leaseField
              refine zz_holdsX (by omega) (by omega) ?_
              rw [e]
              refine br_f zz_01 (nm_r (zz_p c b) ?_)
              exact br_t rfl (zz_rp (c * 4 + b) rfl hp (by decide) h)
            · unfold wpY_clientField
              refine zz_pairY1 hc hb c2 b2 (br_t rfl (br_f q0 (br_t q2 (zz_cellY (zz_rd ((c * 4 + b) * 7 + 0) (nI_add _ _) (by omega) (by decide) (br_f q4 (zz_holdsY (by omega) (by omega) ?_)))))))
              rw [hE, ← u]
              refine br_f zz_01 ?_
              unfold wY_clientField_71
              exact br_f (by decide) (br_f (by decide) h)
          · have u : le 1 (c * 4 + b) = ha ((c * 4 + b) * 7 + 1) := u1
            refine ⟨le 1 (c * 4 + b), fun post h => ?_, fun post h => ?_⟩
            · unfold wpX_clientField
              refine zz_pairX1 hc hb c2 b2 (br_f zz_01 (br_f q0 (br_t q2 (br_f q3 ?_))))
              unfold wpX_leaseField
              refine zz_holdsX (by omega) (by omega) ?_
              rw [e]
              refine br_f zz_01 (nm_r (zz_p c b) ?_)
              exact br_f (by decide) (br_t rfl (zz_rp (c * 4 + b) rfl hp (by decide) h))
            · unfold wpY_clientField
              refine zz_pairY1 hc hb c2 b2 (br_t rfl (br_f q0 (br_t q2 (zz_cellY (zz_rd ((c * 4 + b) * 7 + 1) (nI_add _ _) (by omega) (by decide) (br_f q4 (zz_holdsY (by omega) (by omega) ?_)))))))
              rw [hE, ← u]
              refine br_f zz_01 ?_
              unfold wY_clientField_71
              exact br_f (by decide) (br_f (by decide) h)
          · have u : le 2 (c * 4 + b) = ha ((c * 4 + b) * 7 + 2) := u2
            refine ⟨le 2 (c * 4 + b) - ck c, fun post h => ?_, fun post h => ?_⟩
            · unfold wpX_clientField
              refine zz_pairX1 hc hb c2 b2 (br_f zz_01 (br_f q0 (br_t q2 (br_f q3 ?_))))
              unfold wpX_leaseField
              refine zz_holdsX (by omega) (by omega) ?_
              rw [e]
              refine br_f zz_01 (nm_r (zz_p c b) ?_)
              refine br_f (by decide) (br_f (by decide) (br_t rfl ⟨vp_in_nI hp (by decide), vc, ?_⟩))
              rw [nI_clamp (n := c * 4 + b) (by omega), cc]; exact h
            · unfold wpY_clientField
              refine zz_pairY1 hc hb c2 b2 (br_t rfl (br_f q0 (br_t q2 (zz_cellY (zz_rd ((c * 4 + b) * 7 + 2) (nI_add _ _) (by omega) (by decide) (br_f q4 (zz_holdsY (by omega) (by omega) ?_)))))))
              rw [hE, ← u]
              refine br_f zz_01 ?_
              unfold wY_clientField_71
              refine br_t rfl ⟨vc, ?_⟩
              rw [cc]; exact h
          · have u : le 3 (c * 4 + b) = ha ((c * 4 + b) * 7 + 3) := u3
            refine ⟨le 3 (c * 4 + b), fun post h => ?_, fun post h => ?_⟩
            · unfold wpX_clientField
              refine zz_pairX1 hc hb c2 b2 (br_f zz_01 (br_f q0 (br_t q2 (br_f q3 ?_))))
              unfold wpX_leaseField
              refine zz_holdsX (by omega) (by omega) ?_
              rw [e]
              refine br_f zz_01 (nm_r (zz_p c b) ?_)
              exact br_f (by decide) (br_f (by decide) (br_f (by decide) (zz_rp (c * 4 + b) rfl hp (by decide) h)))
            · unfold wpY_clientField
              refine zz_pairY1 hc hb c2 b2 (br_t rfl (br_f q0 (br_t q2 (zz_cellY (zz_rd ((c * 4 + b) * 7 + 3) (nI_add _ _) (by omega) (by decide) (br_f q4 (zz_holdsY (by omega) (by omega) ?_)))))))
              rw [hE, ← u]
              refine br_f zz_01 ?_
              unfold wY_clientField_71
              exact br_f (by decide) (br_f (by decide) h)
      · have q3 : (3 : Int32) < nI j := nI_lt (a := 3) (by omega) (by omega)
        have q4 : (4 : Int32) ≤ nI j := nI_le (a := 4) (by omega) (by omega)
        have i4 : nI ((c * 4 + b) * 7) + 4 = nI ((c * 4 + b) * 7 + 4) := nI_add _ 4
        have vp : vp_in (nI (c * 4 + b)) 16 := vp_in_nI hp (by decide)
        have cp : (nI (c * 4 + b)).toNatClampNeg = c * 4 + b := nI_clamp (by omega)
        by_cases e0 : le 4 (c * 4 + b) = 0
        · refine ⟨0, fun post h => ?_, fun post h => ?_⟩
          · unfold wpX_clientField
            refine zz_pairX1 hc hb c2 b2 (br_f zz_01 (br_f q0 (br_t q2 (br_t q3 (nm_r (zz_p c b) ⟨vp, ?_⟩)))))
            rw [cp]; exact br_t e0 h
          · unfold wpY_clientField
            refine zz_pairY1 hc hb c2 b2 (br_t rfl (br_f q0 (br_t q2 (zz_cellY (zz_rd ((c * 4 + b) * 7 + j) (nI_add _ _) (by omega) (by decide) (br_t q4 ⟨zz_vi _ i4 (by omega) (by decide), ?_⟩))))))
            rw [zz_cl i4 (by omega)]
            exact br_t (k4.symm.trans e0) h
        · obtain ⟨u5, u6, w1, w2⟩ := k5 e0
          have k4' : ¬ ha ((c * 4 + b) * 7 + 4) = 0 := fun z => e0 (k4.trans z)
          obtain rfl | rfl | rfl : j = 4 ∨ j = 5 ∨ j = 6 := by omega
          · have u : le 4 (c * 4 + b) = ha ((c * 4 + b) * 7 + 4) := k4
            refine ⟨le 4 (c * 4 + b), fun post h => ?_, fun post h => ?_⟩
            · unfold wpX_clientField
              refine zz_pairX1 hc hb c2 b2 (br_f zz_01 (br_f q0 (br_t q2 (br_t q3 (nm_r (zz_p c b) ⟨vp, ?_⟩)))))
              rw [cp]
              exact br_f e0 (br_t rfl ⟨vp, h⟩)
            · unfold wpY_clientField
              refine zz_pairY1 hc hb c2 b2 (br_t rfl (br_f q0 (br_t q2 (zz_cellY (zz_rd ((c * 4 + b) * 7 + 4) (nI_add _ _) (by omega) (by decide) (br_t q4 ⟨zz_vi _ i4 (by omega) (by decide), ?_⟩))))))
              rw [zz_cl i4 (by omega)]
              refine br_f k4' ?_
              rw [← u]
              unfold wY_clientField_71
              exact br_f (by decide) (br_f (by decide) h)
          · have u : le 5 (c * 4 + b) = ha ((c * 4 + b) * 7 + 5) := u5
            refine ⟨le 5 (c * 4 + b), fun post h => ?_, fun post h => ?_⟩
            · unfold wpX_clientField
              refine zz_pairX1 hc hb c2 b2 (br_f zz_01 (br_f q0 (br_t q2 (br_t q3 (nm_r (zz_p c b) ⟨vp, ?_⟩)))))
              rw [cp]
              exact br_f e0 (br_f (by decide) (br_t rfl ⟨vp, h⟩))
            · unfold wpY_clientField
              refine zz_pairY1 hc hb c2 b2 (br_t rfl (br_f q0 (br_t q2 (zz_cellY (zz_rd ((c * 4 + b) * 7 + 5) (nI_add _ _) (by omega) (by decide) (br_t q4 ⟨zz_vi _ i4 (by omega) (by decide), ?_⟩))))))
              rw [zz_cl i4 (by omega)]
              refine br_f k4' ?_
              rw [← u]
              unfold wY_clientField_71
              exact br_f (by decide) (br_f (by decide) h)
          · have u : le 6 (c * 4 + b) = ha ((c * 4 + b) * 7 + 6) := u6
            refine ⟨zz_dl (ck c) (le 6 (c * 4 + b)), fun post h => ?_, fun post h => ?_⟩
            · unfold wpX_clientField
              refine zz_pairX1 hc hb c2 b2 (br_f zz_01 (br_f q0 (br_t q2 (br_t q3 (nm_r (zz_p c b) ⟨vp, ?_⟩)))))
              rw [cp]
              refine br_f e0 (br_f (by decide) (br_f (by decide) ⟨vp, vc, ?_⟩))
              rw [cc]
              exact zz_dlc (hC c (by omega)).1 w1 h
            · unfold wpY_clientField
              refine zz_pairY1 hc hb c2 b2 (br_t rfl (br_f q0 (br_t q2 (zz_cellY (zz_rd ((c * 4 + b) * 7 + 6) (nI_add _ _) (by omega) (by decide) (br_t q4 ⟨zz_vi _ i4 (by omega) (by decide), ?_⟩))))))
              rw [zz_cl i4 (by omega)]
              refine br_f k4' ?_
              rw [← u]
              unfold wY_clientField_71
              refine br_f (by decide) (br_t rfl ⟨vc, ?_⟩)
              rw [cc]
              refine zz_dlc2 (hC c (by omega)).1 w1 (fun q => ⟨vc, q⟩) (fun q => q) h
  · refine ⟨-1, fun post h => ?_, fun post h => ?_⟩
    · unfold wpX_clientField
      exact zz_pairX0 z c2 b2 (br_t rfl h)
    · unfold wpY_clientField
      exact zz_pairY0 z c2 b2 (br_f zz_01 h)
theorem zz_g_grantField (hR : zz_R nc nb dr lo tm ln lg mc gc pn ck rt lk le ne pe ms pc ct ha mm gg pp) (v1 v2 v3 : Int32) : ∃ r : Int32, (∀ post : Int32 → Prop, post r → wpX_grantField post ((nI nc), (nI nb), (nI dr), (nI lo), (nI tm), (nI ln), dn, re, (nI lg), (nI mc), ck, rt, lk, (le 0), (le 1), (le 2), (le 3), (le 4), (le 5), (le 6), (ne 0), (ne 1), (ne 2), (ne 3), (ne 4), pc, (pe 0), (pe 1), (pe 2), (pe 3), (pe 4), bv, bw, (ms 0), (ms 1), (ms 2), (ms 3), (ms 4), (ms 5), (ms 6)) v1 v2 v3) ∧ (∀ post : Int32 → Prop, post r → wpY_grantField post ((nI nc), (nI nb), (nI dr), (nI lo), (nI tm), (nI ln), (nI lg), re, (nI mc), (nI gc), dn, ck, rt, ct, bv, bw, ha, mm, gg, pp, pc) v1 v2 v3) := by
  obtain ⟨⟨c1, c2, b1, b2, d3, l1, l2, t6, n2, g2⟩, hC, hL, hH, ⟨hm, hM⟩, hP, hG, hN⟩ := hR
  obtain ⟨⟨g0, g1⟩, hG⟩ := hG
  have hk : 0 ≤ (ck nc).toInt := (hC nc (by omega)).1
  have hg : ∀ i, i < gc → 0 ≤ (gg (i * 6 + 2)).toInt := fun i hi => (g1 i hi).2.1
  by_cases z : zz_ok nc nb v1 v2
  · obtain ⟨c, b, hc, hb, rfl, rfl⟩ := z
    rcases zz_ix v3 5 (by omega) with r | ⟨r, r1, _⟩ | ⟨j, hj, rfl⟩
    · refine ⟨-1, fun post h => ?_, fun post h => ?_⟩
      · unfold wpX_grantField
        exact zz_pairX1 hc hb c2 b2 (br_f zz_01 (nm_e (br_t r h)))
      · unfold wpY_grantField
        exact zz_pairY1 hc hb c2 b2 (br_t rfl (br_t r h))
    · have r' := zz_gt (n := 4) r1 (by omega)
      refine ⟨-1, fun post h => ?_, fun post h => ?_⟩
      · unfold wpX_grantField
        exact zz_pairX1 hc hb c2 b2 (br_f zz_01 (nm_e (br_f r (br_t r'.1 h))))
      · unfold wpY_grantField
        exact zz_pairY1 hc hb c2 b2 (br_t rfl (br_f r (br_f r'.2 h)))
    · have q0 : ¬ nI j < 0 := nI_pos (by omega)
      have q1 : ¬ (4 : Int32) < nI j := nI_nlt (a := 4) (by omega) (by omega)
      have q2 : nI j ≤ 4 := nI_le (b := 4) (by omega) (by decide)
      have hp : c * 4 + b < 16 := by omega
      have vp : vp_in (nI (c * 4 + b)) 16 := vp_in_nI hp (by decide)
      have cp : (nI (c * 4 + b)).toNatClampNeg = c * 4 + b := nI_clamp (by omega)
      obtain ⟨k0, k1, k2, k3, k4⟩ := hG c b hc hb
      have ns := zz_ni_spec gg (nI c) (nI b) gc
      have x2 := zz_nwE_nn (c := nI c) (b := nI b) hg
      have x3 := zz_mx_b (g := gg) (c := nI c) (b := nI b) (l := 2) gc hg
      have x4 := zz_mx_b (g := gg) (c := nI c) (b := nI b) (l := 1) gc hg
      obtain rfl | rfl | rfl | rfl | rfl : j = 0 ∨ j = 1 ∨ j = 2 ∨ j = 3 ∨ j = 4 := by omega
      · refine ⟨ne 0 (c * 4 + b), fun post h => ?_, fun post h => ?_⟩
        · unfold wpX_grantField
          refine zz_pairX1 hc hb c2 b2 (br_f zz_01 (nm_r (zz_p c b) (br_f q0 (br_f q1 ?_))))
          exact br_t rfl (zz_rp (c * 4 + b) rfl hp (by decide) h)
        · unfold wpY_grantField
          refine zz_pairY1 hc hb c2 b2 (br_t rfl (br_f q0 (br_t q2 (br_f (by decide) (br_f (by decide) (zz_newestY g0 ?_))))))
          rw [k0] at h
          rcases ns with ⟨e, e1, _⟩ | ⟨m, hm', e, e1⟩
          · rw [e]
            rw [e1] at h
            exact br_f (by decide) h
          · rw [e]
            rw [e1] at h
            exact br_t (nI_pos' (by omega)) (br_f (by decide) (zz_rp (m * 6 + 0) (zz_x6 m 0) (by omega) (by decide) h))
      · refine ⟨ne 1 (c * 4 + b), fun post h => ?_, fun post h => ?_⟩
        · unfold wpX_grantField
          refine zz_pairX1 hc hb c2 b2 (br_f zz_01 (nm_r (zz_p c b) (br_f q0 (br_f q1 ?_))))
          exact br_f (by decide) (br_t rfl (zz_rp (c * 4 + b) rfl hp (by decide) h))
        · unfold wpY_grantField
          refine zz_pairY1 hc hb c2 b2 (br_t rfl (br_f q0 (br_t q2 (br_f (by decide) (br_f (by decide) (zz_newestY g0 ?_))))))
          rw [k1] at h
          rcases ns with ⟨e, e1, _⟩ | ⟨m, hm', e, e1⟩
          · rw [e]
            rw [e1] at h
            exact br_f (by decide) h
          · rw [e]
            rw [e1] at h
            exact br_t (nI_pos' (by omega)) (br_f (by decide) (zz_rp (m * 6 + 1) (zz_x6 m 1) (by omega) (by decide) h))
      · refine ⟨zz_dl (ck nc) (ne 2 (c * 4 + b)), fun post h => ?_, fun post h => ?_⟩
        · unfold wpX_grantField
          refine zz_pairX1 hc hb c2 b2 (br_f zz_01 (nm_r (zz_p c b) (br_f q0 (br_f q1 ?_))))
          refine br_f (by decide) (br_f (by decide) (br_t rfl ⟨vp, ?_⟩))
          rw [cp]
          exact zz_unitsX c2 hk (by rw [k2]; exact x2) h
        · unfold wpY_grantField
          refine zz_pairY1 hc hb c2 b2 (br_t rfl (br_f q0 (br_t q2 (br_f (by decide) (br_f (by decide) (zz_newestY g0 ?_))))))
          rw [k2] at h
          rcases ns with ⟨e, e1, _⟩ | ⟨m, hm', e, e1⟩
          · rw [e]
            rw [e1] at h
            rw [(zz_dl0 hk (by rw [zz_t0]; omega)).mpr (by rw [zz_le, zz_t0]; exact hk)] at h
            exact br_f (by decide) h
          · rw [e]
            rw [e1] at h
            rw [zz_lf_hE hk] at h
            exact br_t (nI_pos' (by omega)) (br_t rfl (zz_leftY (by omega) c2 h))
      · refine ⟨zz_dl (ck nc) (ne 3 (c * 4 + b)), fun post h => ?_, fun post h => ?_⟩
        · unfold wpX_grantField
          refine zz_pairX1 hc hb c2 b2 (br_f zz_01 (nm_r (zz_p c b) (br_f q0 (br_f q1 ?_))))
          refine br_f (by decide) (br_f (by decide) (br_f (by decide) (br_t rfl ⟨vp, ?_⟩)))
          rw [cp]
          exact zz_unitsX c2 hk (by rw [k3]; exact x3) h
        · unfold wpY_grantField
          refine zz_pairY1 hc hb c2 b2 (br_t rfl (br_f q0 (br_t q2 (br_t rfl ?_))))
          rw [k3] at h
          exact zz_unitsY g0 c2 hk hg h
      · refine ⟨zz_dl (ck nc) (ne 4 (c * 4 + b)), fun post h => ?_, fun post h => ?_⟩
        · unfold wpX_grantField
          refine zz_pairX1 hc hb c2 b2 (br_f zz_01 (nm_r (zz_p c b) (br_f q0 (br_f q1 ?_))))
          refine br_f (by decide) (br_f (by decide) (br_f (by decide) (br_f (by decide) (br_t rfl ⟨vp, ?_⟩))))
          rw [cp]
          exact zz_unitsX c2 hk (by rw [k4]; exact x4) h
        · unfold wpY_grantField
          refine zz_pairY1 hc hb c2 b2 (br_t rfl (br_f q0 (br_t q2 (br_f (by decide) (br_t rfl ?_)))))
          rw [k4] at h
          exact zz_unitsY g0 c2 hk hg h
  · refine ⟨-1, fun post h => ?_, fun post h => ?_⟩
    · unfold wpX_grantField
      exact zz_pairX0 z c2 b2 (br_t rfl h)
    · unfold wpY_grantField
      exact zz_pairY0 z c2 b2 (br_f zz_01 h)
end
end
section
/-! the storing methods but deliver and advance -/
theorem zz_RH_upd {nb p : Nat} {le le' : Nat → Nat → Int32} {ha ha' : Nat → Int32} (hH : zz_RH nb le ha) (k : ∀ q, q ≠ p → le' 0 q = le 0 q ∧ le' 1 q = le 1 q ∧ le' 2 q = le 2 q ∧ le' 3 q = le 3 q ∧ le' 4 q = le 4 q ∧ le' 5 q = le 5 q ∧ le' 6 q = le 6 q) (k' : ∀ j, (j < p * 7 ∨ p * 7 + 7 ≤ j) → ha' j = ha j) (hp : zz_cell (fun f => le' f p) (fun f => ha' (p * 7 + f))) : zz_RH nb le' ha' := by
  intro q hq hb
  by_cases z : q = p
  · subst z; exact hp
  · obtain ⟨e0, e1, e2, e3, e4, e5, e6⟩ := k q z
    have w := hH q hq hb
    have y : ∀ f, f < 7 → ha' (q * 7 + f) = ha (q * 7 + f) := fun f hf => k' _ (by omega)
    show le' 0 q = ha' (q * 7 + 0) ∧ (¬ le' 0 q = 0 → le' 1 q = ha' (q * 7 + 1) ∧ le' 2 q = ha' (q * 7 + 2) ∧ le' 3 q = ha' (q * 7 + 3)) ∧ le' 4 q = ha' (q * 7 + 4) ∧ (¬ le' 4 q = 0 → le' 5 q = ha' (q * 7 + 5) ∧ le' 6 q = ha' (q * 7 + 6) ∧ 0 ≤ (le' 6 q).toInt ∧ (le' 6 q).toInt ≤ 1000000)
    rw [e0, e1, e2, e3, e4, e5, e6, y 0 (by omega), y 1 (by omega), y 2 (by omega), y 3 (by omega), y 4 (by omega), y 5 (by omega), y 6 (by omega)]
    exact w
theorem zz_dropLX {f_clients f_blocks f_drift f_longest f_time f_lastNumber f_down f_recoveryEnd f_longestGranted f_msgCount : Int32} {a_clock a_rate a_linkUp a_leaseMode a_leaseNumber a_leaseEnd a_leaseUnacked a_awaitNumber a_awaitMode a_awaitEnd a_newestNumber a_newestMode a_newestEnd a_maxWriteEnd a_maxAnyEnd a_pendCount a_pendClient a_pendNumber a_pendMode a_pendTerm a_pendMark a_blockValue a_blockWrite a_msgKind a_msgClient a_msgBlock a_msgNumber a_msgLease a_msgMode a_msgLast : Nat → Int32} {p : Nat} {post : SX → Prop} (hp : p < 16) (h : post (f_clients, f_blocks, f_drift, f_longest, f_time, f_lastNumber, f_down, f_recoveryEnd, f_longestGranted, f_msgCount, a_clock, a_rate, a_linkUp, (upd a_leaseMode p 0), (upd a_leaseNumber p 0), (upd a_leaseEnd p 0), (upd a_leaseUnacked p 0), a_awaitNumber, a_awaitMode, a_awaitEnd, a_newestNumber, a_newestMode, a_newestEnd, a_maxWriteEnd, a_maxAnyEnd, a_pendCount, a_pendClient, a_pendNumber, a_pendMode, a_pendTerm, a_pendMark, a_blockValue, a_blockWrite, a_msgKind, a_msgClient, a_msgBlock, a_msgNumber, a_msgLease, a_msgMode, a_msgLast)) : wpX_dropLease post (f_clients, f_blocks, f_drift, f_longest, f_time, f_lastNumber, f_down, f_recoveryEnd, f_longestGranted, f_msgCount, a_clock, a_rate, a_linkUp, a_leaseMode, a_leaseNumber, a_leaseEnd, a_leaseUnacked, a_awaitNumber, a_awaitMode, a_awaitEnd, a_newestNumber, a_newestMode, a_newestEnd, a_maxWriteEnd, a_maxAnyEnd, a_pendCount, a_pendClient, a_pendNumber, a_pendMode, a_pendTerm, a_pendMark, a_blockValue, a_blockWrite, a_msgKind, a_msgClient, a_msgBlock, a_msgNumber, a_msgLease, a_msgMode, a_msgLast) (nI p) :=
  zz_st p rfl hp (by decide) (zz_st p rfl hp (by decide) (zz_st p rfl hp (by decide) (zz_st p rfl hp (by decide) h)))
theorem zz_dropAX {f_clients f_blocks f_drift f_longest f_time f_lastNumber f_down f_recoveryEnd f_longestGranted f_msgCount : Int32} {a_clock a_rate a_linkUp a_leaseMode a_leaseNumber a_leaseEnd a_leaseUnacked a_awaitNumber a_awaitMode a_awaitEnd a_newestNumber a_newestMode a_newestEnd a_maxWriteEnd a_maxAnyEnd a_pendCount a_pendClient a_pendNumber a_pendMode a_pendTerm a_pendMark a_blockValue a_blockWrite a_msgKind a_msgClient a_msgBlock a_msgNumber a_msgLease a_msgMode a_msgLast : Nat → Int32} {p : Nat} {post : SX → Prop} (hp : p < 16) (h : post (f_clients, f_blocks, f_drift, f_longest, f_time, f_lastNumber, f_down, f_recoveryEnd, f_longestGranted, f_msgCount, a_clock, a_rate, a_linkUp, a_leaseMode, a_leaseNumber, a_leaseEnd, a_leaseUnacked, (upd a_awaitNumber p 0), (upd a_awaitMode p 0), (upd a_awaitEnd p 0), a_newestNumber, a_newestMode, a_newestEnd, a_maxWriteEnd, a_maxAnyEnd, a_pendCount, a_pendClient, a_pendNumber, a_pendMode, a_pendTerm, a_pendMark, a_blockValue, a_blockWrite, a_msgKind, a_msgClient, a_msgBlock, a_msgNumber, a_msgLease, a_msgMode, a_msgLast)) : wpX_dropAwaited post (f_clients, f_blocks, f_drift, f_longest, f_time, f_lastNumber, f_down, f_recoveryEnd, f_longestGranted, f_msgCount, a_clock, a_rate, a_linkUp, a_leaseMode, a_leaseNumber, a_leaseEnd, a_leaseUnacked, a_awaitNumber, a_awaitMode, a_awaitEnd, a_newestNumber, a_newestMode, a_newestEnd, a_maxWriteEnd, a_maxAnyEnd, a_pendCount, a_pendClient, a_pendNumber, a_pendMode, a_pendTerm, a_pendMark, a_blockValue, a_blockWrite, a_msgKind, a_msgClient, a_msgBlock, a_msgNumber, a_msgLease, a_msgMode, a_msgLast) (nI p) :=
  zz_st p rfl hp (by decide) (zz_st p rfl hp (by decide) (zz_st p rfl hp (by decide) h))
theorem zz_endGX {f_clients f_blocks f_drift f_longest f_time f_lastNumber f_down f_recoveryEnd f_longestGranted f_msgCount : Int32} {a_clock a_rate a_linkUp a_leaseMode a_leaseNumber a_leaseEnd a_leaseUnacked a_awaitNumber a_awaitMode a_awaitEnd a_newestNumber a_newestMode a_newestEnd a_maxWriteEnd a_maxAnyEnd a_pendCount a_pendClient a_pendNumber a_pendMode a_pendTerm a_pendMark a_blockValue a_blockWrite a_msgKind a_msgClient a_msgBlock a_msgNumber a_msgLease a_msgMode a_msgLast : Nat → Int32} {p : Nat} {post : SX → Prop} (hp : p < 16) (h : post (f_clients, f_blocks, f_drift, f_longest, f_time, f_lastNumber, f_down, f_recoveryEnd, f_longestGranted, f_msgCount, a_clock, a_rate, a_linkUp, a_leaseMode, a_leaseNumber, a_leaseEnd, a_leaseUnacked, a_awaitNumber, a_awaitMode, a_awaitEnd, a_newestNumber, a_newestMode, (upd a_newestEnd p 0), (upd a_maxWriteEnd p 0), (upd a_maxAnyEnd p 0), a_pendCount, a_pendClient, a_pendNumber, a_pendMode, a_pendTerm, a_pendMark, a_blockValue, a_blockWrite, a_msgKind, a_msgClient, a_msgBlock, a_msgNumber, a_msgLease, a_msgMode, a_msgLast)) : wpX_endGrants post (f_clients, f_blocks, f_drift, f_longest, f_time, f_lastNumber, f_down, f_recoveryEnd, f_longestGranted, f_msgCount, a_clock, a_rate, a_linkUp, a_leaseMode, a_leaseNumber, a_leaseEnd, a_leaseUnacked, a_awaitNumber, a_awaitMode, a_awaitEnd, a_newestNumber, a_newestMode, a_newestEnd, a_maxWriteEnd, a_maxAnyEnd, a_pendCount, a_pendClient, a_pendNumber, a_pendMode, a_pendTerm, a_pendMark, a_blockValue, a_blockWrite, a_msgKind, a_msgClient, a_msgBlock, a_msgNumber, a_msgLease, a_msgMode, a_msgLast) (nI p) :=
  zz_st p rfl hp (by decide) (zz_st p rfl hp (by decide) (zz_st p rfl hp (by decide) h))
section
variable {nc nb dr lo tm ln lg mc gc : Nat} {pn : Nat → Nat} {dn re : Int32} {ck rt lk : Nat → Int32} {le ne pe ms : Nat → Nat → Int32} {pc bv bw ct ha mm gg pp : Nat → Int32}
theorem zz_s_request (hR : zz_R nc nb dr lo tm ln lg mc gc pn ck rt lk le ne pe ms pc ct ha mm gg pp) (v1 v2 v3 v4 : Int32) : ∃ (r : Int32) (u' : SX) (v' : SY), i_Rel 0 u' v' ∧ (∀ post : Int32 → SX → Prop, post r u' → wpX_request post ((nI nc), (nI nb), (nI dr), (nI lo), (nI tm), (nI ln), dn, re, (nI lg), (nI mc), ck, rt, lk, (le 0), (le 1), (le 2), (le 3), (le 4), (le 5), (le 6), (ne 0), (ne 1), (ne 2), (ne 3), (ne 4), pc, (pe 0), (pe 1), (pe 2), (pe 3), (pe 4), bv, bw, (ms 0), (ms 1), (ms 2), (ms 3), (ms 4), (ms 5), (ms 6)) v1 v2 v3 v4) ∧ (∀ post : Int32 → SY → Prop, post r v' → wpY_request post ((nI nc), (nI nb), (nI dr), (nI lo), (nI tm), (nI ln), (nI lg), re, (nI mc), (nI gc), dn, ck, rt, ct, bv, bw, ha, mm, gg, pp, pc) v1 v2 v3 v4) := by
  have hR0 := hR
  obtain ⟨⟨c1, c2, b1, b2, d3, l1, l2, t6, n2, g2⟩, hC, hL, hH, hM, hP, hG, hN⟩ := hR
  by_cases z : zz_ok nc nb v1 v2
  · obtain ⟨c, b, hc, hb, rfl, rfl⟩ := z
    by_cases m : v3 = 1 ∨ v3 = 2
    · have X0 : ∀ post, wX_request_23 post (nI c) (nI b) v3 v4 (nI nc) (nI nb) (nI dr) (nI lo) (nI tm) (nI ln) dn re (nI lg) (nI mc) ck rt lk (le 0) (le 1) (le 2) (le 3) (le 4) (le 5) (le 6) (ne 0) (ne 1) (ne 2) (ne 3) (ne 4) pc (pe 0) (pe 1) (pe 2) (pe 3) (pe 4) bv bw (ms 0) (ms 1) (ms 2) (ms 3) (ms 4) (ms 5) (ms 6) → wpX_request post ((nI nc), (nI nb), (nI dr), (nI lo), (nI tm), (nI ln), dn, re, (nI lg), (nI mc), ck, rt, lk, (le 0), (le 1), (le 2), (le 3), (le 4), (le 5), (le 6), (ne 0), (ne 1), (ne 2), (ne 3), (ne 4), pc, (pe 0), (pe 1), (pe 2), (pe 3), (pe 4), bv, bw, (ms 0), (ms 1), (ms 2), (ms 3), (ms 4), (ms 5), (ms 6)) (nI c) (nI b) v3 v4 := fun post h => by
        unfold wpX_request
        refine zz_pairX1 hc hb c2 b2 (br_f zz_01 ?_)
        rcases m with m | m
        · exact br_t m h
        · exact br_f (by rw [m]; decide) (br_t m h)
      have Y0 : ∀ post, wY_request_19 post (nI c) (nI b) v3 v4 (nI nc) (nI nb) (nI dr) (nI lo) (nI tm) (nI ln) (nI lg) re (nI mc) (nI gc) dn ck rt ct bv bw ha mm gg pp pc → wpY_request post ((nI nc), (nI nb), (nI dr), (nI lo), (nI tm), (nI ln), (nI lg), re, (nI mc), (nI gc), dn, ck, rt, ct, bv, bw, ha, mm, gg, pp, pc) (nI c) (nI b) v3 v4 := fun post h => by
        unfold wpY_request
        refine zz_pairY1 hc hb c2 b2 (br_t rfl ?_)
        rcases m with m | m
        · exact br_t m h
        · exact br_f (by rw [m]; decide) (br_t m h)
      by_cases t1 : v4 < 1
      · exact ⟨-1, ((nI nc), (nI nb), (nI dr), (nI lo), (nI tm), (nI ln), dn, re, (nI lg), (nI mc), ck, rt, lk, (le 0), (le 1), (le 2), (le 3), (le 4), (le 5), (le 6), (ne 0), (ne 1), (ne 2), (ne 3), (ne 4), pc, (pe 0), (pe 1), (pe 2), (pe 3), (pe 4), bv, bw, (ms 0), (ms 1), (ms 2), (ms 3), (ms 4), (ms 5), (ms 6)), ((nI nc), (nI nb), (nI dr), (nI lo), (nI tm), (nI ln), (nI lg), re, (nI mc), (nI gc), dn, ck, rt, ct, bv, bw, ha, mm, gg, pp, pc), zz_rel hR0, fun post h => X0 post (br_t t1 h), fun post h => Y0 post (br_t t1 h)⟩
      · by_cases t2 : v4 ≤ nI lo
        · obtain ⟨t, ht, rfl⟩ : ∃ t, t ≤ 20 ∧ v4 = nI t := by
            have a : ¬ v4 < 0 := by
              rw [zz_lt, zz_t1] at t1; rw [zz_lt, zz_t0]; omega
            obtain ⟨t, ht, rfl⟩ := nI_of a
            rw [nI_leI ht (by omega)] at t2
            exact ⟨t, by omega, rfl⟩
          by_cases n1 : ln < 250
          · have hok : zz_mok nc nb 1 (nI c) (nI b) (nI (ln + 1)) v3 (nI t) := ⟨⟨c, hc, rfl⟩, ⟨b, hb, rfl⟩, fun _ => ⟨by rw [nI_toInt (by omega)]; omega, m, t, ht, rfl⟩, fun z => absurd z (by decide)⟩
            obtain ⟨mc', ms', mm', hM', hq', hX, hY⟩ := zz_send (l := 0) hM hL hc c2 hok
            rw [if_pos rfl] at hq'
            have hp : c * 4 + b < 16 := by omega
            have i4 : nI ((c * 4 + b) * 7) + 4 = nI ((c * 4 + b) * 7 + 4) := nI_add _ 4
            have i5 : nI ((c * 4 + b) * 7) + 5 = nI ((c * 4 + b) * 7 + 5) := nI_add _ 5
            have i6 : nI ((c * 4 + b) * 7) + 6 = nI ((c * 4 + b) * 7 + 6) := nI_add _ 6
            have vc : vp_in (nI c) 5 := vp_in_nI (by omega) (by decide)
            have cc : (nI c).toNatClampNeg = c := nI_clamp (by omega)
            have ee : 10 * nI t = nI (10 * t) := pk_mul 10 t
            have hc5 := hC c (by omega)
            have eT : (ck c + 10 * nI t).toInt = (ck c).toInt + 10 * t := by
              rw [ee, zz_addT (by omega) (by rw [nI_toInt (by omega)]; omega), nI_toInt (by omega)]; omega
            have w := hH (c * 4 + b) hp (by omega)
            refine ⟨nI (ln + 1), ((nI nc), (nI nb), (nI dr), (nI lo), (nI tm), (nI (ln + 1)), dn, re, (nI lg), (nI mc'), ck, rt, lk, ((zz_m7 (le 0) (le 1) (le 2) (le 3) (upd (le 4) (c * 4 + b) (nI (ln + 1))) (upd (le 5) (c * 4 + b) v3) (upd (le 6) (c * 4 + b) (ck c + 10 * nI t))) 0), ((zz_m7 (le 0) (le 1) (le 2) (le 3) (upd (le 4) (c * 4 + b) (nI (ln + 1))) (upd (le 5) (c * 4 + b) v3) (upd (le 6) (c * 4 + b) (ck c + 10 * nI t))) 1), ((zz_m7 (le 0) (le 1) (le 2) (le 3) (upd (le 4) (c * 4 + b) (nI (ln + 1))) (upd (le 5) (c * 4 + b) v3) (upd (le 6) (c * 4 + b) (ck c + 10 * nI t))) 2), ((zz_m7 (le 0) (le 1) (le 2) (le 3) (upd (le 4) (c * 4 + b) (nI (ln + 1))) (upd (le 5) (c * 4 + b) v3) (upd (le 6) (c * 4 + b) (ck c + 10 * nI t))) 3), ((zz_m7 (le 0) (le 1) (le 2) (le 3) (upd (le 4) (c * 4 + b) (nI (ln + 1))) (upd (le 5) (c * 4 + b) v3) (upd (le 6) (c * 4 + b) (ck c + 10 * nI t))) 4), ((zz_m7 (le 0) (le 1) (le 2) (le 3) (upd (le 4) (c * 4 + b) (nI (ln + 1))) (upd (le 5) (c * 4 + b) v3) (upd (le 6) (c * 4 + b) (ck c + 10 * nI t))) 5), ((zz_m7 (le 0) (le 1) (le 2) (le 3) (upd (le 4) (c * 4 + b) (nI (ln + 1))) (upd (le 5) (c * 4 + b) v3) (upd (le 6) (c * 4 + b) (ck c + 10 * nI t))) 6), (ne 0), (ne 1), (ne 2), (ne 3), (ne 4), pc, (pe 0), (pe 1), (pe 2), (pe 3), (pe 4), bv, bw, (ms' 0), (ms' 1), (ms' 2), (ms' 3), (ms' 4), (ms' 5), (ms' 6)), ((nI nc), (nI nb), (nI dr), (nI lo), (nI tm), (nI (ln + 1)), (nI lg), re, (nI mc'), (nI gc), dn, ck, rt, ct, bv, bw, (upd (upd (upd ha ((c * 4 + b) * 7 + 4) (nI (ln + 1))) ((c * 4 + b) * 7 + 5) v3) ((c * 4 + b) * 7 + 6) (ck c + 10 * nI t)), mm', gg, pp, pc), zz_rel (pn := pn) ⟨⟨c1, c2, b1, b2, d3, l1, l2, t6, by omega, g2⟩, hC, hL, ?_, hM', hP, hG, ?_⟩, fun post h => X0 post (br_f t1 (br_t t2 ?_)), fun post h => Y0 post (br_f t1 (br_t t2 ?_))⟩
            · refine zz_RH_upd (p := c * 4 + b) hH (fun q hq => ⟨rfl, rfl, rfl, rfl, pk_un hq, pk_un hq, pk_un hq⟩) (fun j hj => ?_) ?_
              · rw [pk_un (by omega), pk_un (by omega), pk_un (by omega)]
              · have f4 : (upd (upd (upd ha ((c * 4 + b) * 7 + 4) (nI (ln + 1))) ((c * 4 + b) * 7 + 5) v3) ((c * 4 + b) * 7 + 6) (ck c + 10 * nI t)) ((c * 4 + b) * 7 + 4) = nI (ln + 1) := by
                  rw [pk_un (by omega), pk_un (by omega), pk_us]
                have f5 : (upd (upd (upd ha ((c * 4 + b) * 7 + 4) (nI (ln + 1))) ((c * 4 + b) * 7 + 5) v3) ((c * 4 + b) * 7 + 6) (ck c + 10 * nI t)) ((c * 4 + b) * 7 + 5) = v3 := by
                  rw [pk_un (by omega), pk_us]
                have f6 : (upd (upd (upd ha ((c * 4 + b) * 7 + 4) (nI (ln + 1))) ((c * 4 + b) * 7 + 5) v3) ((c * 4 + b) * 7 + 6) (ck c + 10 * nI t)) ((c * 4 + b) * 7 + 6) = ck c + 10 * nI t := pk_us
                have lo : ∀ j, j < 4 → (upd (upd (upd ha ((c * 4 + b) * 7 + 4) (nI (ln + 1))) ((c * 4 + b) * 7 + 5) v3) ((c * 4 + b) * 7 + 6) (ck c + 10 * nI t)) ((c * 4 + b) * 7 + j) = ha ((c * 4 + b) * 7 + j) := fun j hj => by
                  rw [pk_un (by omega), pk_un (by omega), pk_un (by omega)]
                refine ⟨w.1.trans (lo 0 (by omega)).symm, fun z => ⟨(w.2.1 z).1.trans (lo 1 (by omega)).symm, (w.2.1 z).2.1.trans (lo 2 (by omega)).symm, (w.2.1 z).2.2.trans (lo 3 (by omega)).symm⟩, pk_us.trans f4.symm, fun _ => ⟨pk_us.trans f5.symm, pk_us.trans f6.symm, ?_⟩⟩
                show 0 ≤ (upd (le 6) (c * 4 + b) (ck c + 10 * nI t) (c * 4 + b)).toInt ∧ (upd (le 6) (c * 4 + b) (ck c + 10 * nI t) (c * 4 + b)).toInt ≤ 1000000
                rw [pk_us, eT]; omega
            · unfold zz_RN at hN ⊢; omega
            · refine br_t (nI_lt (b := 250) n1 (by decide)) (nm_r (nI_1 ln) (nm_r (zz_p c b) (zz_st (c * 4 + b) rfl hp (by decide) (zz_st (c * 4 + b) rfl hp (by decide) ⟨vc, ?_⟩))))
              rw [cc]
              exact zz_st (c * 4 + b) rfl hp (by decide) (hX _ h)
            · refine br_t (nI_lt (b := 250) n1 (by decide)) (zz_cellY (nm_r (nI_1 ln) (zz_st _ i4 (by omega) (by decide) (zz_st _ i5 (by omega) (by decide) ⟨vc, ?_⟩))))
              rw [cc]
              exact zz_st _ i6 (by omega) (by decide) (hY _ h)
          · have n1' : ¬ nI ln < 250 := nI_nlt (b := 250) (by omega) (by omega)
            exact ⟨-2, ((nI nc), (nI nb), (nI dr), (nI lo), (nI tm), (nI ln), dn, re, (nI lg), (nI mc), ck, rt, lk, (le 0), (le 1), (le 2), (le 3), (le 4), (le 5), (le 6), (ne 0), (ne 1), (ne 2), (ne 3), (ne 4), pc, (pe 0), (pe 1), (pe 2), (pe 3), (pe 4), bv, bw, (ms 0), (ms 1), (ms 2), (ms 3), (ms 4), (ms 5), (ms 6)), ((nI nc), (nI nb), (nI dr), (nI lo), (nI tm), (nI ln), (nI lg), re, (nI mc), (nI gc), dn, ck, rt, ct, bv, bw, ha, mm, gg, pp, pc), zz_rel hR0, fun post h => X0 post (br_f t1 (br_t t2 (br_f n1' h))), fun post h => Y0 post (br_f t1 (br_t t2 (br_f n1' h)))⟩
        · exact ⟨-1, ((nI nc), (nI nb), (nI dr), (nI lo), (nI tm), (nI ln), dn, re, (nI lg), (nI mc), ck, rt, lk, (le 0), (le 1), (le 2), (le 3), (le 4), (le 5), (le 6), (ne 0), (ne 1), (ne 2), (ne 3), (ne 4), pc, (pe 0), (pe 1), (pe 2), (pe 3), (pe 4), bv, bw, (ms 0), (ms 1), (ms 2), (ms 3), (ms 4), (ms 5), (ms 6)), ((nI nc), (nI nb), (nI dr), (nI lo), (nI tm), (nI ln), (nI lg), re, (nI mc), (nI gc), dn, ck, rt, ct, bv, bw, ha, mm, gg, pp, pc), zz_rel hR0, fun post h => X0 post (br_f t1 (br_f t2 h)), fun post h => Y0 post (br_f t1 (br_f t2 h))⟩
    · have m1 : ¬ v3 = 1 := fun q => m (Or.inl q)
      have m2 : ¬ v3 = 2 := fun q => m (Or.inr q)
      refine ⟨-1, ((nI nc), (nI nb), (nI dr), (nI lo), (nI tm), (nI ln), dn, re, (nI lg), (nI mc), ck, rt, lk, (le 0), (le 1), (le 2), (le 3), (le 4), (le 5), (le 6), (ne 0), (ne 1), (ne 2), (ne 3), (ne 4), pc, (pe 0), (pe 1), (pe 2), (pe 3), (pe 4), bv, bw, (ms 0), (ms 1), (ms 2), (ms 3), (ms 4), (ms 5), (ms 6)), ((nI nc), (nI nb), (nI dr), (nI lo), (nI tm), (nI ln), (nI lg), re, (nI mc), (nI gc), dn, ck, rt, ct, bv, bw, ha, mm, gg, pp, pc), zz_rel hR0, fun post h => ?_, fun post h => ?_⟩
      · unfold wpX_request
        exact zz_pairX1 hc hb c2 b2 (br_f zz_01 (br_f m1 (br_f m2 h)))
      · unfold wpY_request
        exact zz_pairY1 hc hb c2 b2 (br_t rfl (br_f m1 (br_f m2 h)))
  · refine ⟨-1, ((nI nc), (nI nb), (nI dr), (nI lo), (nI tm), (nI ln), dn, re, (nI lg), (nI mc), ck, rt, lk, (le 0), (le 1), (le 2), (le 3), (le 4), (le 5), (le 6), (ne 0), (ne 1), (ne 2), (ne 3), (ne 4), pc, (pe 0), (pe 1), (pe 2), (pe 3), (pe 4), bv, bw, (ms 0), (ms 1), (ms 2), (ms 3), (ms 4), (ms 5), (ms 6)), ((nI nc), (nI nb), (nI dr), (nI lo), (nI tm), (nI ln), (nI lg), re, (nI mc), (nI gc), dn, ck, rt, ct, bv, bw, ha, mm, gg, pp, pc), zz_rel hR0, fun post h => ?_, fun post h => ?_⟩
    · unfold wpX_request
      exact zz_pairX0 z c2 b2 (br_t rfl h)
    · unfold wpY_request
      exact zz_pairY0 z c2 b2 (br_f zz_01 h)
theorem zz_s_write (hR : zz_R nc nb dr lo tm ln lg mc gc pn ck rt lk le ne pe ms pc ct ha mm gg pp) (v1 v2 v3 : Int32) : ∃ (r : Int32) (u' : SX) (v' : SY), i_Rel 0 u' v' ∧ (∀ post : Int32 → SX → Prop, post r u' → wpX_write post ((nI nc), (nI nb), (nI dr), (nI lo), (nI tm), (nI ln), dn, re, (nI lg), (nI mc), ck, rt, lk, (le 0), (le 1), (le 2), (le 3), (le 4), (le 5), (le 6), (ne 0), (ne 1), (ne 2), (ne 3), (ne 4), pc, (pe 0), (pe 1), (pe 2), (pe 3), (pe 4), bv, bw, (ms 0), (ms 1), (ms 2), (ms 3), (ms 4), (ms 5), (ms 6)) v1 v2 v3) ∧ (∀ post : Int32 → SY → Prop, post r v' → wpY_write post ((nI nc), (nI nb), (nI dr), (nI lo), (nI tm), (nI ln), (nI lg), re, (nI mc), (nI gc), dn, ck, rt, ct, bv, bw, ha, mm, gg, pp, pc) v1 v2 v3) := by
  have hR0 := hR
  obtain ⟨⟨c1, c2, b1, b2, d3, l1, l2, t6, n2, g2⟩, hC, hL, hH, hM, hP, hG, hN⟩ := hR
  by_cases z : zz_ok nc nb v1 v2
  · obtain ⟨c, b, hc, hb, rfl, rfl⟩ := z
    by_cases t1 : v3 < 0
    · refine ⟨-1, ((nI nc), (nI nb), (nI dr), (nI lo), (nI tm), (nI ln), dn, re, (nI lg), (nI mc), ck, rt, lk, (le 0), (le 1), (le 2), (le 3), (le 4), (le 5), (le 6), (ne 0), (ne 1), (ne 2), (ne 3), (ne 4), pc, (pe 0), (pe 1), (pe 2), (pe 3), (pe 4), bv, bw, (ms 0), (ms 1), (ms 2), (ms 3), (ms 4), (ms 5), (ms 6)), ((nI nc), (nI nb), (nI dr), (nI lo), (nI tm), (nI ln), (nI lg), re, (nI mc), (nI gc), dn, ck, rt, ct, bv, bw, ha, mm, gg, pp, pc), zz_rel hR0, fun post h => ?_, fun post h => ?_⟩
      · unfold wpX_write
        exact zz_pairX1 hc hb c2 b2 (br_f zz_01 (br_t t1 h))
      · unfold wpY_write
        exact zz_pairY1 hc hb c2 b2 (br_t rfl (br_t t1 h))
    by_cases t2 : v3 ≤ 999
    case neg =>
      refine ⟨-1, ((nI nc), (nI nb), (nI dr), (nI lo), (nI tm), (nI ln), dn, re, (nI lg), (nI mc), ck, rt, lk, (le 0), (le 1), (le 2), (le 3), (le 4), (le 5), (le 6), (ne 0), (ne 1), (ne 2), (ne 3), (ne 4), pc, (pe 0), (pe 1), (pe 2), (pe 3), (pe 4), bv, bw, (ms 0), (ms 1), (ms 2), (ms 3), (ms 4), (ms 5), (ms 6)), ((nI nc), (nI nb), (nI dr), (nI lo), (nI tm), (nI ln), (nI lg), re, (nI mc), (nI gc), dn, ck, rt, ct, bv, bw, ha, mm, gg, pp, pc), zz_rel hR0, fun post h => ?_, fun post h => ?_⟩
      · unfold wpX_write
        exact zz_pairX1 hc hb c2 b2 (br_f zz_01 (br_f t1 (br_f t2 h)))
      · unfold wpY_write
        exact zz_pairY1 hc hb c2 b2 (br_t rfl (br_f t1 (br_f t2 h)))
    have hp : c * 4 + b < 16 := by omega
    have hq : (c * 4 + b) % 4 < nb := by omega
    have hE := zz_hd_eq hH hp hq (ck c)
    rcases zz_hd01 (le 0 (c * 4 + b)) (le 2 (c * 4 + b)) (ck c) with e | ⟨e, e0⟩
    · rw [e] at hE
      refine ⟨-3, ((nI nc), (nI nb), (nI dr), (nI lo), (nI tm), (nI ln), dn, re, (nI lg), (nI mc), ck, rt, lk, (le 0), (le 1), (le 2), (le 3), (le 4), (le 5), (le 6), (ne 0), (ne 1), (ne 2), (ne 3), (ne 4), pc, (pe 0), (pe 1), (pe 2), (pe 3), (pe 4), bv, bw, (ms 0), (ms 1), (ms 2), (ms 3), (ms 4), (ms 5), (ms 6)), ((nI nc), (nI nb), (nI dr), (nI lo), (nI tm), (nI ln), (nI lg), re, (nI mc), (nI gc), dn, ck, rt, ct, bv, bw, ha, mm, gg, pp, pc), zz_rel hR0, fun post h => ?_, fun post h => ?_⟩
      · unfold wpX_write
        refine zz_pairX1 hc hb c2 b2 (br_f zz_01 (br_f t1 (br_t t2 (zz_holdsX (by omega) (by omega) ?_))))
        rw [e]; exact br_t rfl h
      · unfold wpY_write
        refine zz_pairY1 hc hb c2 b2 (br_t rfl (br_f t1 (br_t t2 (zz_holdsY (by omega) (by omega) ?_))))
        rw [hE]; exact br_t rfl h
    · rw [e] at hE
      have w := hH (c * 4 + b) hp hq
      have w0 : le 0 (c * 4 + b) = ha ((c * 4 + b) * 7) := w.1
      have w1 : le 1 (c * 4 + b) = ha ((c * 4 + b) * 7 + 1) := (w.2.1 e0).1
      have vp : vp_in (nI (c * 4 + b)) 16 := vp_in_nI hp (by decide)
      have cp : (nI (c * 4 + b)).toNatClampNeg = c * 4 + b := nI_clamp (by omega)
      have v0 : vp_in (nI ((c * 4 + b) * 7)) 112 := vp_in_nI (by omega) (by decide)
      have cp7 : (nI ((c * 4 + b) * 7)).toNatClampNeg = (c * 4 + b) * 7 := nI_clamp (by omega)
      by_cases ro : le 0 (c * 4 + b) = 1
      · refine ⟨-4, ((nI nc), (nI nb), (nI dr), (nI lo), (nI tm), (nI ln), dn, re, (nI lg), (nI mc), ck, rt, lk, (le 0), (le 1), (le 2), (le 3), (le 4), (le 5), (le 6), (ne 0), (ne 1), (ne 2), (ne 3), (ne 4), pc, (pe 0), (pe 1), (pe 2), (pe 3), (pe 4), bv, bw, (ms 0), (ms 1), (ms 2), (ms 3), (ms 4), (ms 5), (ms 6)), ((nI nc), (nI nb), (nI dr), (nI lo), (nI tm), (nI ln), (nI lg), re, (nI mc), (nI gc), dn, ck, rt, ct, bv, bw, ha, mm, gg, pp, pc), zz_rel hR0, fun post h => ?_, fun post h => ?_⟩
        · unfold wpX_write
          refine zz_pairX1 hc hb c2 b2 (br_f zz_01 (br_f t1 (br_t t2 (zz_holdsX (by omega) (by omega) ?_))))
          rw [e]
          refine br_f zz_01 (nm_r (zz_p c b) ⟨vp, ?_⟩)
          rw [cp]; exact br_t ro h
        · unfold wpY_write
          refine zz_pairY1 hc hb c2 b2 (br_t rfl (br_f t1 (br_t t2 (zz_holdsY (by omega) (by omega) ?_))))
          rw [hE]
          refine br_f zz_01 (zz_cellY ⟨v0, ?_⟩)
          rw [cp7, ← w0]; exact br_t ro h
      · by_cases n1 : ln < 250
        · have hok : zz_mok nc nb 5 (nI c) (nI b) (nI (ln + 1)) 0 v3 := ⟨⟨c, hc, rfl⟩, ⟨b, hb, rfl⟩, fun z => absurd z (by decide), fun z => absurd z (by decide)⟩
          obtain ⟨mc', ms', mm', hM', hq', hX, hY⟩ := zz_send (l := le 1 (c * 4 + b)) hM hL hc c2 hok
          rw [if_neg (by decide)] at hq'
          have i3 : nI ((c * 4 + b) * 7) + 3 = nI ((c * 4 + b) * 7 + 3) := nI_add _ 3
          have i1 : nI ((c * 4 + b) * 7) + 1 = nI ((c * 4 + b) * 7 + 1) := nI_add _ 1
          refine ⟨nI (ln + 1), ((nI nc), (nI nb), (nI dr), (nI lo), (nI tm), (nI (ln + 1)), dn, re, (nI lg), (nI mc'), ck, rt, lk, ((zz_m7 (le 0) (le 1) (le 2) (upd (le 3) (c * 4 + b) (nI (ln + 1))) (le 4) (le 5) (le 6)) 0), ((zz_m7 (le 0) (le 1) (le 2) (upd (le 3) (c * 4 + b) (nI (ln + 1))) (le 4) (le 5) (le 6)) 1), ((zz_m7 (le 0) (le 1) (le 2) (upd (le 3) (c * 4 + b) (nI (ln + 1))) (le 4) (le 5) (le 6)) 2), ((zz_m7 (le 0) (le 1) (le 2) (upd (le 3) (c * 4 + b) (nI (ln + 1))) (le 4) (le 5) (le 6)) 3), ((zz_m7 (le 0) (le 1) (le 2) (upd (le 3) (c * 4 + b) (nI (ln + 1))) (le 4) (le 5) (le 6)) 4), ((zz_m7 (le 0) (le 1) (le 2) (upd (le 3) (c * 4 + b) (nI (ln + 1))) (le 4) (le 5) (le 6)) 5), ((zz_m7 (le 0) (le 1) (le 2) (upd (le 3) (c * 4 + b) (nI (ln + 1))) (le 4) (le 5) (le 6)) 6), (ne 0), (ne 1), (ne 2), (ne 3), (ne 4), pc, (pe 0), (pe 1), (pe 2), (pe 3), (pe 4), bv, bw, (ms' 0), (ms' 1), (ms' 2), (ms' 3), (ms' 4), (ms' 5), (ms' 6)), ((nI nc), (nI nb), (nI dr), (nI lo), (nI tm), (nI (ln + 1)), (nI lg), re, (nI mc'), (nI gc), dn, ck, rt, ct, bv, bw, (upd ha ((c * 4 + b) * 7 + 3) (nI (ln + 1))), mm', gg, pp, pc), zz_rel (pn := pn) ⟨⟨c1, c2, b1, b2, d3, l1, l2, t6, by omega, g2⟩, hC, hL, ?_, hM', hP, hG, ?_⟩, fun post h => ?_, fun post h => ?_⟩
          · refine zz_RH_upd (p := c * 4 + b) hH (fun q hq => ⟨rfl, rfl, rfl, pk_un hq, rfl, rfl, rfl⟩) (fun j hj => pk_un (by omega)) ?_
            have lo : ∀ j, j ≠ 3 → (upd ha ((c * 4 + b) * 7 + 3) (nI (ln + 1))) ((c * 4 + b) * 7 + j) = ha ((c * 4 + b) * 7 + j) := fun j hj => pk_un (by omega)
            have f3 : (upd ha ((c * 4 + b) * 7 + 3) (nI (ln + 1))) ((c * 4 + b) * 7 + 3) = nI (ln + 1) := pk_us
            exact ⟨w.1.trans (lo 0 (by omega)).symm, fun z => ⟨(w.2.1 z).1.trans (lo 1 (by omega)).symm, (w.2.1 z).2.1.trans (lo 2 (by omega)).symm, pk_us.trans f3.symm⟩, w.2.2.1.trans (lo 4 (by omega)).symm, fun z => ⟨(w.2.2.2 z).1.trans (lo 5 (by omega)).symm, (w.2.2.2 z).2.1.trans (lo 6 (by omega)).symm, (w.2.2.2 z).2.2⟩⟩
          · unfold zz_RN at hN ⊢; omega
          · unfold wpX_write
            refine zz_pairX1 hc hb c2 b2 (br_f zz_01 (br_f t1 (br_t t2 (zz_holdsX (by omega) (by omega) ?_))))
            rw [e]
            refine br_f zz_01 (nm_r (zz_p c b) ⟨vp, ?_⟩)
            rw [cp]
            exact br_f ro (br_t (nI_lt (b := 250) n1 (by decide)) (nm_r (nI_1 ln) ⟨vp, nm_e ⟨vp, nm_e (hX _ h)⟩⟩))
          · unfold wpY_write
            refine zz_pairY1 hc hb c2 b2 (br_t rfl (br_f t1 (br_t t2 (zz_holdsY (by omega) (by omega) ?_))))
            rw [hE]
            refine br_f zz_01 (zz_cellY ⟨v0, ?_⟩)
            rw [cp7, ← w0]
            refine br_f ro (br_t (nI_lt (b := 250) n1 (by decide)) (nm_r (nI_1 ln) (zz_st _ i3 (by omega) (by decide) ⟨zz_vi _ i1 (by omega) (by decide), ?_⟩)))
            rw [zz_cl i1 (by omega), pk_un (by omega), ← w1]
            exact hY _ h
        · have n1' : ¬ nI ln < 250 := nI_nlt (b := 250) (by omega) (by omega)
          refine ⟨-2, ((nI nc), (nI nb), (nI dr), (nI lo), (nI tm), (nI ln), dn, re, (nI lg), (nI mc), ck, rt, lk, (le 0), (le 1), (le 2), (le 3), (le 4), (le 5), (le 6), (ne 0), (ne 1), (ne 2), (ne 3), (ne 4), pc, (pe 0), (pe 1), (pe 2), (pe 3), (pe 4), bv, bw, (ms 0), (ms 1), (ms 2), (ms 3), (ms 4), (ms 5), (ms 6)), ((nI nc), (nI nb), (nI dr), (nI lo), (nI tm), (nI ln), (nI lg), re, (nI mc), (nI gc), dn, ck, rt, ct, bv, bw, ha, mm, gg, pp, pc), zz_rel hR0, fun post h => ?_, fun post h => ?_⟩
          · unfold wpX_write
            refine zz_pairX1 hc hb c2 b2 (br_f zz_01 (br_f t1 (br_t t2 (zz_holdsX (by omega) (by omega) ?_))))
            rw [e]
            refine br_f zz_01 (nm_r (zz_p c b) ⟨vp, ?_⟩)
            rw [cp]; exact br_f ro (br_f n1' h)
          · unfold wpY_write
            refine zz_pairY1 hc hb c2 b2 (br_t rfl (br_f t1 (br_t t2 (zz_holdsY (by omega) (by omega) ?_))))
            rw [hE]
            refine br_f zz_01 (zz_cellY ⟨v0, ?_⟩)
            rw [cp7, ← w0]; exact br_f ro (br_f n1' h)
  · refine ⟨-1, ((nI nc), (nI nb), (nI dr), (nI lo), (nI tm), (nI ln), dn, re, (nI lg), (nI mc), ck, rt, lk, (le 0), (le 1), (le 2), (le 3), (le 4), (le 5), (le 6), (ne 0), (ne 1), (ne 2), (ne 3), (ne 4), pc, (pe 0), (pe 1), (pe 2), (pe 3), (pe 4), bv, bw, (ms 0), (ms 1), (ms 2), (ms 3), (ms 4), (ms 5), (ms 6)), ((nI nc), (nI nb), (nI dr), (nI lo), (nI tm), (nI ln), (nI lg), re, (nI mc), (nI gc), dn, ck, rt, ct, bv, bw, ha, mm, gg, pp, pc), zz_rel hR0, fun post h => ?_, fun post h => ?_⟩
    · unfold wpX_write
      exact zz_pairX0 z c2 b2 (br_t rfl h)
    · unfold wpY_write
      exact zz_pairY0 z c2 b2 (br_f zz_01 h)
theorem zz_s_release (hR : zz_R nc nb dr lo tm ln lg mc gc pn ck rt lk le ne pe ms pc ct ha mm gg pp) (v1 v2 : Int32) : ∃ (r : Int32) (u' : SX) (v' : SY), i_Rel 0 u' v' ∧ (∀ post : Int32 → SX → Prop, post r u' → wpX_release post ((nI nc), (nI nb), (nI dr), (nI lo), (nI tm), (nI ln), dn, re, (nI lg), (nI mc), ck, rt, lk, (le 0), (le 1), (le 2), (le 3), (le 4), (le 5), (le 6), (ne 0), (ne 1), (ne 2), (ne 3), (ne 4), pc, (pe 0), (pe 1), (pe 2), (pe 3), (pe 4), bv, bw, (ms 0), (ms 1), (ms 2), (ms 3), (ms 4), (ms 5), (ms 6)) v1 v2) ∧ (∀ post : Int32 → SY → Prop, post r v' → wpY_release post ((nI nc), (nI nb), (nI dr), (nI lo), (nI tm), (nI ln), (nI lg), re, (nI mc), (nI gc), dn, ck, rt, ct, bv, bw, ha, mm, gg, pp, pc) v1 v2) := by
  have hR0 := hR
  obtain ⟨⟨c1, c2, b1, b2, d3, l1, l2, t6, n2, g2⟩, hC, hL, hH, hM, hP, hG, hN⟩ := hR
  by_cases z : zz_ok nc nb v1 v2
  · obtain ⟨c, b, hc, hb, rfl, rfl⟩ := z
    have hp : c * 4 + b < 16 := by omega
    have hq : (c * 4 + b) % 4 < nb := by omega
    have hE := zz_hd_eq hH hp hq (ck c)
    rcases zz_hd01 (le 0 (c * 4 + b)) (le 2 (c * 4 + b)) (ck c) with e | ⟨e, e0⟩
    · rw [e] at hE
      refine ⟨-3, ((nI nc), (nI nb), (nI dr), (nI lo), (nI tm), (nI ln), dn, re, (nI lg), (nI mc), ck, rt, lk, (le 0), (le 1), (le 2), (le 3), (le 4), (le 5), (le 6), (ne 0), (ne 1), (ne 2), (ne 3), (ne 4), pc, (pe 0), (pe 1), (pe 2), (pe 3), (pe 4), bv, bw, (ms 0), (ms 1), (ms 2), (ms 3), (ms 4), (ms 5), (ms 6)), ((nI nc), (nI nb), (nI dr), (nI lo), (nI tm), (nI ln), (nI lg), re, (nI mc), (nI gc), dn, ck, rt, ct, bv, bw, ha, mm, gg, pp, pc), zz_rel hR0, fun post h => ?_, fun post h => ?_⟩
      · unfold wpX_release
        refine zz_pairX1 hc hb c2 b2 (br_f zz_01 (zz_holdsX (by omega) (by omega) ?_))
        rw [e]; exact br_t rfl h
      · unfold wpY_release
        refine zz_pairY1 hc hb c2 b2 (br_t rfl (zz_holdsY (by omega) (by omega) ?_))
        rw [hE]; exact br_t rfl h
    · rw [e] at hE
      have w := hH (c * 4 + b) hp hq
      have w1 : le 1 (c * 4 + b) = ha ((c * 4 + b) * 7 + 1) := (w.2.1 e0).1
      have i1 : nI ((c * 4 + b) * 7) + 1 = nI ((c * 4 + b) * 7 + 1) := nI_add _ 1
      have hok : zz_mok nc nb 4 (nI c) (nI b) (le 1 (c * 4 + b)) 0 0 := ⟨⟨c, hc, rfl⟩, ⟨b, hb, rfl⟩, fun z => absurd z (by decide), fun z => absurd z (by decide)⟩
      obtain ⟨mc', ms', mm', hM', hq', hX, hY⟩ := zz_send (l := 0) hM hL hc c2 hok
      rw [if_neg (by decide)] at hq'
      refine ⟨0, ((nI nc), (nI nb), (nI dr), (nI lo), (nI tm), (nI ln), dn, re, (nI lg), (nI mc'), ck, rt, lk, ((zz_m7 (upd (le 0) (c * 4 + b) 0) (upd (le 1) (c * 4 + b) 0) (upd (le 2) (c * 4 + b) 0) (upd (le 3) (c * 4 + b) 0) (le 4) (le 5) (le 6)) 0), ((zz_m7 (upd (le 0) (c * 4 + b) 0) (upd (le 1) (c * 4 + b) 0) (upd (le 2) (c * 4 + b) 0) (upd (le 3) (c * 4 + b) 0) (le 4) (le 5) (le 6)) 1), ((zz_m7 (upd (le 0) (c * 4 + b) 0) (upd (le 1) (c * 4 + b) 0) (upd (le 2) (c * 4 + b) 0) (upd (le 3) (c * 4 + b) 0) (le 4) (le 5) (le 6)) 2), ((zz_m7 (upd (le 0) (c * 4 + b) 0) (upd (le 1) (c * 4 + b) 0) (upd (le 2) (c * 4 + b) 0) (upd (le 3) (c * 4 + b) 0) (le 4) (le 5) (le 6)) 3), ((zz_m7 (upd (le 0) (c * 4 + b) 0) (upd (le 1) (c * 4 + b) 0) (upd (le 2) (c * 4 + b) 0) (upd (le 3) (c * 4 + b) 0) (le 4) (le 5) (le 6)) 4), ((zz_m7 (upd (le 0) (c * 4 + b) 0) (upd (le 1) (c * 4 + b) 0) (upd (le 2) (c * 4 + b) 0) (upd (le 3) (c * 4 + b) 0) (le 4) (le 5) (le 6)) 5), ((zz_m7 (upd (le 0) (c * 4 + b) 0) (upd (le 1) (c * 4 + b) 0) (upd (le 2) (c * 4 + b) 0) (upd (le 3) (c * 4 + b) 0) (le 4) (le 5) (le 6)) 6), (ne 0), (ne 1), (ne 2), (ne 3), (ne 4), pc, (pe 0), (pe 1), (pe 2), (pe 3), (pe 4), bv, bw, (ms' 0), (ms' 1), (ms' 2), (ms' 3), (ms' 4), (ms' 5), (ms' 6)), ((nI nc), (nI nb), (nI dr), (nI lo), (nI tm), (nI ln), (nI lg), re, (nI mc'), (nI gc), dn, ck, rt, ct, bv, bw, (upd ha ((c * 4 + b) * 7) 0), mm', gg, pp, pc), zz_rel (pn := pn) ⟨⟨c1, c2, b1, b2, d3, l1, l2, t6, n2, g2⟩, hC, hL, ?_, hM', hP, hG, ?_⟩, fun post h => ?_, fun post h => ?_⟩
      · refine zz_RH_upd (p := c * 4 + b) hH (fun q hq => ⟨pk_un hq, pk_un hq, pk_un hq, pk_un hq, rfl, rfl, rfl⟩) (fun j hj => pk_un (by omega)) ?_
        have lo : ∀ j, j ≠ 0 → (upd ha ((c * 4 + b) * 7) 0) ((c * 4 + b) * 7 + j) = ha ((c * 4 + b) * 7 + j) := fun j hj => pk_un (by omega)
        have f0 : (upd ha ((c * 4 + b) * 7) 0) ((c * 4 + b) * 7 + 0) = 0 := pk_us
        exact ⟨pk_us.trans f0.symm, fun z => absurd pk_us z, w.2.2.1.trans (lo 4 (by omega)).symm, fun z => ⟨(w.2.2.2 z).1.trans (lo 5 (by omega)).symm, (w.2.2.2 z).2.1.trans (lo 6 (by omega)).symm, (w.2.2.2 z).2.2⟩⟩
      · unfold zz_RN at hN ⊢; omega
      · unfold wpX_release
        refine zz_pairX1 hc hb c2 b2 (br_f zz_01 (zz_holdsX (by omega) (by omega) ?_))
        rw [e]
        exact br_f zz_01 (nm_r (zz_p c b) (zz_rd (c * 4 + b) rfl hp (by decide) (zz_dropLX hp (hX _ h))))
      · unfold wpY_release
        refine zz_pairY1 hc hb c2 b2 (br_t rfl (zz_holdsY (by omega) (by omega) ?_))
        rw [hE]
        refine br_f zz_01 (zz_cellY (zz_st _ rfl (by omega) (by decide) ⟨zz_vi _ i1 (by omega) (by decide), ?_⟩))
        rw [zz_cl i1 (by omega), pk_un (by omega), ← w1]
        exact hY _ h
  · refine ⟨-1, ((nI nc), (nI nb), (nI dr), (nI lo), (nI tm), (nI ln), dn, re, (nI lg), (nI mc), ck, rt, lk, (le 0), (le 1), (le 2), (le 3), (le 4), (le 5), (le 6), (ne 0), (ne 1), (ne 2), (ne 3), (ne 4), pc, (pe 0), (pe 1), (pe 2), (pe 3), (pe 4), bv, bw, (ms 0), (ms 1), (ms 2), (ms 3), (ms 4), (ms 5), (ms 6)), ((nI nc), (nI nb), (nI dr), (nI lo), (nI tm), (nI ln), (nI lg), re, (nI mc), (nI gc), dn, ck, rt, ct, bv, bw, ha, mm, gg, pp, pc), zz_rel hR0, fun post h => ?_, fun post h => ?_⟩
    · unfold wpX_release
      exact zz_pairX0 z c2 b2 (br_t rfl h)
    · unfold wpY_release
      exact zz_pairY0 z c2 b2 (br_f zz_01 h)
theorem zz_s_drop (hR : zz_R nc nb dr lo tm ln lg mc gc pn ck rt lk le ne pe ms pc ct ha mm gg pp) (v1 : Int32) : ∃ (r : Int32) (u' : SX) (v' : SY), i_Rel 0 u' v' ∧ (∀ post : Int32 → SX → Prop, post r u' → wpX_drop post ((nI nc), (nI nb), (nI dr), (nI lo), (nI tm), (nI ln), dn, re, (nI lg), (nI mc), ck, rt, lk, (le 0), (le 1), (le 2), (le 3), (le 4), (le 5), (le 6), (ne 0), (ne 1), (ne 2), (ne 3), (ne 4), pc, (pe 0), (pe 1), (pe 2), (pe 3), (pe 4), bv, bw, (ms 0), (ms 1), (ms 2), (ms 3), (ms 4), (ms 5), (ms 6)) v1) ∧ (∀ post : Int32 → SY → Prop, post r v' → wpY_drop post ((nI nc), (nI nb), (nI dr), (nI lo), (nI tm), (nI ln), (nI lg), re, (nI mc), (nI gc), dn, ck, rt, ct, bv, bw, ha, mm, gg, pp, pc) v1) := by
  have hR0 := hR
  obtain ⟨⟨c1, c2, b1, b2, d3, l1, l2, t6, n2, g2⟩, hC, hL, hH, hM, hP, hG, hN⟩ := hR
  have hm := hM.1
  rcases zz_ix v1 mc (by omega) with a | ⟨a, a1, a2⟩ | ⟨i, hi, rfl⟩
  · exact ⟨-1, ((nI nc), (nI nb), (nI dr), (nI lo), (nI tm), (nI ln), dn, re, (nI lg), (nI mc), ck, rt, lk, (le 0), (le 1), (le 2), (le 3), (le 4), (le 5), (le 6), (ne 0), (ne 1), (ne 2), (ne 3), (ne 4), pc, (pe 0), (pe 1), (pe 2), (pe 3), (pe 4), bv, bw, (ms 0), (ms 1), (ms 2), (ms 3), (ms 4), (ms 5), (ms 6)), ((nI nc), (nI nb), (nI dr), (nI lo), (nI tm), (nI ln), (nI lg), re, (nI mc), (nI gc), dn, ck, rt, ct, bv, bw, ha, mm, gg, pp, pc), zz_rel hR0, fun _ h => br_t a h, fun _ h => br_t a h⟩
  · exact ⟨-1, ((nI nc), (nI nb), (nI dr), (nI lo), (nI tm), (nI ln), dn, re, (nI lg), (nI mc), ck, rt, lk, (le 0), (le 1), (le 2), (le 3), (le 4), (le 5), (le 6), (ne 0), (ne 1), (ne 2), (ne 3), (ne 4), pc, (pe 0), (pe 1), (pe 2), (pe 3), (pe 4), bv, bw, (ms 0), (ms 1), (ms 2), (ms 3), (ms 4), (ms 5), (ms 6)), ((nI nc), (nI nb), (nI dr), (nI lo), (nI tm), (nI ln), (nI lg), re, (nI mc), (nI gc), dn, ck, rt, ct, bv, bw, ha, mm, gg, pp, pc), zz_rel hR0, fun _ h => br_f a (br_f a2 h), fun _ h => br_f a (br_f a2 h)⟩
  · obtain ⟨ms', mm', hM', hq', hX, hY⟩ := zz_rem hM hi
    refine ⟨0, ((nI nc), (nI nb), (nI dr), (nI lo), (nI tm), (nI ln), dn, re, (nI lg), (nI (mc - 1)), ck, rt, lk, (le 0), (le 1), (le 2), (le 3), (le 4), (le 5), (le 6), (ne 0), (ne 1), (ne 2), (ne 3), (ne 4), pc, (pe 0), (pe 1), (pe 2), (pe 3), (pe 4), bv, bw, (ms' 0), (ms' 1), (ms' 2), (ms' 3), (ms' 4), (ms' 5), (ms' 6)), ((nI nc), (nI nb), (nI dr), (nI lo), (nI tm), (nI ln), (nI lg), re, (nI (mc - 1)), (nI gc), dn, ck, rt, ct, bv, bw, ha, mm', gg, pp, pc), zz_rel (pn := pn) ⟨⟨c1, c2, b1, b2, d3, l1, l2, t6, n2, g2⟩, hC, hL, hH, hM', hP, hG, ?_⟩, fun post h => br_f (nI_pos (by omega)) (br_t (nI_lt hi (by omega)) (hX _ h)), fun post h => hY _ h⟩
    unfold zz_RN at hN ⊢; omega
theorem zz_clm_b {x : Int32} {d : Nat} (hd : d ≤ 3) : 7 ≤ (zz_clm x (10 - nI d) (10 + nI d)).toInt ∧ (zz_clm x (10 - nI d) (10 + nI d)).toInt ≤ 13 := by
  have a : (10 - nI d).toInt = 10 - (d : Int) := pk_sub_toInt (a := 10) (by decide) (by omega)
  have b : (10 + nI d).toInt = 10 + (d : Int) := by
    rw [show (10 : Int32) + nI d = nI (10 + d) from nI_add 10 d, nI_toInt (by omega)]; omega
  unfold zz_clm
  by_cases q : 10 - nI d ≤ x
  · rw [if_pos q]
    by_cases s : x ≤ 10 + nI d
    · rw [if_pos s]
      rw [zz_le, a] at q
      rw [zz_le, b] at s
      omega
    · rw [if_neg s, b]; omega
  · rw [if_neg q, a]; omega
theorem zz_s_setRate (hR : zz_R nc nb dr lo tm ln lg mc gc pn ck rt lk le ne pe ms pc ct ha mm gg pp) (v1 v2 : Int32) : ∃ (r : Int32) (u' : SX) (v' : SY), i_Rel 0 u' v' ∧ (∀ post : Int32 → SX → Prop, post r u' → wpX_setRate post ((nI nc), (nI nb), (nI dr), (nI lo), (nI tm), (nI ln), dn, re, (nI lg), (nI mc), ck, rt, lk, (le 0), (le 1), (le 2), (le 3), (le 4), (le 5), (le 6), (ne 0), (ne 1), (ne 2), (ne 3), (ne 4), pc, (pe 0), (pe 1), (pe 2), (pe 3), (pe 4), bv, bw, (ms 0), (ms 1), (ms 2), (ms 3), (ms 4), (ms 5), (ms 6)) v1 v2) ∧ (∀ post : Int32 → SY → Prop, post r v' → wpY_setRate post ((nI nc), (nI nb), (nI dr), (nI lo), (nI tm), (nI ln), (nI lg), re, (nI mc), (nI gc), dn, ck, rt, ct, bv, bw, ha, mm, gg, pp, pc) v1 v2) := by
  have hR0 := hR
  obtain ⟨⟨c1, c2, b1, b2, d3, l1, l2, t6, n2, g2⟩, hC, hL, hH, hM, hP, hG, hN⟩ := hR
  rcases zz_ix v1 (nc + 1) (by omega) with a | ⟨a, a1, a2⟩ | ⟨i, hi, rfl⟩
  · exact ⟨-1, ((nI nc), (nI nb), (nI dr), (nI lo), (nI tm), (nI ln), dn, re, (nI lg), (nI mc), ck, rt, lk, (le 0), (le 1), (le 2), (le 3), (le 4), (le 5), (le 6), (ne 0), (ne 1), (ne 2), (ne 3), (ne 4), pc, (pe 0), (pe 1), (pe 2), (pe 3), (pe 4), bv, bw, (ms 0), (ms 1), (ms 2), (ms 3), (ms 4), (ms 5), (ms 6)), ((nI nc), (nI nb), (nI dr), (nI lo), (nI tm), (nI ln), (nI lg), re, (nI mc), (nI gc), dn, ck, rt, ct, bv, bw, ha, mm, gg, pp, pc), zz_rel hR0, fun _ h => br_t a h, fun _ h => br_t a h⟩
  · have a' := zz_gt a1 (by omega)
    exact ⟨-1, ((nI nc), (nI nb), (nI dr), (nI lo), (nI tm), (nI ln), dn, re, (nI lg), (nI mc), ck, rt, lk, (le 0), (le 1), (le 2), (le 3), (le 4), (le 5), (le 6), (ne 0), (ne 1), (ne 2), (ne 3), (ne 4), pc, (pe 0), (pe 1), (pe 2), (pe 3), (pe 4), bv, bw, (ms 0), (ms 1), (ms 2), (ms 3), (ms 4), (ms 5), (ms 6)), ((nI nc), (nI nb), (nI dr), (nI lo), (nI tm), (nI ln), (nI lg), re, (nI mc), (nI gc), dn, ck, rt, ct, bv, bw, ha, mm, gg, pp, pc), zz_rel hR0, fun _ h => br_f a (br_f a'.2 h), fun _ h => br_f a (br_f a'.2 h)⟩
  · have p0 : ¬ nI i < 0 := nI_pos (by omega)
    have p1 : nI i ≤ nI nc := nI_le (by omega) (by omega)
    have vi : vp_in (nI i) 5 := vp_in_nI (by omega) (by decide)
    have ci : (nI i).toNatClampNeg = i := nI_clamp (by omega)
    have hb := zz_clm_b (x := v2) d3
    refine ⟨zz_clm v2 (10 - nI dr) (10 + nI dr), ((nI nc), (nI nb), (nI dr), (nI lo), (nI tm), (nI ln), dn, re, (nI lg), (nI mc), ck, (upd rt i (zz_clm v2 (10 - nI dr) (10 + nI dr))), lk, (le 0), (le 1), (le 2), (le 3), (le 4), (le 5), (le 6), (ne 0), (ne 1), (ne 2), (ne 3), (ne 4), pc, (pe 0), (pe 1), (pe 2), (pe 3), (pe 4), bv, bw, (ms 0), (ms 1), (ms 2), (ms 3), (ms 4), (ms 5), (ms 6)), ((nI nc), (nI nb), (nI dr), (nI lo), (nI tm), (nI ln), (nI lg), re, (nI mc), (nI gc), dn, ck, (upd rt i (zz_clm v2 (10 - nI dr) (10 + nI dr))), ct, bv, bw, ha, mm, gg, pp, pc), zz_rel (pn := pn) ⟨⟨c1, c2, b1, b2, d3, l1, l2, t6, n2, g2⟩, ?_, hL, hH, hM, hP, hG, hN⟩, fun post h => br_f p0 (br_t p1 (zz_clampX (zz_st i rfl (by omega) (by decide) ⟨vi, ?_⟩))), fun post h => br_f p0 (br_t p1 (zz_clampY (zz_st i rfl (by omega) (by decide) ⟨vi, ?_⟩)))⟩
    · intro j hj
      have w := hC j hj
      by_cases q : j = i
      · subst q; rw [pk_us]; exact ⟨w.1, w.2.1, hb⟩
      · rw [pk_un q]; exact w
    · rw [ci, pk_us]; exact h
    · rw [ci, pk_us]; exact h
theorem zz_s_setLink (hR : zz_R nc nb dr lo tm ln lg mc gc pn ck rt lk le ne pe ms pc ct ha mm gg pp) (v1 v2 : Int32) : ∃ (r : Int32) (u' : SX) (v' : SY), i_Rel 0 u' v' ∧ (∀ post : Int32 → SX → Prop, post r u' → wpX_setLink post ((nI nc), (nI nb), (nI dr), (nI lo), (nI tm), (nI ln), dn, re, (nI lg), (nI mc), ck, rt, lk, (le 0), (le 1), (le 2), (le 3), (le 4), (le 5), (le 6), (ne 0), (ne 1), (ne 2), (ne 3), (ne 4), pc, (pe 0), (pe 1), (pe 2), (pe 3), (pe 4), bv, bw, (ms 0), (ms 1), (ms 2), (ms 3), (ms 4), (ms 5), (ms 6)) v1 (lw_bz v2)) ∧ (∀ post : Int32 → SY → Prop, post r v' → wpY_setLink post ((nI nc), (nI nb), (nI dr), (nI lo), (nI tm), (nI ln), (nI lg), re, (nI mc), (nI gc), dn, ck, rt, ct, bv, bw, ha, mm, gg, pp, pc) v1 (lw_bz v2)) := by
  have hR0 := hR
  obtain ⟨⟨c1, c2, b1, b2, d3, l1, l2, t6, n2, g2⟩, hC, hL, hH, hM, hP, hG, hN⟩ := hR
  rcases zz_ix v1 nc (by omega) with a | ⟨a, a1, a2⟩ | ⟨i, hi, rfl⟩
  · exact ⟨-1, ((nI nc), (nI nb), (nI dr), (nI lo), (nI tm), (nI ln), dn, re, (nI lg), (nI mc), ck, rt, lk, (le 0), (le 1), (le 2), (le 3), (le 4), (le 5), (le 6), (ne 0), (ne 1), (ne 2), (ne 3), (ne 4), pc, (pe 0), (pe 1), (pe 2), (pe 3), (pe 4), bv, bw, (ms 0), (ms 1), (ms 2), (ms 3), (ms 4), (ms 5), (ms 6)), ((nI nc), (nI nb), (nI dr), (nI lo), (nI tm), (nI ln), (nI lg), re, (nI mc), (nI gc), dn, ck, rt, ct, bv, bw, ha, mm, gg, pp, pc), zz_rel hR0, fun _ h => br_t a h, fun _ h => br_t a h⟩
  · exact ⟨-1, ((nI nc), (nI nb), (nI dr), (nI lo), (nI tm), (nI ln), dn, re, (nI lg), (nI mc), ck, rt, lk, (le 0), (le 1), (le 2), (le 3), (le 4), (le 5), (le 6), (ne 0), (ne 1), (ne 2), (ne 3), (ne 4), pc, (pe 0), (pe 1), (pe 2), (pe 3), (pe 4), bv, bw, (ms 0), (ms 1), (ms 2), (ms 3), (ms 4), (ms 5), (ms 6)), ((nI nc), (nI nb), (nI dr), (nI lo), (nI tm), (nI ln), (nI lg), re, (nI mc), (nI gc), dn, ck, rt, ct, bv, bw, ha, mm, gg, pp, pc), zz_rel hR0, fun _ h => br_f a (br_f a2 h), fun _ h => br_f a (br_f a2 h)⟩
  · have p0 : ¬ nI i < 0 := nI_pos (by omega)
    have p1 : nI i < nI nc := nI_lt hi (by omega)
    rcases lw_bz_01 v2 with e | e
    · rw [e]
      refine ⟨0, ((nI nc), (nI nb), (nI dr), (nI lo), (nI tm), (nI ln), dn, re, (nI lg), (nI mc), ck, rt, (upd lk i 0), (le 0), (le 1), (le 2), (le 3), (le 4), (le 5), (le 6), (ne 0), (ne 1), (ne 2), (ne 3), (ne 4), pc, (pe 0), (pe 1), (pe 2), (pe 3), (pe 4), bv, bw, (ms 0), (ms 1), (ms 2), (ms 3), (ms 4), (ms 5), (ms 6)), ((nI nc), (nI nb), (nI dr), (nI lo), (nI tm), (nI ln), (nI lg), re, (nI mc), (nI gc), dn, ck, rt, (upd ct i 1), bv, bw, ha, mm, gg, pp, pc), zz_rel (pn := pn) ⟨⟨c1, c2, b1, b2, d3, l1, l2, t6, n2, g2⟩, hC, ?_, hH, hM, hP, hG, hN⟩, fun post h => br_f p0 (br_t p1 (zz_st i rfl (by omega) (by decide) h)), fun post h => br_f p0 (br_t p1 (br_t rfl (zz_st i rfl (by omega) (by decide) h)))⟩
      intro j hj
      by_cases q : j = i
      · subst q; rw [pk_us, pk_us]; exact ⟨fun _ => zz_01, fun _ => rfl⟩
      · rw [pk_un q, pk_un q]; exact hL j hj
    · rw [e]
      refine ⟨0, ((nI nc), (nI nb), (nI dr), (nI lo), (nI tm), (nI ln), dn, re, (nI lg), (nI mc), ck, rt, (upd lk i 1), (le 0), (le 1), (le 2), (le 3), (le 4), (le 5), (le 6), (ne 0), (ne 1), (ne 2), (ne 3), (ne 4), pc, (pe 0), (pe 1), (pe 2), (pe 3), (pe 4), bv, bw, (ms 0), (ms 1), (ms 2), (ms 3), (ms 4), (ms 5), (ms 6)), ((nI nc), (nI nb), (nI dr), (nI lo), (nI tm), (nI ln), (nI lg), re, (nI mc), (nI gc), dn, ck, rt, (upd ct i 0), bv, bw, ha, mm, gg, pp, pc), zz_rel (pn := pn) ⟨⟨c1, c2, b1, b2, d3, l1, l2, t6, n2, g2⟩, hC, ?_, hH, hM, hP, hG, hN⟩, fun post h => br_f p0 (br_t p1 (zz_st i rfl (by omega) (by decide) h)), fun post h => br_f p0 (br_t p1 (br_f zz_01 (zz_st i rfl (by omega) (by decide) h)))⟩
      intro j hj
      by_cases q : j = i
      · subst q; rw [pk_us, pk_us]; exact ⟨fun z => absurd z zz_01, fun z => absurd rfl z⟩
      · rw [pk_un q, pk_un q]; exact hL j hj
theorem zz_s_restartServer (hR : zz_R nc nb dr lo tm ln lg mc gc pn ck rt lk le ne pe ms pc ct ha mm gg pp) : ∃ (r : Int32) (u' : SX) (v' : SY), i_Rel 0 u' v' ∧ (∀ post : Int32 → SX → Prop, post r u' → wpX_restartServer post ((nI nc), (nI nb), (nI dr), (nI lo), (nI tm), (nI ln), dn, re, (nI lg), (nI mc), ck, rt, lk, (le 0), (le 1), (le 2), (le 3), (le 4), (le 5), (le 6), (ne 0), (ne 1), (ne 2), (ne 3), (ne 4), pc, (pe 0), (pe 1), (pe 2), (pe 3), (pe 4), bv, bw, (ms 0), (ms 1), (ms 2), (ms 3), (ms 4), (ms 5), (ms 6))) ∧ (∀ post : Int32 → SY → Prop, post r v' → wpY_restartServer post ((nI nc), (nI nb), (nI dr), (nI lo), (nI tm), (nI ln), (nI lg), re, (nI mc), (nI gc), dn, ck, rt, ct, bv, bw, ha, mm, gg, pp, pc)) := by
  have hR0 := hR
  obtain ⟨⟨c1, c2, b1, b2, d3, l1, l2, t6, n2, g2⟩, hC, hL, hH, hM, hP, hG, hN⟩ := hR
  by_cases q : dn = 0
  · exact ⟨-7, ((nI nc), (nI nb), (nI dr), (nI lo), (nI tm), (nI ln), dn, re, (nI lg), (nI mc), ck, rt, lk, (le 0), (le 1), (le 2), (le 3), (le 4), (le 5), (le 6), (ne 0), (ne 1), (ne 2), (ne 3), (ne 4), pc, (pe 0), (pe 1), (pe 2), (pe 3), (pe 4), bv, bw, (ms 0), (ms 1), (ms 2), (ms 3), (ms 4), (ms 5), (ms 6)), ((nI nc), (nI nb), (nI dr), (nI lo), (nI tm), (nI ln), (nI lg), re, (nI mc), (nI gc), dn, ck, rt, ct, bv, bw, ha, mm, gg, pp, pc), zz_rel hR0, fun _ h => br_t q h, fun _ h => br_t q h⟩
  · have vn : vp_in (nI nc) 5 := vp_in_nI (by omega) (by decide)
    have cn : (nI nc).toNatClampNeg = nc := nI_clamp (by omega)
    refine ⟨0, ((nI nc), (nI nb), (nI dr), (nI lo), (nI tm), (nI ln), 0, (ck nc + nI (zz_W lg dr)), (nI lg), (nI mc), ck, rt, lk, (le 0), (le 1), (le 2), (le 3), (le 4), (le 5), (le 6), (ne 0), (ne 1), (ne 2), (ne 3), (ne 4), pc, (pe 0), (pe 1), (pe 2), (pe 3), (pe 4), bv, bw, (ms 0), (ms 1), (ms 2), (ms 3), (ms 4), (ms 5), (ms 6)), ((nI nc), (nI nb), (nI dr), (nI lo), (nI tm), (nI ln), (nI lg), (ck nc + nI (zz_W lg dr)), (nI mc), (nI gc), 0, ck, rt, ct, bv, bw, ha, mm, gg, pp, pc), zz_rel hR0, fun post h => br_f q ⟨vn, ?_⟩, fun post h => br_f q ⟨vn, ?_⟩⟩
    · rw [cn]; exact zz_stretchX g2 d3 (nm_e h)
    · rw [cn]; exact zz_stretchY g2 d3 (nm_e h)
theorem zz_ccX {c : Nat} (hc : c < 4) (hnb : nb ≤ 4) : ∀ d b, b + d = nb → ∀ le le' : Nat → Nat → Int32, (∀ f q, le' f q = if c * 4 + b ≤ q ∧ q < c * 4 + nb then 0 else le f q) → ∀ post : Int32 → SX → Prop, post 0 ((nI nc), (nI nb), (nI dr), (nI lo), (nI tm), (nI ln), dn, re, (nI lg), (nI mc), ck, rt, lk, (le' 0), (le' 1), (le' 2), (le' 3), (le' 4), (le' 5), (le' 6), (ne 0), (ne 1), (ne 2), (ne 3), (ne 4), pc, (pe 0), (pe 1), (pe 2), (pe 3), (pe 4), bv, bw, (ms 0), (ms 1), (ms 2), (ms 3), (ms 4), (ms 5), (ms 6)) → wX_crashClient_16 post (nI c) (d + 1) (nI b) (nI nc) (nI nb) (nI dr) (nI lo) (nI tm) (nI ln) dn re (nI lg) (nI mc) ck rt lk (le 0) (le 1) (le 2) (le 3) (le 4) (le 5) (le 6) (ne 0) (ne 1) (ne 2) (ne 3) (ne 4) pc (pe 0) (pe 1) (pe 2) (pe 3) (pe 4) bv bw (ms 0) (ms 1) (ms 2) (ms 3) (ms 4) (ms 5) (ms 6) := by
  intro d
  induction d with
  | zero =>
    intro b hb le le' e post h
    obtain rfl : le' = le := funext fun f => funext fun q => by rw [e, if_neg (by omega)]
    exact br_t (nI_le (by omega) (by omega)) h
  | succ d ih =>
    intro b hb le le' e post h
    refine br_f (nI_ge (by omega) (by omega)) (nm_r (zz_p c b) (zz_dropLX (by omega) (zz_dropAX (by omega) (nm_r (nI_1 b) ?_))))
    refine ih (b + 1) (by omega) (fun f => upd (le f) (c * 4 + b) 0) le' (fun f q => ?_) post h
    rw [e f q]
    show _ = (if _ then _ else upd (le f) (c * 4 + b) 0 q)
    by_cases q1 : q = c * 4 + b
    · subst q1
      rw [if_pos (by omega), if_neg (by omega), pk_us]
    · rw [pk_un q1]
      by_cases q2 : c * 4 + (b + 1) ≤ q ∧ q < c * 4 + nb
      · rw [if_pos (by omega), if_pos q2]
      · rw [if_neg (by omega), if_neg q2]
theorem zz_ccY {c : Nat} (hc : c < 4) : ∀ d j, j + d = c * 28 + 28 → ∀ ha ha' : Nat → Int32, (∀ q, ha' q = if j ≤ q ∧ q < c * 28 + 28 then 0 else ha q) → ∀ post : Int32 → SY → Prop, post 0 ((nI nc), (nI nb), (nI dr), (nI lo), (nI tm), (nI ln), (nI lg), re, (nI mc), (nI gc), dn, ck, rt, ct, bv, bw, ha', mm, gg, pp, pc) → wY_crashClient_19 post (nI c) (nI nc) (nI nb) (nI dr) (nI lo) (nI tm) (nI ln) (nI lg) re (nI mc) (nI gc) dn (d + 1) (nI j) ck rt ct bv bw ha mm gg pp pc := by
  intro d
  have ee : nI c * 28 + 28 = nI (c * 28 + 28) := by
    rw [show (28 : Int32) = nI 28 from rfl, pk_mul, nI_add]
  induction d with
  | zero =>
    intro j hj ha ha' e post h
    obtain rfl : ha' = ha := funext fun q => by rw [e, if_neg (by omega)]
    refine br_t ?_ h
    rw [ee]; exact nI_le (by omega) (by omega)
  | succ d ih =>
    intro j hj ha ha' e post h
    refine br_f ?_ (zz_st j rfl (by omega) (by decide) (nm_r (nI_1 j) (ih (j + 1) (by omega) (upd ha j 0) ha' (fun q => ?_) post h)))
    · rw [ee]; exact nI_ge (by omega) (by omega)
    · rw [e q]
      by_cases q1 : q = j
      · subst q1
        rw [if_pos (by omega), if_neg (by omega), pk_us]
      · rw [pk_un q1]
        by_cases q2 : j + 1 ≤ q ∧ q < c * 28 + 28
        · rw [if_pos (by omega), if_pos q2]
        · rw [if_neg (by omega), if_neg q2]
theorem zz_s_crashClient (hR : zz_R nc nb dr lo tm ln lg mc gc pn ck rt lk le ne pe ms pc ct ha mm gg pp) (v1 : Int32) : ∃ (r : Int32) (u' : SX) (v' : SY), i_Rel 0 u' v' ∧ (∀ post : Int32 → SX → Prop, post r u' → wpX_crashClient post ((nI nc), (nI nb), (nI dr), (nI lo), (nI tm), (nI ln), dn, re, (nI lg), (nI mc), ck, rt, lk, (le 0), (le 1), (le 2), (le 3), (le 4), (le 5), (le 6), (ne 0), (ne 1), (ne 2), (ne 3), (ne 4), pc, (pe 0), (pe 1), (pe 2), (pe 3), (pe 4), bv, bw, (ms 0), (ms 1), (ms 2), (ms 3), (ms 4), (ms 5), (ms 6)) v1) ∧ (∀ post : Int32 → SY → Prop, post r v' → wpY_crashClient post ((nI nc), (nI nb), (nI dr), (nI lo), (nI tm), (nI ln), (nI lg), re, (nI mc), (nI gc), dn, ck, rt, ct, bv, bw, ha, mm, gg, pp, pc) v1) := by
  have hR0 := hR
  obtain ⟨⟨c1, c2, b1, b2, d3, l1, l2, t6, n2, g2⟩, hC, hL, hH, hM, hP, hG, hN⟩ := hR
  rcases zz_ix v1 nc (by omega) with a | ⟨a, a1, a2⟩ | ⟨c, hc, rfl⟩
  · exact ⟨-1, ((nI nc), (nI nb), (nI dr), (nI lo), (nI tm), (nI ln), dn, re, (nI lg), (nI mc), ck, rt, lk, (le 0), (le 1), (le 2), (le 3), (le 4), (le 5), (le 6), (ne 0), (ne 1), (ne 2), (ne 3), (ne 4), pc, (pe 0), (pe 1), (pe 2), (pe 3), (pe 4), bv, bw, (ms 0), (ms 1), (ms 2), (ms 3), (ms 4), (ms 5), (ms 6)), ((nI nc), (nI nb), (nI dr), (nI lo), (nI tm), (nI ln), (nI lg), re, (nI mc), (nI gc), dn, ck, rt, ct, bv, bw, ha, mm, gg, pp, pc), zz_rel hR0, fun _ h => br_t a h, fun _ h => br_t a h⟩
  · exact ⟨-1, ((nI nc), (nI nb), (nI dr), (nI lo), (nI tm), (nI ln), dn, re, (nI lg), (nI mc), ck, rt, lk, (le 0), (le 1), (le 2), (le 3), (le 4), (le 5), (le 6), (ne 0), (ne 1), (ne 2), (ne 3), (ne 4), pc, (pe 0), (pe 1), (pe 2), (pe 3), (pe 4), bv, bw, (ms 0), (ms 1), (ms 2), (ms 3), (ms 4), (ms 5), (ms 6)), ((nI nc), (nI nb), (nI dr), (nI lo), (nI tm), (nI ln), (nI lg), re, (nI mc), (nI gc), dn, ck, rt, ct, bv, bw, ha, mm, gg, pp, pc), zz_rel hR0, fun _ h => br_f a (br_f a2 h), fun _ h => br_f a (br_f a2 h)⟩
  · have p0 : ¬ nI c < 0 := nI_pos (by omega)
    have p1 : nI c < nI nc := nI_lt hc (by omega)
    refine ⟨0, ((nI nc), (nI nb), (nI dr), (nI lo), (nI tm), (nI ln), dn, re, (nI lg), (nI mc), ck, rt, lk, ((fun f q => if c * 4 + 0 ≤ q ∧ q < c * 4 + nb then 0 else le f q) 0), ((fun f q => if c * 4 + 0 ≤ q ∧ q < c * 4 + nb then 0 else le f q) 1), ((fun f q => if c * 4 + 0 ≤ q ∧ q < c * 4 + nb then 0 else le f q) 2), ((fun f q => if c * 4 + 0 ≤ q ∧ q < c * 4 + nb then 0 else le f q) 3), ((fun f q => if c * 4 + 0 ≤ q ∧ q < c * 4 + nb then 0 else le f q) 4), ((fun f q => if c * 4 + 0 ≤ q ∧ q < c * 4 + nb then 0 else le f q) 5), ((fun f q => if c * 4 + 0 ≤ q ∧ q < c * 4 + nb then 0 else le f q) 6), (ne 0), (ne 1), (ne 2), (ne 3), (ne 4), pc, (pe 0), (pe 1), (pe 2), (pe 3), (pe 4), bv, bw, (ms 0), (ms 1), (ms 2), (ms 3), (ms 4), (ms 5), (ms 6)), ((nI nc), (nI nb), (nI dr), (nI lo), (nI tm), (nI ln), (nI lg), re, (nI mc), (nI gc), dn, ck, rt, ct, bv, bw, (fun q => if c * 28 ≤ q ∧ q < c * 28 + 28 then 0 else ha q), mm, gg, pp, pc), zz_rel (pn := pn) (le := fun f q => if c * 4 + 0 ≤ q ∧ q < c * 4 + nb then 0 else le f q) ⟨⟨c1, c2, b1, b2, d3, l1, l2, t6, n2, g2⟩, hC, hL, ?_, hM, hP, hG, hN⟩, fun post h => br_f p0 (br_t p1 ⟨nb + 1, ?_⟩), fun post h => br_f p0 (br_t p1 (nm_r (pk_mul c 28) ⟨28 + 1, ?_⟩))⟩
    · intro p hp hb
      have w := hH p hp hb
      by_cases q : p / 4 = c
      · have e1 : ∀ f, (if c * 4 + 0 ≤ p ∧ p < c * 4 + nb then 0 else le f p) = 0 := fun f => if_pos (by omega)
        have e2 : ∀ f, f < 7 → (if c * 28 ≤ p * 7 + f ∧ p * 7 + f < c * 28 + 28 then 0 else ha (p * 7 + f)) = 0 := fun f hf => if_pos (by omega)
        exact ⟨(e1 0).trans (e2 0 (by omega)).symm, fun z => absurd (e1 0) z, (e1 4).trans (e2 4 (by omega)).symm, fun z => absurd (e1 4) z⟩
      · have e1 : ∀ f, (if c * 4 + 0 ≤ p ∧ p < c * 4 + nb then 0 else le f p) = le f p := fun f => if_neg (by omega)
        have e2 : ∀ f, f < 7 → (if c * 28 ≤ p * 7 + f ∧ p * 7 + f < c * 28 + 28 then 0 else ha (p * 7 + f)) = ha (p * 7 + f) := fun f hf => if_neg (by omega)
        show (if c * 4 + 0 ≤ p ∧ p < c * 4 + nb then 0 else le 0 p) = (if c * 28 ≤ p * 7 + 0 ∧ p * 7 + 0 < c * 28 + 28 then 0 else ha (p * 7 + 0)) ∧ (¬ (if c * 4 + 0 ≤ p ∧ p < c * 4 + nb then 0 else le 0 p) = 0 → (if c * 4 + 0 ≤ p ∧ p < c * 4 + nb then 0 else le 1 p) = (if c * 28 ≤ p * 7 + 1 ∧ p * 7 + 1 < c * 28 + 28 then 0 else ha (p * 7 + 1)) ∧ (if c * 4 + 0 ≤ p ∧ p < c * 4 + nb then 0 else le 2 p) = (if c * 28 ≤ p * 7 + 2 ∧ p * 7 + 2 < c * 28 + 28 then 0 else ha (p * 7 + 2)) ∧ (if c * 4 + 0 ≤ p ∧ p < c * 4 + nb then 0 else le 3 p) = (if c * 28 ≤ p * 7 + 3 ∧ p * 7 + 3 < c * 28 + 28 then 0 else ha (p * 7 + 3))) ∧ (if c * 4 + 0 ≤ p ∧ p < c * 4 + nb then 0 else le 4 p) = (if c * 28 ≤ p * 7 + 4 ∧ p * 7 + 4 < c * 28 + 28 then 0 else ha (p * 7 + 4)) ∧ (¬ (if c * 4 + 0 ≤ p ∧ p < c * 4 + nb then 0 else le 4 p) = 0 → (if c * 4 + 0 ≤ p ∧ p < c * 4 + nb then 0 else le 5 p) = (if c * 28 ≤ p * 7 + 5 ∧ p * 7 + 5 < c * 28 + 28 then 0 else ha (p * 7 + 5)) ∧ (if c * 4 + 0 ≤ p ∧ p < c * 4 + nb then 0 else le 6 p) = (if c * 28 ≤ p * 7 + 6 ∧ p * 7 + 6 < c * 28 + 28 then 0 else ha (p * 7 + 6)) ∧ 0 ≤ (if c * 4 + 0 ≤ p ∧ p < c * 4 + nb then 0 else le 6 p).toInt ∧ (if c * 4 + 0 ≤ p ∧ p < c * 4 + nb then 0 else le 6 p).toInt ≤ 1000000)
        rw [e1, e1, e1, e1, e1, e1, e1, e2 0 (by omega), e2 1 (by omega), e2 2 (by omega), e2 3 (by omega), e2 4 (by omega), e2 5 (by omega), e2 6 (by omega)]
        exact w
    · exact zz_ccX (by omega) b2 nb 0 (by omega) le _ (fun _ _ => rfl) post h
    · exact zz_ccY (by omega) 28 (c * 28) (by omega) ha _ (fun _ => rfl) post h
theorem zz_cs50 : ∀ d j, j + d = 4 → ∀ pc pc' : Nat → Int32, (∀ q, pc' q = if j ≤ q ∧ q < 4 then 0 else pc q) → ∀ post : Int32 → SX → Prop, post 0 ((nI nc), (nI nb), (nI dr), (nI lo), (nI tm), (nI ln), dn, re, (nI lg), (nI mc), ck, rt, lk, (le 0), (le 1), (le 2), (le 3), (le 4), (le 5), (le 6), (ne 0), (ne 1), (ne 2), (ne 3), (ne 4), pc', (pe 0), (pe 1), (pe 2), (pe 3), (pe 4), bv, bw, (ms 0), (ms 1), (ms 2), (ms 3), (ms 4), (ms 5), (ms 6)) → wX_crashServer_50 post (nI nc) (nI nb) (nI dr) (nI lo) (nI tm) (nI ln) dn re (nI lg) (nI mc) (d + 1) (nI j) ck rt lk (le 0) (le 1) (le 2) (le 3) (le 4) (le 5) (le 6) (ne 0) (ne 1) (ne 2) (ne 3) (ne 4) pc (pe 0) (pe 1) (pe 2) (pe 3) (pe 4) bv bw (ms 0) (ms 1) (ms 2) (ms 3) (ms 4) (ms 5) (ms 6) := by
  intro d
  induction d with
  | zero =>
    intro j hj pc pc' e post h
    obtain rfl : pc' = pc := funext fun q => by rw [e, if_neg (by omega)]
    exact br_t (nI_le (a := 4) (by omega) (by omega)) h
  | succ d ih =>
    intro j hj pc pc' e post h
    refine br_f (nI_ge (b := 4) (by omega) (by omega)) (zz_st j rfl (by omega) (by decide) (nm_r (nI_1 j) (ih (j + 1) (by omega) (upd pc j 0) pc' (fun q => ?_) post h)))
    rw [e q]
    by_cases q1 : q = j
    · subst q1
      rw [if_pos (by omega), if_neg (by omega), pk_us]
    · rw [pk_un q1]
      by_cases q2 : j + 1 ≤ q ∧ q < 4
      · rw [if_pos (by omega), if_pos q2]
      · rw [if_neg (by omega), if_neg q2]
theorem zz_cs17 : ∀ d j, j + d = 16 → ∀ ne ne' : Nat → Nat → Int32, (∀ f q, ne' f q = if j ≤ q ∧ q < 16 then 0 else ne f q) → ∀ post : Int32 → SX → Prop, (∃ n, wX_crashServer_50 post (nI nc) (nI nb) (nI dr) (nI lo) (nI tm) (nI ln) dn re (nI lg) (nI mc) n 0 ck rt lk (le 0) (le 1) (le 2) (le 3) (le 4) (le 5) (le 6) (ne' 0) (ne' 1) (ne' 2) (ne' 3) (ne' 4) pc (pe 0) (pe 1) (pe 2) (pe 3) (pe 4) bv bw (ms 0) (ms 1) (ms 2) (ms 3) (ms 4) (ms 5) (ms 6)) → wX_crashServer_17 post (d + 1) (nI j) (nI nc) (nI nb) (nI dr) (nI lo) (nI tm) (nI ln) dn re (nI lg) (nI mc) ck rt lk (le 0) (le 1) (le 2) (le 3) (le 4) (le 5) (le 6) (ne 0) (ne 1) (ne 2) (ne 3) (ne 4) pc (pe 0) (pe 1) (pe 2) (pe 3) (pe 4) bv bw (ms 0) (ms 1) (ms 2) (ms 3) (ms 4) (ms 5) (ms 6) := by
  intro d
  induction d with
  | zero =>
    intro j hj ne ne' e post h
    obtain rfl : ne' = ne := funext fun f => funext fun q => by rw [e, if_neg (by omega)]
    exact br_t (nI_le (a := 16) (by omega) (by omega)) h
  | succ d ih =>
    intro j hj ne ne' e post h
    refine br_f (nI_ge (b := 16) (by omega) (by omega)) (zz_st j rfl (by omega) (by decide) (zz_st j rfl (by omega) (by decide) (zz_endGX (by omega) (nm_r (nI_1 j) ?_))))
    refine ih (j + 1) (by omega) (fun f => upd (ne f) j 0) ne' (fun f q => ?_) post h
    rw [e f q]
    show _ = (if _ then _ else upd (ne f) j 0 q)
    by_cases q1 : q = j
    · subst q1
      rw [if_pos (by omega), if_neg (by omega), pk_us]
    · rw [pk_un q1]
      by_cases q2 : j + 1 ≤ q ∧ q < 16
      · rw [if_pos (by omega), if_pos q2]
      · rw [if_neg (by omega), if_neg q2]
theorem zz_csY (hnb : nb ≤ 4) : ∀ d j, j + d = nb → ∀ pc pc' : Nat → Int32, (∀ q, pc' q = if j ≤ q ∧ q < nb then 0 else pc q) → ∀ post : Int32 → SY → Prop, post 0 ((nI nc), (nI nb), (nI dr), (nI lo), (nI tm), (nI ln), (nI lg), re, (nI mc), (nI gc), dn, ck, rt, ct, bv, bw, ha, mm, gg, pp, pc') → wY_crashServer_22 post (nI nc) (nI nb) (nI dr) (nI lo) (nI tm) (nI ln) (nI lg) re (nI mc) (nI gc) dn (d + 1) (nI j) ck rt ct bv bw ha mm gg pp pc := by
  intro d
  induction d with
  | zero =>
    intro j hj pc pc' e post h
    obtain rfl : pc' = pc := funext fun q => by rw [e, if_neg (by omega)]
    exact br_t (nI_le (by omega) (by omega)) h
  | succ d ih =>
    intro j hj pc pc' e post h
    refine br_f (nI_ge (by omega) (by omega)) (zz_st j rfl (by omega) (by decide) (nm_r (nI_1 j) (ih (j + 1) (by omega) (upd pc j 0) pc' (fun q => ?_) post h)))
    rw [e q]
    by_cases q1 : q = j
    · subst q1
      rw [if_pos (by omega), if_neg (by omega), pk_us]
    · rw [pk_un q1]
      by_cases q2 : j + 1 ≤ q ∧ q < nb
      · rw [if_pos (by omega), if_pos q2]
      · rw [if_neg (by omega), if_neg q2]
theorem zz_s_crashServer (hR : zz_R nc nb dr lo tm ln lg mc gc pn ck rt lk le ne pe ms pc ct ha mm gg pp) : ∃ (r : Int32) (u' : SX) (v' : SY), i_Rel 0 u' v' ∧ (∀ post : Int32 → SX → Prop, post r u' → wpX_crashServer post ((nI nc), (nI nb), (nI dr), (nI lo), (nI tm), (nI ln), dn, re, (nI lg), (nI mc), ck, rt, lk, (le 0), (le 1), (le 2), (le 3), (le 4), (le 5), (le 6), (ne 0), (ne 1), (ne 2), (ne 3), (ne 4), pc, (pe 0), (pe 1), (pe 2), (pe 3), (pe 4), bv, bw, (ms 0), (ms 1), (ms 2), (ms 3), (ms 4), (ms 5), (ms 6))) ∧ (∀ post : Int32 → SY → Prop, post r v' → wpY_crashServer post ((nI nc), (nI nb), (nI dr), (nI lo), (nI tm), (nI ln), (nI lg), re, (nI mc), (nI gc), dn, ck, rt, ct, bv, bw, ha, mm, gg, pp, pc)) := by
  have hR0 := hR
  obtain ⟨⟨c1, c2, b1, b2, d3, l1, l2, t6, n2, g2⟩, hC, hL, hH, hM, hP, hG, hN⟩ := hR
  by_cases q : dn = 0
  · have ey : ∀ x, (if 0 ≤ x ∧ x < 4 then 0 else pc x) = if 0 ≤ x ∧ x < nb then 0 else pc x := fun x => by
      by_cases h1 : x < nb
      · rw [if_pos (by omega), if_pos (by omega)]
      · by_cases h2 : x < 4
        · obtain ⟨e1, _, e2, _⟩ := hP x h2
          rw [if_pos (by omega), if_neg (by omega), e1, e2 (by omega)]; rfl
        · rw [if_neg (by omega), if_neg (by omega)]
    refine ⟨0, ((nI nc), (nI nb), (nI dr), (nI lo), (nI tm), (nI ln), 1, re, (nI lg), (nI mc), ck, rt, lk, (le 0), (le 1), (le 2), (le 3), (le 4), (le 5), (le 6), ((fun f x => if 0 ≤ x ∧ x < 16 then 0 else ne f x) 0), ((fun f x => if 0 ≤ x ∧ x < 16 then 0 else ne f x) 1), ((fun f x => if 0 ≤ x ∧ x < 16 then 0 else ne f x) 2), ((fun f x => if 0 ≤ x ∧ x < 16 then 0 else ne f x) 3), ((fun f x => if 0 ≤ x ∧ x < 16 then 0 else ne f x) 4), (fun x => if 0 ≤ x ∧ x < 4 then 0 else pc x), (pe 0), (pe 1), (pe 2), (pe 3), (pe 4), bv, bw, (ms 0), (ms 1), (ms 2), (ms 3), (ms 4), (ms 5), (ms 6)), ((nI nc), (nI nb), (nI dr), (nI lo), (nI tm), (nI ln), (nI lg), re, (nI mc), (nI 0), 1, ck, rt, ct, bv, bw, ha, mm, gg, pp, (fun x => if 0 ≤ x ∧ x < 4 then 0 else pc x)), zz_rel (pn := fun _ => 0) (ne := fun f x => if 0 ≤ x ∧ x < 16 then 0 else ne f x) ⟨⟨c1, c2, b1, b2, d3, l1, l2, t6, n2, g2⟩, hC, hL, hH, hM, ?_, ⟨⟨by omega, fun g hg => absurd hg (by omega)⟩, ?_⟩, ?_⟩, fun post h => br_t q ⟨16 + 1, ?_⟩, fun post h => br_t q ⟨nb + 1, ?_⟩⟩
    · intro b hb
      exact ⟨if_pos (by omega), Nat.zero_le _, fun _ => rfl, fun k hk => absurd hk (Nat.not_lt_zero _)⟩
    · intro c b hc hb
      have e1 : ∀ f, (if 0 ≤ c * 4 + b ∧ c * 4 + b < 16 then 0 else ne f (c * 4 + b)) = 0 := fun f => if_pos (by omega)
      exact ⟨e1 0, e1 1, e1 2, e1 3, e1 4⟩
    · show 0 + (0 + 0 + 0 + 0) + zz_rq (ms 0) mc ≤ ln
      unfold zz_RN at hN; omega
    · exact zz_cs17 16 0 (by omega) ne _ (fun _ _ => rfl) post ⟨4 + 1, zz_cs50 (ne := fun f x => if 0 ≤ x ∧ x < 16 then 0 else ne f x) 4 0 (by omega) pc _ (fun _ => rfl) post h⟩
    · exact zz_csY b2 nb 0 (by omega) pc _ ey post h
  · exact ⟨-7, ((nI nc), (nI nb), (nI dr), (nI lo), (nI tm), (nI ln), dn, re, (nI lg), (nI mc), ck, rt, lk, (le 0), (le 1), (le 2), (le 3), (le 4), (le 5), (le 6), (ne 0), (ne 1), (ne 2), (ne 3), (ne 4), pc, (pe 0), (pe 1), (pe 2), (pe 3), (pe 4), bv, bw, (ms 0), (ms 1), (ms 2), (ms 3), (ms 4), (ms 5), (ms 6)), ((nI nc), (nI nb), (nI dr), (nI lo), (nI tm), (nI ln), (nI lg), re, (nI mc), (nI gc), dn, ck, rt, ct, bv, bw, ha, mm, gg, pp, pc), zz_rel hR0, fun _ h => br_f q h, fun _ h => br_f q h⟩
end
end
section
/-! serve: the walk over the clients -/
def zz_ls (md : Int32) : Int32 := if md = 2 then 1 else 2
section
variable {nc nb dr lo tm ln lg mc gc : Nat} {pn : Nat → Nat} {dn re : Int32} {ck rt lk : Nat → Int32} {le ne pe ms : Nat → Nat → Int32} {pc bv bw ct ha mm gg pp : Nat → Int32}
variable {b c x : Nat} {md : Int32}
theorem zz_cf_iff (hG : zz_RG nc nb gc ne gg) (hk : 0 ≤ (ck nc).toInt) (hx : x < nc) (hb : b < nb) : zz_cf (ne 3) (ne 4) (ck nc) md b c x ↔ ¬ x = c ∧ ¬ zz_dl (ck nc) (zz_mx gg (nI x) (nI b) (zz_ls md) gc) = 0 := by
  obtain ⟨⟨g0, g1⟩, hg⟩ := hG
  obtain ⟨k0, k1, k2, k3, k4⟩ := hg x b hx hb
  have e : zz_cE (ne 3) (ne 4) md (x * 4 + b) = zz_mx gg (nI x) (nI b) (zz_ls md) gc := by
    unfold zz_cE zz_ls
    by_cases m : md = 2
    · rw [if_pos m, if_pos m, k4]
    · rw [if_neg m, if_neg m, k3]
  unfold zz_cf
  rw [e, zz_dl0 hk (zz_mx_b gc (fun i hi => (g1 i hi).2.1))]
theorem zz_y_no {post : Int32 → SY → Prop} {J : Int32 → Int32 → Int32 → Int32 → Int32 → Int32 → Int32 → Int32 → Int32 → Int32 → Int32 → Int32 → Int32 → (Nat → Int32) → (Nat → Int32) → (Nat → Int32) → (Nat → Int32) → (Nat → Int32) → (Nat → Int32) → (Nat → Int32) → (Nat → Int32) → (Nat → Int32) → (Nat → Int32) → Prop} {x2 x3 x4 x6 x7 x8 un fl : Int32} {n : Nat} (hG : zz_RG nc nb gc ne gg) (hk : 0 ≤ (ck nc).toInt) (c2 : nc ≤ 4) (hx : x < nc) (hb : b < nb) (hc : c < nc) (z : ¬ zz_cf (ne 3) (ne 4) (ck nc) md b c x) (h : wY_serve_110 post J (nI b) x2 x3 x4 (nI c) x6 x7 x8 (zz_ls md) un n fl (nI (x + 1)) (nI nc) (nI nb) (nI dr) (nI lo) (nI tm) (nI ln) (nI lg) re (nI mc) (nI gc) dn ck rt ct bv bw ha mm gg pp pc) : wY_serve_110 post J (nI b) x2 x3 x4 (nI c) x6 x7 x8 (zz_ls md) un (n + 1) fl (nI x) (nI nc) (nI nb) (nI dr) (nI lo) (nI tm) (nI ln) (nI lg) re (nI mc) (nI gc) dn ck rt ct bv bw ha mm gg pp pc := by
  rw [zz_cf_iff hG hk hx hb] at z
  obtain ⟨⟨g0, g1⟩, hg⟩ := hG
  refine br_f (nI_ge hx (by omega)) (br_c (fun _ => nm_r (nI_1 x) h) (fun q => ?_))
  rw [nI_eq (by omega) (by omega)] at q
  refine zz_unitsY g0 c2 hk (fun i hi => (g1 i hi).2.1) ?_
  exact br_c (fun _ => nm_r (nI_1 x) h) (fun w => (z ⟨q, w⟩).elim)
theorem zz_y_new (hG : zz_RG nc nb gc ne gg) (hk : 0 ≤ (ck nc).toInt) (hx : x < nc) (hb : b < nb) (z : zz_cf (ne 3) (ne 4) (ck nc) md b c x) : ∃ m, m < gc ∧ zz_ni gg (nI x) (nI b) gc = nI m ∧ ne 0 (x * 4 + b) = gg (m * 6) := by
  rw [zz_cf_iff hG hk hx hb] at z
  obtain ⟨⟨g0, g1⟩, hg⟩ := hG
  rcases zz_ni_spec gg (nI x) (nI b) gc with ⟨_, _, e⟩ | ⟨m, hm, e, e1⟩
  · exfalso
    apply z.2
    rw [e]
    exact (zz_dl0 hk (by rw [zz_t0]; omega)).mpr (by rw [zz_le, zz_t0]; exact hk)
  · exact ⟨m, hm, e, (hg x b hx hb).1.trans (e1 _)⟩
theorem zz_y_yes0 {post : Int32 → SY → Prop} {J : Int32 → Int32 → Int32 → Int32 → Int32 → Int32 → Int32 → Int32 → Int32 → Int32 → Int32 → Int32 → Int32 → (Nat → Int32) → (Nat → Int32) → (Nat → Int32) → (Nat → Int32) → (Nat → Int32) → (Nat → Int32) → (Nat → Int32) → (Nat → Int32) → (Nat → Int32) → (Nat → Int32) → Prop} {x2 x4 x6 x7 x8 fl : Int32} {n : Nat} (hG : zz_RG nc nb gc ne gg) (hk : 0 ≤ (ck nc).toInt) (c2 : nc ≤ 4) (b2 : nb ≤ 4) (hx : x < nc) (hb : b < nb) (hc : c < nc) (z : zz_cf (ne 3) (ne 4) (ck nc) md b c x) (h : wY_serve_110 post J (nI b) x2 (nI (b * 20)) x4 (nI c) x6 x7 x8 (zz_ls md) 0 n 1 (nI (x + 1)) (nI nc) (nI nb) (nI dr) (nI lo) (nI tm) (nI ln) (nI lg) re (nI mc) (nI gc) dn ck rt ct bv bw ha mm gg (upd pp (b * 20 + 4) 1) pc) : wY_serve_110 post J (nI b) x2 (nI (b * 20)) x4 (nI c) x6 x7 x8 (zz_ls md) 0 (n + 1) fl (nI x) (nI nc) (nI nb) (nI dr) (nI lo) (nI tm) (nI ln) (nI lg) re (nI mc) (nI gc) dn ck rt ct bv bw ha mm gg pp pc := by
  have z' := (zz_cf_iff hG hk hx hb).mp z
  obtain ⟨⟨g0, g1⟩, hg⟩ := hG
  refine br_f (nI_ge hx (by omega)) (br_f (by rw [nI_eq (by omega) (by omega)]; exact z'.1) ?_)
  refine zz_unitsY g0 c2 hk (fun i hi => (g1 i hi).2.1) (br_f z'.2 ?_)
  refine zz_st (b * 20 + 4) (nI_add _ 4) (by omega) (by decide) ?_
  exact zz_newestY g0 (br_t rfl (nm_r (nI_1 x) h))
theorem zz_y_yes1 {post : Int32 → SY → Prop} {J : Int32 → Int32 → Int32 → Int32 → Int32 → Int32 → Int32 → Int32 → Int32 → Int32 → Int32 → Int32 → Int32 → (Nat → Int32) → (Nat → Int32) → (Nat → Int32) → (Nat → Int32) → (Nat → Int32) → (Nat → Int32) → (Nat → Int32) → (Nat → Int32) → (Nat → Int32) → (Nat → Int32) → Prop} {x2 x4 x6 x7 x8 fl : Int32} {n mc' : Nat} {mm' : Nat → Int32} (hG : zz_RG nc nb gc ne gg) (hk : 0 ≤ (ck nc).toInt) (c2 : nc ≤ 4) (b2 : nb ≤ 4) (hx : x < nc) (hb : b < nb) (hc : c < nc) (z : zz_cf (ne 3) (ne 4) (ck nc) md b c x) (hS : ∀ post : SY → Prop, post ((nI nc), (nI nb), (nI dr), (nI lo), (nI tm), (nI ln), (nI lg), re, (nI mc'), (nI gc), dn, ck, rt, ct, bv, bw, ha, mm', gg, (upd pp (b * 20 + 4) 1), pc) → wpY_send post ((nI nc), (nI nb), (nI dr), (nI lo), (nI tm), (nI ln), (nI lg), re, (nI mc), (nI gc), dn, ck, rt, ct, bv, bw, ha, mm, gg, (upd pp (b * 20 + 4) 1), pc) 3 (nI x) (nI b) (ne 0 (x * 4 + b)) 0 0 0) (h : wY_serve_110 post J (nI b) x2 (nI (b * 20)) x4 (nI c) x6 x7 x8 (zz_ls md) 1 n 1 (nI (x + 1)) (nI nc) (nI nb) (nI dr) (nI lo) (nI tm) (nI ln) (nI lg) re (nI mc') (nI gc) dn ck rt ct bv bw ha mm' gg (upd pp (b * 20 + 4) 1) pc) : wY_serve_110 post J (nI b) x2 (nI (b * 20)) x4 (nI c) x6 x7 x8 (zz_ls md) 1 (n + 1) fl (nI x) (nI nc) (nI nb) (nI dr) (nI lo) (nI tm) (nI ln) (nI lg) re (nI mc) (nI gc) dn ck rt ct bv bw ha mm gg pp pc := by
  have z' := (zz_cf_iff hG hk hx hb).mp z
  obtain ⟨m, hm, em, en⟩ := zz_y_new hG hk hx hb z
  obtain ⟨⟨g0, g1⟩, hg⟩ := hG
  have i6 : nI m * 6 = nI (m * 6) := pk_mul m 6
  refine br_f (nI_ge hx (by omega)) (br_f (by rw [nI_eq (by omega) (by omega)]; exact z'.1) ?_)
  refine zz_unitsY g0 c2 hk (fun i hi => (g1 i hi).2.1) (br_f z'.2 ?_)
  refine zz_st (b * 20 + 4) (nI_add _ 4) (by omega) (by decide) ?_
  refine zz_newestY g0 ?_
  rw [em]
  refine br_f zz_01 (br_f (nI_pos (by omega)) ⟨zz_vi _ i6 (by omega) (by decide), ?_⟩)
  rw [zz_cl i6 (by omega), ← en]
  exact hS _ (nm_r (nI_1 x) h)
/-- no conflict ahead: to the end of the clients -/
theorem zz_y_C {post : Int32 → SY → Prop} {J : Int32 → Int32 → Int32 → Int32 → Int32 → Int32 → Int32 → Int32 → Int32 → Int32 → Int32 → Int32 → Int32 → (Nat → Int32) → (Nat → Int32) → (Nat → Int32) → (Nat → Int32) → (Nat → Int32) → (Nat → Int32) → (Nat → Int32) → (Nat → Int32) → (Nat → Int32) → (Nat → Int32) → Prop} {x2 x3 x4 x6 x7 x8 un fl : Int32} (hG : zz_RG nc nb gc ne gg) (hk : 0 ≤ (ck nc).toInt) (c2 : nc ≤ 4) (hb : b < nb) (hc : c < nc) (z : ∀ y, y < nc → ¬ zz_cf (ne 3) (ne 4) (ck nc) md b c y) (h : wY_serve_110 post J (nI b) x2 x3 x4 (nI c) x6 x7 x8 (zz_ls md) un 1 fl (nI nc) (nI nc) (nI nb) (nI dr) (nI lo) (nI tm) (nI ln) (nI lg) re (nI mc) (nI gc) dn ck rt ct bv bw ha mm gg pp pc) : ∀ d x, x + d = nc → wY_serve_110 post J (nI b) x2 x3 x4 (nI c) x6 x7 x8 (zz_ls md) un (d + 1) fl (nI x) (nI nc) (nI nb) (nI dr) (nI lo) (nI tm) (nI ln) (nI lg) re (nI mc) (nI gc) dn ck rt ct bv bw ha mm gg pp pc := by
  intro d
  induction d with
  | zero =>
    intro x hx
    obtain rfl : x = nc := by omega
    exact h
  | succ d ih =>
    intro x hx
    exact zz_y_no hG hk c2 (by omega) hb hc (z x (by omega)) (ih (x + 1) (by omega))
/-- a marked request: nothing is sent -/
theorem zz_y_0 {post : Int32 → SY → Prop} {J : Int32 → Int32 → Int32 → Int32 → Int32 → Int32 → Int32 → Int32 → Int32 → Int32 → Int32 → Int32 → Int32 → (Nat → Int32) → (Nat → Int32) → (Nat → Int32) → (Nat → Int32) → (Nat → Int32) → (Nat → Int32) → (Nat → Int32) → (Nat → Int32) → (Nat → Int32) → (Nat → Int32) → Prop} {x2 x4 x6 x7 x8 : Int32} (hG : zz_RG nc nb gc ne gg) (hk : 0 ≤ (ck nc).toInt) (c2 : nc ≤ 4) (b2 : nb ≤ 4) (hb : b < nb) (hc : c < nc) (hp : pp (b * 20 + 4) = 1) (h : post x2 ((nI nc), (nI nb), (nI dr), (nI lo), (nI tm), (nI ln), (nI lg), re, (nI mc), (nI gc), dn, ck, rt, ct, bv, bw, ha, mm, gg, pp, pc)) : ∀ d x, x + d = nc → ∀ fl : Int32, (fl = 1 ∨ ∃ y, x ≤ y ∧ y < nc ∧ zz_cf (ne 3) (ne 4) (ck nc) md b c y) → wY_serve_110 post J (nI b) x2 (nI (b * 20)) x4 (nI c) x6 x7 x8 (zz_ls md) 0 (d + 1) fl (nI x) (nI nc) (nI nb) (nI dr) (nI lo) (nI tm) (nI ln) (nI lg) re (nI mc) (nI gc) dn ck rt ct bv bw ha mm gg pp pc := by
  have ep : upd pp (b * 20 + 4) 1 = pp := funext fun q => by
    by_cases e : q = b * 20 + 4
    · rw [e, pk_us, hp]
    · rw [pk_un e]
  intro d
  induction d with
  | zero =>
    intro x hx fl hf
    obtain rfl : fl = 1 := by
      rcases hf with e | ⟨y, a, a', _⟩
      · exact e
      · omega
    exact br_t (nI_le (by omega) (by omega)) (br_f zz_01 h)
  | succ d ih =>
    intro x hx fl hf
    by_cases z : zz_cf (ne 3) (ne 4) (ck nc) md b c x
    · refine zz_y_yes0 hG hk c2 b2 (by omega) hb hc z ?_
      rw [ep]
      exact ih (x + 1) (by omega) 1 (Or.inl rfl)
    · refine zz_y_no hG hk c2 (by omega) hb hc z (ih (x + 1) (by omega) fl ?_)
      rcases hf with e | ⟨y, a, a', w⟩
      · exact Or.inl e
      · refine Or.inr ⟨y, ?_, a', w⟩
        by_cases q : y = x
        · subst q; exact (z w).elim
        · omega
theorem zz_x_no {post : SX → Prop} {n : Nat} (c2 : nc ≤ 4) (b2 : nb ≤ 4) (hx : x < nc) (hb : b < nb) (hc : c < nc) (z : ¬ zz_cf (ne 3) (ne 4) (ck nc) md b c x) (h : wX_recallConflicting_3 post (nI b) (nI c) md n (nI (x + 1)) (nI nc) (nI nb) (nI dr) (nI lo) (nI tm) (nI ln) dn re (nI lg) (nI mc) ck rt lk (le 0) (le 1) (le 2) (le 3) (le 4) (le 5) (le 6) (ne 0) (ne 1) (ne 2) (ne 3) (ne 4) pc (pe 0) (pe 1) (pe 2) (pe 3) (pe 4) bv bw (ms 0) (ms 1) (ms 2) (ms 3) (ms 4) (ms 5) (ms 6)) : wX_recallConflicting_3 post (nI b) (nI c) md (n + 1) (nI x) (nI nc) (nI nb) (nI dr) (nI lo) (nI tm) (nI ln) dn re (nI lg) (nI mc) ck rt lk (le 0) (le 1) (le 2) (le 3) (le 4) (le 5) (le 6) (ne 0) (ne 1) (ne 2) (ne 3) (ne 4) pc (pe 0) (pe 1) (pe 2) (pe 3) (pe 4) bv bw (ms 0) (ms 1) (ms 2) (ms 3) (ms 4) (ms 5) (ms 6) :=
  br_f (nI_ge hx (by omega)) (zz_confX (by omega) (by omega) (by omega) c2 (fun w => (z w).elim) (fun _ => br_t rfl (nm_r (nI_1 x) h)))
theorem zz_x_yes {post : SX → Prop} {n mc' : Nat} {ms' : Nat → Nat → Int32} (c2 : nc ≤ 4) (b2 : nb ≤ 4) (hx : x < nc) (hb : b < nb) (hc : c < nc) (z : zz_cf (ne 3) (ne 4) (ck nc) md b c x) (hS : ∀ post : SX → Prop, post ((nI nc), (nI nb), (nI dr), (nI lo), (nI tm), (nI ln), dn, re, (nI lg), (nI mc'), ck, rt, lk, (le 0), (le 1), (le 2), (le 3), (le 4), (le 5), (le 6), (ne 0), (ne 1), (ne 2), (ne 3), (ne 4), pc, (pe 0), (pe 1), (pe 2), (pe 3), (pe 4), bv, bw, (ms' 0), (ms' 1), (ms' 2), (ms' 3), (ms' 4), (ms' 5), (ms' 6)) → wpX_send post ((nI nc), (nI nb), (nI dr), (nI lo), (nI tm), (nI ln), dn, re, (nI lg), (nI mc), ck, rt, lk, (le 0), (le 1), (le 2), (le 3), (le 4), (le 5), (le 6), (ne 0), (ne 1), (ne 2), (ne 3), (ne 4), pc, (pe 0), (pe 1), (pe 2), (pe 3), (pe 4), bv, bw, (ms 0), (ms 1), (ms 2), (ms 3), (ms 4), (ms 5), (ms 6)) 3 (nI x) (nI b) (ne 0 (x * 4 + b)) 0 0 0) (h : wX_recallConflicting_3 post (nI b) (nI c) md n (nI (x + 1)) (nI nc) (nI nb) (nI dr) (nI lo) (nI tm) (nI ln) dn re (nI lg) (nI mc') ck rt lk (le 0) (le 1) (le 2) (le 3) (le 4) (le 5) (le 6) (ne 0) (ne 1) (ne 2) (ne 3) (ne 4) pc (pe 0) (pe 1) (pe 2) (pe 3) (pe 4) bv bw (ms' 0) (ms' 1) (ms' 2) (ms' 3) (ms' 4) (ms' 5) (ms' 6)) : wX_recallConflicting_3 post (nI b) (nI c) md (n + 1) (nI x) (nI nc) (nI nb) (nI dr) (nI lo) (nI tm) (nI ln) dn re (nI lg) (nI mc) ck rt lk (le 0) (le 1) (le 2) (le 3) (le 4) (le 5) (le 6) (ne 0) (ne 1) (ne 2) (ne 3) (ne 4) pc (pe 0) (pe 1) (pe 2) (pe 3) (pe 4) bv bw (ms 0) (ms 1) (ms 2) (ms 3) (ms 4) (ms 5) (ms 6) :=
  br_f (nI_ge hx (by omega)) (zz_confX (by omega) (by omega) (by omega) c2 (fun _ => br_f zz_01 (zz_rd (x * 4 + b) (zz_p x b) (by omega) (by decide) (hS _ (nm_r (nI_1 x) h)))) (fun w => (w z).elim))
/-- the flag is up, the request is not marked: the recalls that are left -/
theorem zz_recA (hG : zz_RG nc nb gc ne gg) (hL : zz_RL lk ct) (hk : 0 ≤ (ck nc).toInt) (c2 : nc ≤ 4) (b2 : nb ≤ 4) (hb : b < nb) (hc : c < nc) (hp : pp (b * 20 + 4) = 1) : ∀ d x, x + d = nc → ∀ (mc : Nat) (ms : Nat → Nat → Int32) (mm : Nat → Int32), zz_RM nc nb mc ms mm → ∃ (mc' : Nat) (ms' : Nat → Nat → Int32) (mm' : Nat → Int32), zz_RM nc nb mc' ms' mm' ∧ zz_rq (ms' 0) mc' ≤ zz_rq (ms 0) mc ∧ (∀ post : SX → Prop, post ((nI nc), (nI nb), (nI dr), (nI lo), (nI tm), (nI ln), dn, re, (nI lg), (nI mc'), ck, rt, lk, (le 0), (le 1), (le 2), (le 3), (le 4), (le 5), (le 6), (ne 0), (ne 1), (ne 2), (ne 3), (ne 4), pc, (pe 0), (pe 1), (pe 2), (pe 3), (pe 4), bv, bw, (ms' 0), (ms' 1), (ms' 2), (ms' 3), (ms' 4), (ms' 5), (ms' 6)) → wX_recallConflicting_3 post (nI b) (nI c) md (d + 1) (nI x) (nI nc) (nI nb) (nI dr) (nI lo) (nI tm) (nI ln) dn re (nI lg) (nI mc) ck rt lk (le 0) (le 1) (le 2) (le 3) (le 4) (le 5) (le 6) (ne 0) (ne 1) (ne 2) (ne 3) (ne 4) pc (pe 0) (pe 1) (pe 2) (pe 3) (pe 4) bv bw (ms 0) (ms 1) (ms 2) (ms 3) (ms 4) (ms 5) (ms 6)) ∧ (∀ (post : Int32 → SY → Prop) (J : Int32 → Int32 → Int32 → Int32 → Int32 → Int32 → Int32 → Int32 → Int32 → Int32 → Int32 → Int32 → Int32 → (Nat → Int32) → (Nat → Int32) → (Nat → Int32) → (Nat → Int32) → (Nat → Int32) → (Nat → Int32) → (Nat → Int32) → (Nat → Int32) → (Nat → Int32) → (Nat → Int32) → Prop) (x2 x4 x6 x7 x8 : Int32), post x2 ((nI nc), (nI nb), (nI dr), (nI lo), (nI tm), (nI ln), (nI lg), re, (nI mc'), (nI gc), dn, ck, rt, ct, bv, bw, ha, mm', gg, pp, pc) → wY_serve_110 post J (nI b) x2 (nI (b * 20)) x4 (nI c) x6 x7 x8 (zz_ls md) 1 (d + 1) 1 (nI x) (nI nc) (nI nb) (nI dr) (nI lo) (nI tm) (nI ln) (nI lg) re (nI mc) (nI gc) dn ck rt ct bv bw ha mm gg pp pc) := by
  have ep : upd pp (b * 20 + 4) 1 = pp := funext fun q => by
    by_cases e : q = b * 20 + 4
    · rw [e, pk_us, hp]
    · rw [pk_un e]
  intro d
  induction d with
  | zero =>
    intro x hx mc ms mm hM
    exact ⟨mc, ms, mm, hM, Nat.le_refl _, fun post h => br_t (nI_le (by omega) (by omega)) h, fun post J x2 x4 x6 x7 x8 h => br_t (nI_le (by omega) (by omega)) (br_f zz_01 h)⟩
  | succ d ih =>
    intro x hx mc ms mm hM
    by_cases z : zz_cf (ne 3) (ne 4) (ck nc) md b c x
    · have hok : zz_mok nc nb 3 (nI x) (nI b) (ne 0 (x * 4 + b)) 0 0 := ⟨⟨x, by omega, rfl⟩, ⟨b, hb, rfl⟩, fun z => absurd z (by decide), fun z => absurd z (by decide)⟩
      obtain ⟨mc1, ms1, mm1, hM1, hq1, hX1, hY1⟩ := zz_send (l := 0) hM hL (show x < nc by omega) c2 hok
      rw [if_neg (by decide)] at hq1
      obtain ⟨mc2, ms2, mm2, hM2, hq2, hX2, hY2⟩ := ih (x + 1) (by omega) mc1 ms1 mm1 hM1
      refine ⟨mc2, ms2, mm2, hM2, by omega, fun post h => ?_, fun post J x2 x4 x6 x7 x8 h => ?_⟩
      · exact zz_x_yes c2 b2 (by omega) hb hc z (fun post h => hX1 post h) (hX2 post h)
      · refine zz_y_yes1 hG hk c2 b2 (by omega) hb hc z (fun post h => hY1 post h) ?_
        rw [ep]
        exact hY2 post J x2 x4 x6 x7 x8 h
    · obtain ⟨mc2, ms2, mm2, hM2, hq2, hX2, hY2⟩ := ih (x + 1) (by omega) mc ms mm hM
      exact ⟨mc2, ms2, mm2, hM2, hq2, fun post h => zz_x_no c2 b2 (by omega) hb hc z (hX2 post h), fun post J x2 x4 x6 x7 x8 h => zz_y_no hG hk c2 (by omega) hb hc z (hY2 post J x2 x4 x6 x7 x8 h)⟩
theorem zz_recB (hG : zz_RG nc nb gc ne gg) (hL : zz_RL lk ct) (hk : 0 ≤ (ck nc).toInt) (c2 : nc ≤ 4) (b2 : nb ≤ 4) (hb : b < nb) (hc : c < nc) : ∀ d x, x + d = nc → (∃ y, x ≤ y ∧ y < nc ∧ zz_cf (ne 3) (ne 4) (ck nc) md b c y) → ∀ (mc : Nat) (ms : Nat → Nat → Int32) (mm : Nat → Int32), zz_RM nc nb mc ms mm → ∃ (mc' : Nat) (ms' : Nat → Nat → Int32) (mm' : Nat → Int32), zz_RM nc nb mc' ms' mm' ∧ zz_rq (ms' 0) mc' ≤ zz_rq (ms 0) mc ∧ (∀ post : SX → Prop, post ((nI nc), (nI nb), (nI dr), (nI lo), (nI tm), (nI ln), dn, re, (nI lg), (nI mc'), ck, rt, lk, (le 0), (le 1), (le 2), (le 3), (le 4), (le 5), (le 6), (ne 0), (ne 1), (ne 2), (ne 3), (ne 4), pc, (pe 0), (pe 1), (pe 2), (pe 3), (pe 4), bv, bw, (ms' 0), (ms' 1), (ms' 2), (ms' 3), (ms' 4), (ms' 5), (ms' 6)) → wX_recallConflicting_3 post (nI b) (nI c) md (d + 1) (nI x) (nI nc) (nI nb) (nI dr) (nI lo) (nI tm) (nI ln) dn re (nI lg) (nI mc) ck rt lk (le 0) (le 1) (le 2) (le 3) (le 4) (le 5) (le 6) (ne 0) (ne 1) (ne 2) (ne 3) (ne 4) pc (pe 0) (pe 1) (pe 2) (pe 3) (pe 4) bv bw (ms 0) (ms 1) (ms 2) (ms 3) (ms 4) (ms 5) (ms 6)) ∧ (∀ (post : Int32 → SY → Prop) (J : Int32 → Int32 → Int32 → Int32 → Int32 → Int32 → Int32 → Int32 → Int32 → Int32 → Int32 → Int32 → Int32 → (Nat → Int32) → (Nat → Int32) → (Nat → Int32) → (Nat → Int32) → (Nat → Int32) → (Nat → Int32) → (Nat → Int32) → (Nat → Int32) → (Nat → Int32) → (Nat → Int32) → Prop) (x2 x4 x6 x7 x8 : Int32), post x2 ((nI nc), (nI nb), (nI dr), (nI lo), (nI tm), (nI ln), (nI lg), re, (nI mc'), (nI gc), dn, ck, rt, ct, bv, bw, ha, mm', gg, (upd pp (b * 20 + 4) 1), pc) → wY_serve_110 post J (nI b) x2 (nI (b * 20)) x4 (nI c) x6 x7 x8 (zz_ls md) 1 (d + 1) 0 (nI x) (nI nc) (nI nb) (nI dr) (nI lo) (nI tm) (nI ln) (nI lg) re (nI mc) (nI gc) dn ck rt ct bv bw ha mm gg pp pc) := by
  intro d
  induction d with
  | zero =>
    intro x hx hy mc ms mm hM
    obtain ⟨y, a, a', _⟩ := hy
    omega
  | succ d ih =>
    intro x hx hy mc ms mm hM
    by_cases z : zz_cf (ne 3) (ne 4) (ck nc) md b c x
    · have hok : zz_mok nc nb 3 (nI x) (nI b) (ne 0 (x * 4 + b)) 0 0 := ⟨⟨x, by omega, rfl⟩, ⟨b, hb, rfl⟩, fun z => absurd z (by decide), fun z => absurd z (by decide)⟩
      obtain ⟨mc1, ms1, mm1, hM1, hq1, hX1, hY1⟩ := zz_send (l := 0) hM hL (show x < nc by omega) c2 hok
      rw [if_neg (by decide)] at hq1
      obtain ⟨mc2, ms2, mm2, hM2, hq2, hX2, hY2⟩ := zz_recA (md := md) (dr := dr) (lo := lo) (tm := tm) (ln := ln) (lg := lg) (dn := dn) (re := re) (rt := rt) (le := le) (pe := pe) (pc := pc) (bv := bv) (bw := bw) (ha := ha) hG hL hk c2 b2 hb hc (pp := upd pp (b * 20 + 4) 1) pk_us d (x + 1) (by omega) mc1 ms1 mm1 hM1
      refine ⟨mc2, ms2, mm2, hM2, by omega, fun post h => ?_, fun post J x2 x4 x6 x7 x8 h => ?_⟩
      · exact zz_x_yes c2 b2 (by omega) hb hc z (fun post h => hX1 post h) (hX2 post h)
      · exact zz_y_yes1 hG hk c2 b2 (by omega) hb hc z (fun post h => hY1 post h) (hY2 post J x2 x4 x6 x7 x8 h)
    · have hy' : ∃ y, x + 1 ≤ y ∧ y < nc ∧ zz_cf (ne 3) (ne 4) (ck nc) md b c y := by
        obtain ⟨y, a, a', w⟩ := hy
        refine ⟨y, ?_, a', w⟩
        by_cases q : y = x
        · subst q; exact (z w).elim
        · omega
      obtain ⟨mc2, ms2, mm2, hM2, hq2, hX2, hY2⟩ := ih (x + 1) (by omega) hy' mc ms mm hM
      exact ⟨mc2, ms2, mm2, hM2, hq2, fun post h => zz_x_no c2 b2 (by omega) hb hc z (hX2 post h), fun post J x2 x4 x6 x7 x8 h => zz_y_no hG hk c2 (by omega) hb hc z (hY2 post J x2 x4 x6 x7 x8 h)⟩
end
end
section
/-! the grant of the first pending request -/
theorem zz_rfX {f_clients f_blocks f_drift f_longest f_time f_lastNumber f_down f_recoveryEnd f_longestGranted f_msgCount : Int32} {a_clock a_rate a_linkUp a_leaseMode a_leaseNumber a_leaseEnd a_leaseUnacked a_awaitNumber a_awaitMode a_awaitEnd a_newestNumber a_newestMode a_newestEnd a_maxWriteEnd a_maxAnyEnd a_pendCount a_blockValue a_blockWrite a_msgKind a_msgClient a_msgBlock a_msgNumber a_msgLease a_msgMode a_msgLast : Nat → Int32} {b cnt : Nat} (hb : b < 4) (hcnt : cnt ≤ 3) (hc : a_pendCount b = nI cnt) : ∀ d k, k + d = cnt → ∀ pe pe' : Nat → Nat → Int32, (∀ f q, pe' f q = if b * 4 + k ≤ q ∧ q < b * 4 + cnt then pe f (q + 1) else pe f q) → ∀ post : SX → Prop, post (f_clients, f_blocks, f_drift, f_longest, f_time, f_lastNumber, f_down, f_recoveryEnd, f_longestGranted, f_msgCount, a_clock, a_rate, a_linkUp, a_leaseMode, a_leaseNumber, a_leaseEnd, a_leaseUnacked, a_awaitNumber, a_awaitMode, a_awaitEnd, a_newestNumber, a_newestMode, a_newestEnd, a_maxWriteEnd, a_maxAnyEnd, a_pendCount, (pe' 0), (pe' 1), (pe' 2), (pe' 3), (pe' 4), a_blockValue, a_blockWrite, a_msgKind, a_msgClient, a_msgBlock, a_msgNumber, a_msgLease, a_msgMode, a_msgLast) → wX_removeFirstPending_12 post (nI b) f_clients f_blocks f_drift f_longest f_time f_lastNumber f_down f_recoveryEnd f_longestGranted f_msgCount (d + 1) (nI k) a_clock a_rate a_linkUp a_leaseMode a_leaseNumber a_leaseEnd a_leaseUnacked a_awaitNumber a_awaitMode a_awaitEnd a_newestNumber a_newestMode a_newestEnd a_maxWriteEnd a_maxAnyEnd a_pendCount (pe 0) (pe 1) (pe 2) (pe 3) (pe 4) a_blockValue a_blockWrite a_msgKind a_msgClient a_msgBlock a_msgNumber a_msgLease a_msgMode a_msgLast := by
  have vb : vp_in (nI b) 4 := vp_in_nI hb (by decide)
  have cb : (nI b).toNatClampNeg = b := nI_clamp (by omega)
  intro d
  induction d with
  | zero =>
    intro k hk pe pe' e post h
    obtain rfl : pe' = pe := funext fun f => funext fun q => by rw [e, if_neg (by omega)]
    refine ⟨vb, ?_⟩
    rw [cb, hc]
    exact br_t (nI_le (by omega) (by omega)) h
  | succ d ih =>
    intro k hk pe pe' e post h
    have e1 : nI (b * 4 + k) + 1 = nI (b * 4 + k + 1) := nI_1 _
    have i1 : vp_in (nI (b * 4 + k + 1)) 16 := vp_in_nI (by omega) (by decide)
    refine ⟨vb, ?_⟩
    rw [cb, hc]
    refine br_f (nI_ge (by omega) (by omega)) (nm_r (zz_p b k) ?_)
    rw [e1, nI_clamp (n := b * 4 + k + 1) (by omega)]
    refine ⟨i1, zz_st (b * 4 + k) rfl (by omega) (by decide) ?_⟩
    refine ⟨i1, zz_st (b * 4 + k) rfl (by omega) (by decide) ?_⟩
    refine ⟨i1, zz_st (b * 4 + k) rfl (by omega) (by decide) ?_⟩
    refine ⟨i1, zz_st (b * 4 + k) rfl (by omega) (by decide) ?_⟩
    refine ⟨i1, zz_st (b * 4 + k) rfl (by omega) (by decide) ?_⟩
    refine nm_r (nI_1 k) (ih (k + 1) (by omega) (fun f => upd (pe f) (b * 4 + k) (pe f (b * 4 + k + 1))) pe' (fun f q => ?_) post h)
    rw [e f q]
    show _ = (if _ then upd (pe f) (b * 4 + k) (pe f (b * 4 + k + 1)) (q + 1) else upd (pe f) (b * 4 + k) (pe f (b * 4 + k + 1)) q)
    by_cases q1 : q = b * 4 + k
    · subst q1
      rw [if_pos (by omega), if_neg (by omega), pk_us]
    · rw [pk_un (f := pe f) (k := b * 4 + k) (j := q) q1]
      by_cases q2 : b * 4 + (k + 1) ≤ q ∧ q < b * 4 + cnt
      · rw [if_pos (by omega), if_pos q2, pk_un (by omega)]
      · rw [if_neg (by omega), if_neg q2]
theorem zz_rfY {f_clients f_blocks f_drift f_longest f_time f_lastNumber f_longestGranted f_recoveryEnd f_msgCount f_grantCount f_down : Int32} {a_clock a_rate a_cut a_value a_written a_has a_msg a_grant a_pendCount : Nat → Int32} {b cnt : Nat} {post : Int32 → SY → Prop} {J : Int32 → Int32 → Int32 → Int32 → Int32 → Int32 → Int32 → Int32 → Int32 → Int32 → Int32 → Int32 → Int32 → (Nat → Int32) → (Nat → Int32) → (Nat → Int32) → (Nat → Int32) → (Nat → Int32) → (Nat → Int32) → (Nat → Int32) → (Nat → Int32) → (Nat → Int32) → (Nat → Int32) → Prop} {x2 x4 x5 x6 x7 x8 : Int32} (hb : b < 4) (hcnt : cnt ≤ 3) (hc : a_pendCount b = nI cnt) : ∀ d j, b * 20 ≤ j → j + d = b * 20 + cnt * 5 → ∀ pp pp' : Nat → Int32, (∀ q, pp' q = if j ≤ q ∧ q < b * 20 + cnt * 5 then pp (q + 5) else pp q) → wY_serve_229 post J (nI b) x2 (nI (b * 20)) x4 x5 x6 x7 x8 f_clients f_blocks f_drift f_longest f_time f_lastNumber f_longestGranted f_recoveryEnd f_msgCount f_grantCount f_down 1 (nI (b * 20 + cnt * 5)) a_clock a_rate a_cut a_value a_written a_has a_msg a_grant pp' a_pendCount → wY_serve_229 post J (nI b) x2 (nI (b * 20)) x4 x5 x6 x7 x8 f_clients f_blocks f_drift f_longest f_time f_lastNumber f_longestGranted f_recoveryEnd f_msgCount f_grantCount f_down (d + 1) (nI j) a_clock a_rate a_cut a_value a_written a_has a_msg a_grant pp a_pendCount := by
  have vb : vp_in (nI b) 4 := vp_in_nI hb (by decide)
  have cb : (nI b).toNatClampNeg = b := nI_clamp (by omega)
  have ee : nI (b * 20) + nI cnt * 5 = nI (b * 20 + cnt * 5) := by
    rw [show (5 : Int32) = nI 5 from rfl, pk_mul, nI_add]
  intro d
  induction d with
  | zero =>
    intro j hj0 hj pp pp' e h
    obtain rfl : pp' = pp := funext fun q => by rw [e, if_neg (by omega)]
    obtain rfl : j = b * 20 + cnt * 5 := by omega
    exact h
  | succ d ih =>
    intro j hj0 hj pp pp' e h
    have e1 : nI j + 5 = nI (j + 5) := nI_add j 5
    refine ⟨vb, ?_⟩
    rw [cb, hc, ee]
    refine br_f (nI_ge (by omega) (by omega)) ⟨zz_vi _ e1 (by omega) (by decide), ?_⟩
    rw [zz_cl e1 (by omega)]
    refine zz_st j rfl (by omega) (by decide) (nm_r (nI_1 j) (ih (j + 1) (by omega) (by omega) (upd pp j (pp (j + 5))) pp' (fun q => ?_) h))
    rw [e q]
    by_cases q1 : q = j
    · subst q1
      rw [if_pos (by omega), if_neg (by omega), pk_us]
    · rw [pk_un (f := pp) (k := j) (j := q) q1]
      by_cases q2 : j + 1 ≤ q ∧ q < b * 20 + cnt * 5
      · rw [if_pos (by omega), if_pos q2, pk_un (by omega)]
      · rw [if_neg (by omega), if_neg q2]
def zz_pd (pn : Nat → Nat) (b v : Nat) : Nat → Nat := fun q => if q = b then v else pn q
theorem zz_pd_sum {pn : Nat → Nat} {b v : Nat} (hb : b < 4) : zz_pd pn b v 0 + zz_pd pn b v 1 + zz_pd pn b v 2 + zz_pd pn b v 3 + pn b = pn 0 + pn 1 + pn 2 + pn 3 + v := by
  unfold zz_pd
  obtain rfl | rfl | rfl | rfl : b = 0 ∨ b = 1 ∨ b = 2 ∨ b = 3 := by omega
  · rw [if_pos rfl, if_neg (by decide), if_neg (by decide), if_neg (by decide)]; omega
  · rw [if_neg (by decide), if_pos rfl, if_neg (by decide), if_neg (by decide)]; omega
  · rw [if_neg (by decide), if_neg (by decide), if_pos rfl, if_neg (by decide)]; omega
  · rw [if_neg (by decide), if_neg (by decide), if_neg (by decide), if_pos rfl]; omega
theorem zz_RP1_cg {nc : Nat} {pe pe' : Nat → Nat → Int32} {pp pp' : Nat → Int32} {b k k' : Nat} (h : zz_RP1 nc pe pp b k') (e : ∀ f, pe' f (b * 4 + k) = pe f (b * 4 + k')) (e' : ∀ f, f < 5 → pp' (b * 20 + k * 5 + f) = pp (b * 20 + k' * 5 + f)) : zz_RP1 nc pe' pp' b k := by
  have e0 : pp' (b * 20 + k * 5) = pp (b * 20 + k' * 5) := e' 0 (by omega)
  unfold zz_RP1 at h ⊢
  rw [e 0, e 1, e 2, e 3, e 4, e0, e' 1 (by omega), e' 2 (by omega), e' 3 (by omega), e' 4 (by omega)]
  exact h
theorem zz_RP_rem {nc nb b cnt : Nat} {pn : Nat → Nat} {pc pp pp' : Nat → Int32} {pe pe' : Nat → Nat → Int32} (hP : zz_RP nc nb pn pc pe pp) (hb : b < nb) (b2 : nb ≤ 4) (hc : pn b = cnt + 1) (e : ∀ f q, pe' f q = if b * 4 + 0 ≤ q ∧ q < b * 4 + cnt then pe f (q + 1) else pe f q) (e' : ∀ q, pp' q = if b * 20 ≤ q ∧ q < b * 20 + cnt * 5 then pp (q + 5) else pp q) : zz_RP nc nb (zz_pd pn b cnt) (upd pc b (nI cnt)) pe' pp' := by
  intro y hy
  have hb4 := (hP b (by omega)).2.1
  obtain ⟨h1, h2, h3, h4⟩ := hP y hy
  by_cases q : y = b
  · subst q
    have ep : zz_pd pn y cnt y = cnt := if_pos rfl
    rw [pk_us, ep]
    refine ⟨rfl, by omega, by omega, fun k hk => zz_RP1_cg (h4 (k + 1) (by omega)) (fun f => ?_) (fun f hf => ?_)⟩
    · rw [e, if_pos (by omega)]; rfl
    · rw [e', if_pos (by omega)]; exact congrArg pp (by omega)
  · have ep : zz_pd pn b cnt y = pn y := if_neg q
    rw [pk_un q, ep]
    refine ⟨h1, h2, h3, fun k hk => zz_RP1_cg (h4 k hk) (fun f => ?_) (fun f hf => ?_)⟩
    · rw [e, if_neg (by omega)]
    · rw [e', if_neg (by omega)]
section
variable {nc nb dr lo tm ln lg mc gc : Nat} {pn : Nat → Nat} {dn re : Int32} {ck rt lk : Nat → Int32} {le ne pe ms : Nat → Nat → Int32} {pc bv bw ct ha mm gg pp : Nat → Int32}
variable {b c t : Nat} {n md : Int32}
/-- what X does behind the removal -/
theorem zz_gfX {post : SX → Prop} {lg' p : Nat} {e3' e4' : Nat → Int32} {x3 x8 : Int32} (hp : p < 16)
    (h4 : (x8 ≤ ne 4 p ∧ e4' = ne 4) ∨ (¬ x8 ≤ ne 4 p ∧ e4' = upd (ne 4) p x8))
    (h3 : (md = 2 ∧ ((x8 ≤ ne 3 p ∧ e3' = ne 3) ∨ (¬ x8 ≤ ne 3 p ∧ e3' = upd (ne 3) p x8))) ∨ (¬ md = 2 ∧ e3' = ne 3))
    (hg : (nI t ≤ nI lg ∧ lg' = lg) ∨ (¬ nI t ≤ nI lg ∧ lg' = t))
    (hS : wpX_send post ((nI nc), (nI nb), (nI dr), (nI lo), (nI tm), (nI ln), dn, re, (nI lg'), (nI mc), ck, rt, lk, (le 0), (le 1), (le 2), (le 3), (le 4), (le 5), (le 6), ((zz_m5 (ne 0) (ne 1) (ne 2) e3' e4') 0), ((zz_m5 (ne 0) (ne 1) (ne 2) e3' e4') 1), ((zz_m5 (ne 0) (ne 1) (ne 2) e3' e4') 2), ((zz_m5 (ne 0) (ne 1) (ne 2) e3' e4') 3), ((zz_m5 (ne 0) (ne 1) (ne 2) e3' e4') 4), pc, (pe 0), (pe 1), (pe 2), (pe 3), (pe 4), bv, bw, (ms 0), (ms 1), (ms 2), (ms 3), (ms 4), (ms 5), (ms 6)) 2 x3 (nI b) n 0 0 0) :
    (x8 ≤ ne 4 (nI p).toNatClampNeg → wX_grantFirst_113 post (nI b) x3 n md (nI t) (nI p) x8 (nI nc) (nI nb) (nI dr) (nI lo) (nI tm) (nI ln) dn re (nI lg) (nI mc) ck rt lk (le 0) (le 1) (le 2) (le 3) (le 4) (le 5) (le 6) (ne 0) (ne 1) (ne 2) (ne 3) (ne 4) pc (pe 0) (pe 1) (pe 2) (pe 3) (pe 4) bv bw (ms 0) (ms 1) (ms 2) (ms 3) (ms 4) (ms 5) (ms 6)) ∧ (¬ x8 ≤ ne 4 (nI p).toNatClampNeg → (vp_in (nI p) 16 ∧ ∀ a, a = upd (ne 4) (nI p).toNatClampNeg x8 → wX_grantFirst_113 post (nI b) x3 n md (nI t) (nI p) x8 (nI nc) (nI nb) (nI dr) (nI lo) (nI tm) (nI ln) dn re (nI lg) (nI mc) ck rt lk (le 0) (le 1) (le 2) (le 3) (le 4) (le 5) (le 6) (ne 0) (ne 1) (ne 2) (ne 3) a pc (pe 0) (pe 1) (pe 2) (pe 3) (pe 4) bv bw (ms 0) (ms 1) (ms 2) (ms 3) (ms 4) (ms 5) (ms 6))) := by
  have cp : (nI p).toNatClampNeg = p := nI_clamp (by omega)
  have vp : vp_in (nI p) 16 := vp_in_nI hp (by decide)
  rw [cp]
  have K : wX_grantFirst_113 post (nI b) x3 n md (nI t) (nI p) x8 (nI nc) (nI nb) (nI dr) (nI lo) (nI tm) (nI ln) dn re (nI lg) (nI mc) ck rt lk (le 0) (le 1) (le 2) (le 3) (le 4) (le 5) (le 6) (ne 0) (ne 1) (ne 2) (ne 3) e4' pc (pe 0) (pe 1) (pe 2) (pe 3) (pe 4) bv bw (ms 0) (ms 1) (ms 2) (ms 3) (ms 4) (ms 5) (ms 6) := by
    unfold wX_grantFirst_113
    rw [cp]
    have L : wX_grantFirst_140 post (nI b) x3 n (nI t) (nI nc) (nI nb) (nI dr) (nI lo) (nI tm) (nI ln) dn re (nI lg) (nI mc) ck rt lk (le 0) (le 1) (le 2) (le 3) (le 4) (le 5) (le 6) (ne 0) (ne 1) (ne 2) e3' e4' pc (pe 0) (pe 1) (pe 2) (pe 3) (pe 4) bv bw (ms 0) (ms 1) (ms 2) (ms 3) (ms 4) (ms 5) (ms 6) := by
      unfold wX_grantFirst_140
      rcases hg with ⟨a, rfl⟩ | ⟨a, rfl⟩
      · exact br_t a hS
      · exact br_f a hS
    rcases h3 with ⟨a, ⟨a', rfl⟩ | ⟨a', rfl⟩⟩ | ⟨a, rfl⟩
    · exact br_t a ⟨vp, br_t a' L⟩
    · exact br_t a ⟨vp, br_f a' ⟨vp, nm_e L⟩⟩
    · exact br_f a L
  rcases h4 with ⟨a, rfl⟩ | ⟨a, rfl⟩
  · exact br_t a K
  · exact br_f a ⟨vp, nm_e K⟩
theorem zz_grant (hR : zz_R nc nb dr lo tm ln lg mc gc pn ck rt lk le ne pe ms pc ct ha mm gg pp) (hb : b < nb) (h0 : 0 < pn b) : ∃ (lg' mc' gc' : Nat) (pn' : Nat → Nat) (le' ne' pe' ms' : Nat → Nat → Int32) (pc' bv' bw' ha' mm' gg' pp' : Nat → Int32), zz_R nc nb dr lo tm ln lg' mc' gc' pn' ck rt lk le' ne' pe' ms' pc' ct ha' mm' gg' pp' ∧
    (∀ post : SX → Prop, post ((nI nc), (nI nb), (nI dr), (nI lo), (nI tm), (nI ln), dn, re, (nI lg'), (nI mc'), ck, rt, lk, (le' 0), (le' 1), (le' 2), (le' 3), (le' 4), (le' 5), (le' 6), (ne' 0), (ne' 1), (ne' 2), (ne' 3), (ne' 4), pc', (pe' 0), (pe' 1), (pe' 2), (pe' 3), (pe' 4), bv', bw', (ms' 0), (ms' 1), (ms' 2), (ms' 3), (ms' 4), (ms' 5), (ms' 6)) → wpX_grantFirst post ((nI nc), (nI nb), (nI dr), (nI lo), (nI tm), (nI ln), dn, re, (nI lg), (nI mc), ck, rt, lk, (le 0), (le 1), (le 2), (le 3), (le 4), (le 5), (le 6), (ne 0), (ne 1), (ne 2), (ne 3), (ne 4), pc, (pe 0), (pe 1), (pe 2), (pe 3), (pe 4), bv, bw, (ms 0), (ms 1), (ms 2), (ms 3), (ms 4), (ms 5), (ms 6)) (nI b)) ∧
    (∀ (post : Int32 → SY → Prop) (J : Int32 → Int32 → Int32 → Int32 → Int32 → Int32 → Int32 → Int32 → Int32 → Int32 → Int32 → Int32 → Int32 → (Nat → Int32) → (Nat → Int32) → (Nat → Int32) → (Nat → Int32) → (Nat → Int32) → (Nat → Int32) → (Nat → Int32) → (Nat → Int32) → (Nat → Int32) → (Nat → Int32) → Prop) (x2 x4 x9 x10 : Int32), J (x2 + 1) (x4 + 1) (nI nc) (nI nb) (nI dr) (nI lo) (nI tm) (nI ln) (nI lg') re (nI mc') (nI gc') dn ck rt ct bv' bw' ha' mm' gg' pp' pc' → wY_serve_110 post J (nI b) x2 (nI (b * 20)) x4 (pe 0 (b * 4)) (pe 1 (b * 4)) (pe 2 (b * 4)) (pe 3 (b * 4)) x9 x10 1 0 (nI nc) (nI nc) (nI nb) (nI dr) (nI lo) (nI tm) (nI ln) (nI lg) re (nI mc) (nI gc) dn ck rt ct bv bw ha mm gg pp pc) := by
  obtain ⟨⟨c1, c2, b1, b2, d3, l1, l2, t6, n2, g2⟩, hC, hL, hH, hM, hP, hG, hN⟩ := hR
  obtain ⟨hp1, hp2, hp3, hp4⟩ := hP b (by omega)
  obtain ⟨cnt, hcnt⟩ : ∃ cnt, pn b = cnt + 1 := ⟨pn b - 1, by omega⟩
  obtain ⟨_, ⟨⟨c, hc, ec⟩, hn, hmd, ⟨t, ht, et⟩, _⟩⟩ := hp4 0 h0
  have ec : pe 0 (b * 4) = nI c := ec
  have hn : 1 ≤ (pe 1 (b * 4)).toInt := hn
  have hmd : pe 2 (b * 4) = 1 ∨ pe 2 (b * 4) = 2 := hmd
  have et : pe 3 (b * 4) = nI t := et
  generalize en : pe 1 (b * 4) = n at hn
  generalize em : pe 2 (b * 4) = md at hmd
  have hsum := zz_pd_sum (pn := pn) (b := b) (v := cnt) (by omega)
  have hgc : gc < 250 := by
    unfold zz_RN at hN
    obtain rfl | rfl | rfl | rfl : b = 0 ∨ b = 1 ∨ b = 2 ∨ b = 3 := by omega
    all_goals omega
  have hW := zz_W_le ht d3
  have hck := hC nc (by omega)
  have eT : (ck nc + nI (zz_W t dr)).toInt = (ck nc).toInt + zz_W t dr := by
    rw [zz_addT (by omega) (by rw [nI_toInt (by omega)]; omega), nI_toInt (by omega)]
  generalize ee : ck nc + nI (zz_W t dr) = e at eT
  have hp : c * 4 + b < 16 := by omega
  have hok : zz_mok nc nb 2 (nI c) (nI b) n 0 0 := ⟨⟨c, hc, rfl⟩, ⟨b, hb, rfl⟩, fun z => absurd z (by decide), fun _ => hn⟩
  obtain ⟨mc', ms', mm', hM', hq', hX, hY⟩ := zz_send (l := 0) hM hL hc c2 hok
  rw [if_neg (by decide)] at hq'
  have x4 : ∃ e4', ((e ≤ ne 4 (c * 4 + b) ∧ e4' = ne 4) ∨ (¬ e ≤ ne 4 (c * 4 + b) ∧ e4' = upd (ne 4) (c * 4 + b) e)) := by
    by_cases q : e ≤ ne 4 (c * 4 + b)
    · exact ⟨_, Or.inl ⟨q, rfl⟩⟩
    · exact ⟨_, Or.inr ⟨q, rfl⟩⟩
  have x3 : ∃ e3', ((md = 2 ∧ ((e ≤ ne 3 (c * 4 + b) ∧ e3' = ne 3) ∨ (¬ e ≤ ne 3 (c * 4 + b) ∧ e3' = upd (ne 3) (c * 4 + b) e))) ∨ (¬ md = 2 ∧ e3' = ne 3)) := by
    by_cases m : md = 2
    · by_cases q : e ≤ ne 3 (c * 4 + b)
      · exact ⟨_, Or.inl ⟨m, Or.inl ⟨q, rfl⟩⟩⟩
      · exact ⟨_, Or.inl ⟨m, Or.inr ⟨q, rfl⟩⟩⟩
    · exact ⟨_, Or.inr ⟨m, rfl⟩⟩
  have xg : ∃ lg', ((nI t ≤ nI lg ∧ lg' = lg) ∨ (¬ nI t ≤ nI lg ∧ lg' = t)) := by
    by_cases q : nI t ≤ nI lg
    · exact ⟨_, Or.inl ⟨q, rfl⟩⟩
    · exact ⟨_, Or.inr ⟨q, rfl⟩⟩
  have xe : ∃ pe' : Nat → Nat → Int32, ∀ f q, pe' f q = if b * 4 + 0 ≤ q ∧ q < b * 4 + cnt then pe f (q + 1) else pe f q := ⟨_, fun _ _ => rfl⟩
  have xp : ∃ pp' : Nat → Int32, ∀ q, pp' q = if b * 20 ≤ q ∧ q < b * 20 + cnt * 5 then pp (q + 5) else pp q := ⟨_, fun _ => rfl⟩
  obtain ⟨e4', h4⟩ := x4
  obtain ⟨e3', h3⟩ := x3
  obtain ⟨lg', hg⟩ := xg
  obtain ⟨pe', he⟩ := xe
  obtain ⟨pp', hpp⟩ := xp
  have hlg : lg' ≤ 20 := by
    rcases hg with ⟨_, rfl⟩ | ⟨_, rfl⟩ <;> omega
  have vn : vp_in (nI nc) 5 := vp_in_nI (by omega) (by decide)
  have cn : (nI nc).toNatClampNeg = nc := nI_clamp (by omega)
  have vb : vp_in (nI b) 4 := vp_in_nI (by omega) (by decide)
  have cb : (nI b).toNatClampNeg = b := nI_clamp (by omega)
  have epc : pc b - 1 = nI cnt := by rw [hp1, hcnt]; exact nI_pred cnt
  have us : upd pc b (nI cnt) b = nI cnt := pk_us
  refine ⟨lg', mc', gc + 1, zz_pd pn b cnt, le, zz_m5 (upd (ne 0) (c * 4 + b) n) (upd (ne 1) (c * 4 + b) md) (upd (ne 2) (c * 4 + b) e) e3' e4', pe', ms', upd pc b (nI cnt), bv, bw, ha, mm', zz_ga gg gc n md e (nI c) (nI b) 0, pp', ⟨⟨c1, c2, b1, b2, d3, l1, l2, t6, n2, hlg⟩, hC, hL, hH, hM', zz_RP_rem hP hb b2 hcnt he hpp, ?_, ?_⟩, fun post h => ?_, fun post J x2 x4 x9 x10 h => ?_⟩
  · refine zz_RG_add hG hgc hc hb c2 b2 hn hmd (by omega) (by omega) rfl rfl rfl ?_ ?_ ?_ ?_
    · show e3' (c * 4 + b) = _
      rcases h3 with ⟨m, ⟨q, rfl⟩ | ⟨q, rfl⟩⟩ | ⟨m, rfl⟩
      · rw [if_pos m, if_pos q]
      · rw [if_pos m, if_neg q, pk_us]
      · rw [if_neg m]
    · intro q hq
      show e3' q = _
      rcases h3 with ⟨m, ⟨_, rfl⟩ | ⟨_, rfl⟩⟩ | ⟨m, rfl⟩
      · rfl
      · exact pk_un hq
      · rfl
    · show e4' (c * 4 + b) = _
      rcases h4 with ⟨q, rfl⟩ | ⟨q, rfl⟩
      · rw [if_pos q]
      · rw [if_neg q, pk_us]
    · intro q hq
      show e4' q = _
      rcases h4 with ⟨_, rfl⟩ | ⟨_, rfl⟩
      · rfl
      · exact pk_un hq
  · unfold zz_RN at hN ⊢; omega
  · refine nm_r (pk_mul b 4) (zz_rd (b * 4) rfl (by omega) (by decide) (zz_rd (b * 4) rfl (by omega) (by decide) (zz_rd (b * 4) rfl (by omega) (by decide) (zz_rd (b * 4) rfl (by omega) (by decide) ?_))))
    rw [ec, en, em, et]
    refine ⟨vb, vb, ?_⟩
    rw [cb, epc]
    refine nm_e ⟨cnt + 1, zz_rfX (by omega) (by omega) us cnt 0 (by omega) pe pe' he _ (nm_r (zz_p c b) ⟨vn, zz_stretchX ht d3 ?_⟩)⟩
    rw [cn, ee]
    refine nm_e (zz_st (c * 4 + b) rfl hp (by decide) (zz_st (c * 4 + b) rfl hp (by decide) (zz_st (c * 4 + b) rfl hp (by decide) ⟨vp_in_nI hp (by decide), ?_⟩)))
    exact zz_gfX (ne := zz_m5 (upd (ne 0) (c * 4 + b) n) (upd (ne 1) (c * 4 + b) md) (upd (ne 2) (c * 4 + b) e) (ne 3) (ne 4)) hp h4 h3 hg (hX _ h)
  · rw [ec, et]
    refine br_t (nI_le (by omega) (by omega)) (br_t rfl (br_t (nI_lt (b := 250) hgc (by decide)) ⟨vb, vb, ?_⟩))
    rw [cb, epc]
    refine nm_e ⟨cnt * 5 + 1, zz_rfY (by omega) (by omega) us (cnt * 5) (b * 20) (by omega) (by omega) pp pp' hpp ⟨vb, ?_⟩⟩
    have e5 : nI (b * 20) + nI cnt * 5 = nI (b * 20 + cnt * 5) := by
      rw [show (5 : Int32) = nI 5 from rfl, pk_mul, nI_add]
    rw [cb, us, e5]
    refine br_t (nI_le (by omega) (by omega)) (nm_r (pk_mul gc 6) ?_)
    refine zz_st (gc * 6) rfl (by omega) (by decide) (zz_st (gc * 6 + 1) (nI_add _ 1) (by omega) (by decide) ⟨vn, zz_stretchY ht d3 ?_⟩)
    rw [cn, ee]
    refine zz_st (gc * 6 + 2) (nI_add _ 2) (by omega) (by decide) (zz_st (gc * 6 + 3) (nI_add _ 3) (by omega) (by decide) (zz_st (gc * 6 + 4) (nI_add _ 4) (by omega) (by decide) (zz_st (gc * 6 + 5) (nI_add _ 5) (by omega) (by decide) (nm_r (nI_1 gc) (nm_e ?_)))))
    rcases hg with ⟨a, rfl⟩ | ⟨a, rfl⟩
    · refine br_t a ?_
      unfold wY_serve_379
      exact hY _ (nm_e h)
    · refine br_f a ?_
      unfold wY_serve_379
      exact hY _ (nm_e h)
end
end
section
/-! serve -/
theorem zz_RP_mark {nc nb b : Nat} {pn : Nat → Nat} {pc pp : Nat → Int32} {pe : Nat → Nat → Int32} (hP : zz_RP nc nb pn pc pe pp) : zz_RP nc nb pn pc (zz_m5 (pe 0) (pe 1) (pe 2) (pe 3) (upd (pe 4) (b * 4) 1)) (upd pp (b * 20 + 4) 1) := by
  intro y hy
  obtain ⟨h1, h2, h3, h4⟩ := hP y hy
  refine ⟨h1, h2, h3, fun k hk => ?_⟩
  obtain ⟨⟨e0, e1, e2, e3, e4⟩, ⟨p0, p1, p2, p3, p4⟩⟩ := h4 k hk
  have f4 : upd (pe 4) (b * 4) 1 (y * 4 + k) = upd pp (b * 20 + 4) 1 (y * 20 + k * 5 + 4) ∧ (upd (pe 4) (b * 4) 1 (y * 4 + k) = 0 ∨ upd (pe 4) (b * 4) 1 (y * 4 + k) = 1) := by
    by_cases q : y * 4 + k = b * 4
    · have q' : y * 20 + k * 5 + 4 = b * 20 + 4 := by omega
      rw [q, q', pk_us, pk_us]
      exact ⟨rfl, Or.inr rfl⟩
    · rw [pk_un q, pk_un (by omega)]
      exact ⟨e4, p4⟩
  refine ⟨⟨?_, ?_, ?_, ?_, f4.1⟩, ⟨p0, p1, p2, p3, f4.2⟩⟩
  · rw [pk_un (by omega)]; exact e0
  · rw [pk_un (by omega)]; exact e1
  · rw [pk_un (by omega)]; exact e2
  · rw [pk_un (by omega)]; exact e3
section
variable {nc nb dr lo tm ln lg mc gc : Nat} {pn : Nat → Nat} {dn re : Int32} {ck rt lk : Nat → Int32} {le ne pe ms : Nat → Nat → Int32} {pc bv bw ct ha mm gg pp : Nat → Int32}
variable {b : Nat}
theorem zz_yround {post : Int32 → SY → Prop} {n' rd : Nat} {made : Int32} (hP : zz_RP nc nb pn pc pe pp) (c2 : nc ≤ 4) (hb : b < 4) (hon : dn = 0) (hre : re ≤ ck nc) (h0 : 0 < pn b) (hrd : rd < 4)
    (hk : ∃ n, wY_serve_110 post (wY_serve_10 post (nI b) (nI (b * 20)) n') (nI b) made (nI (b * 20)) (nI rd) (pe 0 (b * 4)) (pe 1 (b * 4)) (pe 2 (b * 4)) (pe 3 (b * 4)) (zz_ls (pe 2 (b * 4))) (if pe 4 (b * 4) = 0 then 1 else 0) n 0 0 (nI nc) (nI nb) (nI dr) (nI lo) (nI tm) (nI ln) (nI lg) re (nI mc) (nI gc) dn ck rt ct bv bw ha mm gg pp pc) :
    wY_serve_10 post (nI b) (nI (b * 20)) (n' + 1) made (nI rd) (nI nc) (nI nb) (nI dr) (nI lo) (nI tm) (nI ln) (nI lg) re (nI mc) (nI gc) dn ck rt ct bv bw ha mm gg pp pc := by
  obtain ⟨hp1, hp2, hp3, hp4⟩ := hP b hb
  obtain ⟨⟨e0, e1, e2, e3, e4⟩, _⟩ := hp4 0 h0
  have e0 : pe 0 (b * 4) = pp (b * 20) := e0
  have e1 : pe 1 (b * 4) = pp (b * 20 + 1) := e1
  have e2 : pe 2 (b * 4) = pp (b * 20 + 2) := e2
  have e3 : pe 3 (b * 4) = pp (b * 20 + 3) := e3
  have e4 : pe 4 (b * 4) = pp (b * 20 + 4) := e4
  have vb : vp_in (nI b) 4 := vp_in_nI hb (by decide)
  have cb : (nI b).toNatClampNeg = b := nI_clamp (by omega)
  have i4 : nI (b * 20) + 4 = nI (b * 20 + 4) := nI_add _ 4
  rw [e0, e1, e2, e3, e4] at hk
  refine br_f (nI_ge (b := 4) hrd (by decide)) (zz_stateY c2 ?_)
  rw [zz_sv, if_pos hon, if_pos hre]
  refine br_t rfl ⟨vb, ?_⟩
  rw [cb, hp1]
  refine br_f (nI_ne0 h0 (by omega)) (zz_rd (b * 20) rfl (by omega) (by decide) (zz_rd (b * 20 + 1) (nI_add _ 1) (by omega) (by decide) (zz_rd (b * 20 + 2) (nI_add _ 2) (by omega) (by decide) (zz_rd (b * 20 + 3) (nI_add _ 3) (by omega) (by decide) ?_))))
  have K : wY_serve_84 post (wY_serve_10 post (nI b) (nI (b * 20)) n') (nI b) made (nI (b * 20)) (nI rd) (pp (b * 20)) (pp (b * 20 + 1)) (pp (b * 20 + 2)) (pp (b * 20 + 3)) (zz_ls (pp (b * 20 + 2))) (nI nc) (nI nb) (nI dr) (nI lo) (nI tm) (nI ln) (nI lg) re (nI mc) (nI gc) dn ck rt ct bv bw ha mm gg pp pc := by
    unfold wY_serve_84
    refine ⟨zz_vi _ i4 (by omega) (by decide), ?_⟩
    rw [zz_cl i4 (by omega)]
    by_cases q : pp (b * 20 + 4) = 0
    · rw [if_pos q] at hk
      exact br_t q hk
    · rw [if_neg q] at hk
      exact br_f q hk
  unfold zz_ls at K
  by_cases m : pp (b * 20 + 2) = 2
  · rw [if_pos m] at K
    exact br_t m K
  · rw [if_neg m] at K
    exact br_f m K
end
theorem zz_serve_l {nc nb dr lo tm ln : Nat} {dn re : Int32} {ck rt lk ct : Nat → Int32} {b : Nat} (hb : b < nb) (hon : dn = 0) (hre : re ≤ ck nc) : ∀ d rd, rd + d = 4 → ∀ {lg mc gc : Nat} {pn : Nat → Nat} {le ne pe ms : Nat → Nat → Int32} {pc bv bw ha mm gg pp : Nat → Int32}, zz_R nc nb dr lo tm ln lg mc gc pn ck rt lk le ne pe ms pc ct ha mm gg pp → ∀ made : Int32, ∃ (r : Int32) (lg' mc' gc' : Nat) (pn' : Nat → Nat) (le' ne' pe' ms' : Nat → Nat → Int32) (pc' bv' bw' ha' mm' gg' pp' : Nat → Int32), zz_R nc nb dr lo tm ln lg' mc' gc' pn' ck rt lk le' ne' pe' ms' pc' ct ha' mm' gg' pp' ∧
    (∀ post : Int32 → SX → Prop, post r ((nI nc), (nI nb), (nI dr), (nI lo), (nI tm), (nI ln), dn, re, (nI lg'), (nI mc'), ck, rt, lk, (le' 0), (le' 1), (le' 2), (le' 3), (le' 4), (le' 5), (le' 6), (ne' 0), (ne' 1), (ne' 2), (ne' 3), (ne' 4), pc', (pe' 0), (pe' 1), (pe' 2), (pe' 3), (pe' 4), bv', bw', (ms' 0), (ms' 1), (ms' 2), (ms' 3), (ms' 4), (ms' 5), (ms' 6)) → wX_serve_14 post (nI b) (d + 1) made (nI rd) (nI nc) (nI nb) (nI dr) (nI lo) (nI tm) (nI ln) dn re (nI lg) (nI mc) ck rt lk (le 0) (le 1) (le 2) (le 3) (le 4) (le 5) (le 6) (ne 0) (ne 1) (ne 2) (ne 3) (ne 4) pc (pe 0) (pe 1) (pe 2) (pe 3) (pe 4) bv bw (ms 0) (ms 1) (ms 2) (ms 3) (ms 4) (ms 5) (ms 6)) ∧
    (∀ post : Int32 → SY → Prop, post r ((nI nc), (nI nb), (nI dr), (nI lo), (nI tm), (nI ln), (nI lg'), re, (nI mc'), (nI gc'), dn, ck, rt, ct, bv', bw', ha', mm', gg', pp', pc') → wY_serve_10 post (nI b) (nI (b * 20)) (d + 1) made (nI rd) (nI nc) (nI nb) (nI dr) (nI lo) (nI tm) (nI ln) (nI lg) re (nI mc) (nI gc) dn ck rt ct bv bw ha mm gg pp pc) := by
  intro d
  induction d with
  | zero =>
    intro rd hrd lg mc gc pn le ne pe ms pc bv bw ha mm gg pp hR made
    exact ⟨made, lg, mc, gc, pn, le, ne, pe, ms, pc, bv, bw, ha, mm, gg, pp, hR, fun post h => br_t (nI_le (a := 4) (by omega) (by omega)) h, fun post h => br_t (nI_le (a := 4) (by omega) (by omega)) h⟩
  | succ d ih =>
    intro rd hrd lg mc gc pn le ne pe ms pc bv bw ha mm gg pp hR made
    have hR0 := hR
    obtain ⟨⟨c1, c2, b1, b2, d3, l1, l2, t6, n2, g2⟩, hC, hL, hH, hM, hP, hG, hN⟩ := hR
    obtain ⟨hp1, hp2, hp3, hp4⟩ := hP b (by omega)
    have vb : vp_in (nI b) 4 := vp_in_nI (by omega) (by decide)
    have cb : (nI b).toNatClampNeg = b := nI_clamp (by omega)
    have hk : 0 ≤ (ck nc).toInt := (hC nc (by omega)).1
    by_cases h0 : pn b = 0
    · refine ⟨made, lg, mc, gc, pn, le, ne, pe, ms, pc, bv, bw, ha, mm, gg, pp, hR0, fun post h => ?_, fun post h => ?_⟩
      · refine br_f (nI_ge (b := 4) (by omega) (by omega)) ⟨vb, ?_⟩
        rw [cb, hp1, h0]
        exact br_t rfl h
      · refine br_f (nI_ge (b := 4) (by omega) (by decide)) (zz_stateY c2 ?_)
        rw [zz_sv, if_pos hon, if_pos hre]
        refine br_t rfl ⟨vb, ?_⟩
        rw [cb, hp1, h0]
        exact br_t rfl h
    · have h0' : 0 < pn b := by omega
      have i0 : ¬ nI (pn b) = 0 := nI_ne0 h0' (by omega)
      obtain ⟨_, ⟨⟨c, hc, ec⟩, _, _, _, hmk⟩⟩ := hp4 0 h0'
      have ec : pe 0 (b * 4) = nI c := ec
      have hmk : pe 4 (b * 4) = 0 ∨ pe 4 (b * 4) = 1 := hmk
      have e44 : pe 4 (b * 4) = pp (b * 20 + 4) := (hp4 0 h0').1.2.2.2.2
      have v4 : vp_in (nI (b * 4)) 16 := vp_in_nI (by omega) (by decide)
      have cb4 : (nI (b * 4)).toNatClampNeg = b * 4 := nI_clamp (by omega)
      by_cases hcf : ∃ y, y < nc ∧ zz_cf (ne 3) (ne 4) (ck nc) (pe 2 (b * 4)) b c y
      · have hcf' : ∃ y, 0 ≤ y ∧ y < nc ∧ zz_cf (ne 3) (ne 4) (ck nc) (pe 2 (b * 4)) b c y := by
          obtain ⟨y, a, w⟩ := hcf
          exact ⟨y, by omega, a, w⟩
        by_cases mk : pe 4 (b * 4) = 0
        · obtain ⟨mc', ms', mm', hM', hq', hX, hY⟩ := zz_recB (md := pe 2 (b * 4)) (c := c) (dr := dr) (lo := lo) (tm := tm) (ln := ln) (lg := lg) (dn := dn) (re := re) (rt := rt) (le := le) (pe := zz_m5 (pe 0) (pe 1) (pe 2) (pe 3) (upd (pe 4) (b * 4) 1)) (pc := pc) (bv := bv) (bw := bw) (ha := ha) (pp := pp) hG hL hk c2 b2 hb hc nc 0 (by omega) hcf' mc ms mm hM
          refine ⟨made, lg, mc', gc, pn, le, ne, zz_m5 (pe 0) (pe 1) (pe 2) (pe 3) (upd (pe 4) (b * 4) 1), ms', pc, bv, bw, ha, mm', gg, upd pp (b * 20 + 4) 1, ⟨⟨c1, c2, b1, b2, d3, l1, l2, t6, n2, g2⟩, hC, hL, hH, hM', zz_RP_mark hP, hG, ?_⟩, fun post h => ?_, fun post h => ?_⟩
          · unfold zz_RN at hN ⊢; omega
          · refine br_f (nI_ge (b := 4) (by omega) (by omega)) ⟨vb, ?_⟩
            rw [cb, hp1]
            refine br_f i0 (nm_r (pk_mul b 4) (zz_rd (b * 4) rfl (by omega) (by decide) (zz_rd (b * 4) rfl (by omega) (by decide) ?_)))
            rw [ec]
            refine zz_anyX (by omega) (by omega) c2 (fun _ => br_f zz_01 ⟨v4, ?_⟩) (fun w => (w hcf).elim)
            rw [cb4]
            exact br_t mk ⟨v4, nm_e ⟨nc + 1, hX _ h⟩⟩
          · refine zz_yround hP c2 (by omega) hon hre h0' (by omega) ⟨nc + 1, ?_⟩
            rw [if_pos mk, ec]
            exact hY post _ made _ _ _ _ h
        · have mk1 : pp (b * 20 + 4) = 1 := by
            rcases hmk with q | q
            · exact (mk q).elim
            · exact e44.symm.trans q
          refine ⟨made, lg, mc, gc, pn, le, ne, pe, ms, pc, bv, bw, ha, mm, gg, pp, hR0, fun post h => ?_, fun post h => ?_⟩
          · refine br_f (nI_ge (b := 4) (by omega) (by omega)) ⟨vb, ?_⟩
            rw [cb, hp1]
            refine br_f i0 (nm_r (pk_mul b 4) (zz_rd (b * 4) rfl (by omega) (by decide) (zz_rd (b * 4) rfl (by omega) (by decide) ?_)))
            rw [ec]
            refine zz_anyX (by omega) (by omega) c2 (fun _ => br_f zz_01 ⟨v4, ?_⟩) (fun w => (w hcf).elim)
            rw [cb4]
            exact br_f mk h
          · refine zz_yround hP c2 (by omega) hon hre h0' (by omega) ⟨nc + 1, ?_⟩
            rw [if_neg mk, ec]
            exact zz_y_0 hG hk c2 b2 hb hc mk1 h nc 0 (by omega) 0 (Or.inr hcf')
      · obtain ⟨lg1, mc1, gc1, pn1, le1, ne1, pe1, ms1, pc1, bv1, bw1, ha1, mm1, gg1, pp1, hR1, hX1, hY1⟩ := zz_grant (dn := dn) (re := re) (bv := bv) (bw := bw) hR0 hb h0'
        obtain ⟨r, lg2, mc2, gc2, pn2, le2, ne2, pe2, ms2, pc2, bv2, bw2, ha2, mm2, gg2, pp2, hR2, hX2, hY2⟩ := ih (rd + 1) (by omega) (bv := bv1) (bw := bw1) hR1 (made + 1)
        refine ⟨r, lg2, mc2, gc2, pn2, le2, ne2, pe2, ms2, pc2, bv2, bw2, ha2, mm2, gg2, pp2, hR2, fun post h => ?_, fun post h => ?_⟩
        · refine br_f (nI_ge (b := 4) (by omega) (by omega)) ⟨vb, ?_⟩
          rw [cb, hp1]
          refine br_f i0 (nm_r (pk_mul b 4) (zz_rd (b * 4) rfl (by omega) (by decide) (zz_rd (b * 4) rfl (by omega) (by decide) ?_)))
          rw [ec]
          refine zz_anyX (by omega) (by omega) c2 (fun w => (hcf w).elim) (fun _ => br_t rfl (hX1 _ (nm_e (nm_r (nI_1 rd) ?_))))
          exact hX2 post h
        · refine zz_yround hP c2 (by omega) hon hre h0' (by omega) ⟨nc + 1, ?_⟩
          have K := hY1 post (wY_serve_10 post (nI b) (nI (b * 20)) (d + 1)) made (nI rd) (zz_ls (pe 2 (b * 4))) (if pe 4 (b * 4) = 0 then 1 else 0) (by rw [nI_1 rd]; exact hY2 post h)
          rw [ec] at K ⊢
          exact zz_y_C hG hk c2 hb hc (fun y hy w => hcf ⟨y, hy, w⟩) K nc 0 (by omega)
section
variable {nc nb dr lo tm ln lg mc gc : Nat} {pn : Nat → Nat} {dn re : Int32} {ck rt lk : Nat → Int32} {le ne pe ms : Nat → Nat → Int32} {pc bv bw ct ha mm gg pp : Nat → Int32}
variable {b : Nat}
theorem zz_serve (hR : zz_R nc nb dr lo tm ln lg mc gc pn ck rt lk le ne pe ms pc ct ha mm gg pp) (hb : b < nb) : ∃ (r : Int32) (lg' mc' gc' : Nat) (pn' : Nat → Nat) (le' ne' pe' ms' : Nat → Nat → Int32) (pc' bv' bw' ha' mm' gg' pp' : Nat → Int32), zz_R nc nb dr lo tm ln lg' mc' gc' pn' ck rt lk le' ne' pe' ms' pc' ct ha' mm' gg' pp' ∧
    (∀ post : Int32 → SX → Prop, post r ((nI nc), (nI nb), (nI dr), (nI lo), (nI tm), (nI ln), dn, re, (nI lg'), (nI mc'), ck, rt, lk, (le' 0), (le' 1), (le' 2), (le' 3), (le' 4), (le' 5), (le' 6), (ne' 0), (ne' 1), (ne' 2), (ne' 3), (ne' 4), pc', (pe' 0), (pe' 1), (pe' 2), (pe' 3), (pe' 4), bv', bw', (ms' 0), (ms' 1), (ms' 2), (ms' 3), (ms' 4), (ms' 5), (ms' 6)) → wpX_serve post ((nI nc), (nI nb), (nI dr), (nI lo), (nI tm), (nI ln), dn, re, (nI lg), (nI mc), ck, rt, lk, (le 0), (le 1), (le 2), (le 3), (le 4), (le 5), (le 6), (ne 0), (ne 1), (ne 2), (ne 3), (ne 4), pc, (pe 0), (pe 1), (pe 2), (pe 3), (pe 4), bv, bw, (ms 0), (ms 1), (ms 2), (ms 3), (ms 4), (ms 5), (ms 6)) (nI b)) ∧
    (∀ post : Int32 → SY → Prop, post r ((nI nc), (nI nb), (nI dr), (nI lo), (nI tm), (nI ln), (nI lg'), re, (nI mc'), (nI gc'), dn, ck, rt, ct, bv', bw', ha', mm', gg', pp', pc') → wpY_serve post ((nI nc), (nI nb), (nI dr), (nI lo), (nI tm), (nI ln), (nI lg), re, (nI mc), (nI gc), dn, ck, rt, ct, bv, bw, ha, mm, gg, pp, pc) (nI b)) := by
  have c2 : nc ≤ 4 := hR.1.2.1
  have eb : nI b * 20 = nI (b * 20) := pk_mul b 20
  by_cases z : zz_sv dn re (ck nc) = 2
  · have on : dn = 0 ∧ re ≤ ck nc := by
      unfold zz_sv at z
      by_cases q : dn = 0
      · rw [if_pos q] at z
        by_cases w : re ≤ ck nc
        · exact ⟨q, w⟩
        · rw [if_neg w] at z; exact absurd z (by decide)
      · rw [if_neg q] at z; exact absurd z (by decide)
    obtain ⟨r, lg2, mc2, gc2, pn2, le2, ne2, pe2, ms2, pc2, bv2, bw2, ha2, mm2, gg2, pp2, hR2, hX2, hY2⟩ := zz_serve_l (dn := dn) (re := re) (bv := bv) (bw := bw) hb on.1 on.2 4 0 (by omega) hR 0
    refine ⟨r, lg2, mc2, gc2, pn2, le2, ne2, pe2, ms2, pc2, bv2, bw2, ha2, mm2, gg2, pp2, hR2, fun post h => ?_, fun post h => ?_⟩
    · unfold wpX_serve
      exact zz_stateX c2 (br_t z ⟨4 + 1, hX2 post h⟩)
    · exact nm_r eb ⟨4 + 1, hY2 post h⟩
  · refine ⟨0, lg, mc, gc, pn, le, ne, pe, ms, pc, bv, bw, ha, mm, gg, pp, hR, fun post h => ?_, fun post h => ?_⟩
    · unfold wpX_serve
      exact zz_stateX c2 (br_f z h)
    · exact nm_r eb ⟨1, br_f (by decide) (zz_stateY c2 (br_f z h))⟩
end
end
section
/-! takeRequest -/
theorem zz_fpX1 {f_clients f_blocks f_drift f_longest f_time f_lastNumber f_down f_recoveryEnd f_longestGranted f_msgCount : Int32} {a_clock a_rate a_linkUp a_leaseMode a_leaseNumber a_leaseEnd a_leaseUnacked a_awaitNumber a_awaitMode a_awaitEnd a_newestNumber a_newestMode a_newestEnd a_maxWriteEnd a_maxAnyEnd a_pendCount a_pendClient a_pendNumber a_pendMode a_pendTerm a_pendMark a_blockValue a_blockWrite a_msgKind a_msgClient a_msgBlock a_msgNumber a_msgLease a_msgMode a_msgLast : Nat → Int32} {b c j : Nat} {post : Int32 → Prop} (hb : b < 4) (hj : j < 4) (hlt : ¬ a_pendCount b ≤ nI j) (hlo : ∀ k, k < j → ¬ a_pendCount b ≤ nI k) (he : a_pendClient (b * 4 + j) = nI c) (hne : ∀ k, k < j → ¬ a_pendClient (b * 4 + k) = nI c) (h : post (nI j)) : ∀ d k, k + d = j → wX_findPending_2 post (nI c) (nI b) f_clients f_blocks f_drift f_longest f_time f_lastNumber f_down f_recoveryEnd f_longestGranted f_msgCount a_clock a_rate a_linkUp a_leaseMode a_leaseNumber a_leaseEnd a_leaseUnacked a_awaitNumber a_awaitMode a_awaitEnd a_newestNumber a_newestMode a_newestEnd a_maxWriteEnd a_maxAnyEnd a_pendCount a_pendClient a_pendNumber a_pendMode a_pendTerm a_pendMark a_blockValue a_blockWrite a_msgKind a_msgClient a_msgBlock a_msgNumber a_msgLease a_msgMode a_msgLast (d + 1) (nI k) := by
  have vb : vp_in (nI b) 4 := vp_in_nI hb (by decide)
  have cb : (nI b).toNatClampNeg = b := nI_clamp (by omega)
  intro d
  induction d with
  | zero =>
    intro k hk
    obtain rfl : k = j := by omega
    refine ⟨vb, ?_⟩
    rw [cb]
    refine br_f hlt ⟨zz_vi _ (zz_p b k) (by omega) (by decide), ?_⟩
    rw [zz_cl (zz_p b k) (by omega)]
    exact br_t he h
  | succ d ih =>
    intro k hk
    refine ⟨vb, ?_⟩
    rw [cb]
    refine br_f (hlo k (by omega)) ⟨zz_vi _ (zz_p b k) (by omega) (by decide), ?_⟩
    rw [zz_cl (zz_p b k) (by omega)]
    exact br_f (hne k (by omega)) (nm_r (nI_1 k) (ih (k + 1) (by omega)))
theorem zz_fpX0 {f_clients f_blocks f_drift f_longest f_time f_lastNumber f_down f_recoveryEnd f_longestGranted f_msgCount : Int32} {a_clock a_rate a_linkUp a_leaseMode a_leaseNumber a_leaseEnd a_leaseUnacked a_awaitNumber a_awaitMode a_awaitEnd a_newestNumber a_newestMode a_newestEnd a_maxWriteEnd a_maxAnyEnd a_pendCount a_pendClient a_pendNumber a_pendMode a_pendTerm a_pendMark a_blockValue a_blockWrite a_msgKind a_msgClient a_msgBlock a_msgNumber a_msgLease a_msgMode a_msgLast : Nat → Int32} {b c m : Nat} {post : Int32 → Prop} (hb : b < 4) (hm : m ≤ 4) (hpc : a_pendCount b = nI m) (hne : ∀ k, k < m → ¬ a_pendClient (b * 4 + k) = nI c) (h : post (-1)) : ∀ d k, k + d = m → wX_findPending_2 post (nI c) (nI b) f_clients f_blocks f_drift f_longest f_time f_lastNumber f_down f_recoveryEnd f_longestGranted f_msgCount a_clock a_rate a_linkUp a_leaseMode a_leaseNumber a_leaseEnd a_leaseUnacked a_awaitNumber a_awaitMode a_awaitEnd a_newestNumber a_newestMode a_newestEnd a_maxWriteEnd a_maxAnyEnd a_pendCount a_pendClient a_pendNumber a_pendMode a_pendTerm a_pendMark a_blockValue a_blockWrite a_msgKind a_msgClient a_msgBlock a_msgNumber a_msgLease a_msgMode a_msgLast (d + 1) (nI k) := by
  have vb : vp_in (nI b) 4 := vp_in_nI hb (by decide)
  have cb : (nI b).toNatClampNeg = b := nI_clamp (by omega)
  intro d
  induction d with
  | zero =>
    intro k hk
    refine ⟨vb, ?_⟩
    rw [cb, hpc]
    exact br_t (nI_le (by omega) (by omega)) h
  | succ d ih =>
    intro k hk
    refine ⟨vb, ?_⟩
    rw [cb, hpc]
    refine br_f (nI_ge (by omega) (by omega)) ⟨zz_vi _ (zz_p b k) (by omega) (by decide), ?_⟩
    rw [zz_cl (zz_p b k) (by omega)]
    exact br_f (hne k (by omega)) (nm_r (nI_1 k) (ih (k + 1) (by omega)))
theorem zz_x20 (b k : Nat) : nI b * 20 + nI k * 5 = nI (b * 20 + k * 5) := by
  rw [show (20 : Int32) = nI 20 from rfl, show (5 : Int32) = nI 5 from rfl, pk_mul, pk_mul, nI_add]
theorem zz_fpY {f_clients f_blocks f_drift f_longest f_time f_lastNumber f_longestGranted f_recoveryEnd f_msgCount f_grantCount f_down : Int32} {a_clock a_rate a_cut a_value a_written a_has a_msg a_grant a_pend a_pendCount : Nat → Int32} {b c m J : Nat} {post : Int32 → SY → Prop} {x3 x4 x5 x6 : Int32} (hb : b < 4) (hm : m ≤ 4) (hJ : J ≤ m) (hpc : a_pendCount b = nI m) (hne : ∀ k, k < J → ¬ a_pend (b * 20 + k * 5) = nI c) (he : J < m → a_pend (b * 20 + J * 5) = nI c) (h : wY_takeRequest_14 post (nI c) (nI b) x3 x4 x5 x6 f_clients f_blocks f_drift f_longest f_time f_lastNumber f_longestGranted f_recoveryEnd f_msgCount f_grantCount f_down a_clock a_rate a_cut a_value a_written a_has a_msg a_grant a_pend a_pendCount 1 (nI J) (nI m)) : ∀ d i k, i + d = m → k ≤ i → k ≤ J → (k < J → k = i) → wY_takeRequest_14 post (nI c) (nI b) x3 x4 x5 x6 f_clients f_blocks f_drift f_longest f_time f_lastNumber f_longestGranted f_recoveryEnd f_msgCount f_grantCount f_down a_clock a_rate a_cut a_value a_written a_has a_msg a_grant a_pend a_pendCount (d + 1) (nI k) (nI i) := by
  have vb : vp_in (nI b) 4 := vp_in_nI hb (by decide)
  have cb : (nI b).toNatClampNeg = b := nI_clamp (by omega)
  intro d
  induction d with
  | zero =>
    intro i k hi h1 h2 h3
    obtain rfl : i = m := by omega
    obtain rfl : k = J := by omega
    exact h
  | succ d ih =>
    intro i k hi h1 h2 h3
    refine ⟨vb, ?_⟩
    rw [cb, hpc]
    refine br_f (nI_ge (by omega) (by omega)) ⟨zz_vi _ (zz_x20 b k) (by omega) (by decide), ?_⟩
    rw [zz_cl (zz_x20 b k) (by omega)]
    by_cases q : a_pend (b * 20 + k * 5) = nI c
    · refine br_t q (nm_r (nI_1 i) (ih (i + 1) k (by omega) (by omega) h2 (fun z => (hne k z q).elim)))
    · have kJ : k < J := by
        by_cases z : k = J
        · subst z
          exact (q (he (by omega))).elim
        · omega
      exact br_f q (nm_r (nI_1 k) (nm_r (nI_1 i) (ih (i + 1) (k + 1) (by omega) (by omega) (by omega) (by omega))))
def zz_a5 (g : Nat → Int32) (k : Nat) (x0 x1 x2 x3 x4 : Int32) : Nat → Int32 := upd (upd (upd (upd (upd g k x0) (k + 1) x1) (k + 2) x2) (k + 3) x3) (k + 4) x4
theorem zz_a5_lo {g : Nat → Int32} {k j : Nat} {x0 x1 x2 x3 x4 : Int32} (h : j < k ∨ k + 5 ≤ j) : zz_a5 g k x0 x1 x2 x3 x4 j = g j := by
  unfold zz_a5
  rw [pk_un (by omega), pk_un (by omega), pk_un (by omega), pk_un (by omega), pk_un (by omega)]
theorem zz_a5_at {g : Nat → Int32} {k : Nat} {x0 x1 x2 x3 x4 : Int32} : zz_a5 g k x0 x1 x2 x3 x4 k = x0 ∧ zz_a5 g k x0 x1 x2 x3 x4 (k + 1) = x1 ∧ zz_a5 g k x0 x1 x2 x3 x4 (k + 2) = x2 ∧ zz_a5 g k x0 x1 x2 x3 x4 (k + 3) = x3 ∧ zz_a5 g k x0 x1 x2 x3 x4 (k + 4) = x4 := by
  unfold zz_a5
  refine ⟨?_, ?_, ?_, ?_, ?_⟩
  · rw [pk_un (by omega), pk_un (by omega), pk_un (by omega), pk_un (by omega), pk_us]
  · rw [pk_un (by omega), pk_un (by omega), pk_un (by omega), pk_us]
  · rw [pk_un (by omega), pk_un (by omega), pk_us]
  · rw [pk_un (by omega), pk_us]
  · rw [pk_us]
def zz_p5 (pe : Nat → Nat → Int32) (k : Nat) (x0 x1 x2 x3 x4 : Int32) : Nat → Nat → Int32 := zz_m5 (upd (pe 0) k x0) (upd (pe 1) k x1) (upd (pe 2) k x2) (upd (pe 3) k x3) (upd (pe 4) k x4)
theorem zz_RP_put {nc nb b j v : Nat} {pn : Nat → Nat} {pc pc' pp : Nat → Int32} {pe : Nat → Nat → Int32} {x0 x1 x2 x3 x4 : Int32} (hP : zz_RP nc nb pn pc pe pp) (hb : b < nb) (b2 : nb ≤ 4) (hj : j < 4) (hv : v ≤ 4) (hvk : ∀ k, k < v → k < pn b ∨ k = j) (hpc : pc' b = nI v) (hpc' : ∀ y, y ≠ b → pc' y = pc y) (hok : zz_pok nc x0 x1 x2 x3 x4) : zz_RP nc nb (zz_pd pn b v) pc' (zz_p5 pe (b * 4 + j) x0 x1 x2 x3 x4) (zz_a5 pp (b * 20 + j * 5) x0 x1 x2 x3 x4) := by
  have old : ∀ y k, y * 4 + k ≠ b * 4 + j → k < 4 → zz_RP1 nc pe pp y k → zz_RP1 nc (zz_p5 pe (b * 4 + j) x0 x1 x2 x3 x4) (zz_a5 pp (b * 20 + j * 5) x0 x1 x2 x3 x4) y k := by
    intro y k hq hk h
    have a : ∀ f, f < 5 → zz_a5 pp (b * 20 + j * 5) x0 x1 x2 x3 x4 (y * 20 + k * 5 + f) = pp (y * 20 + k * 5 + f) := fun f hf => zz_a5_lo (by omega)
    have a0 : zz_a5 pp (b * 20 + j * 5) x0 x1 x2 x3 x4 (y * 20 + k * 5) = pp (y * 20 + k * 5) := a 0 (by omega)
    show (upd (pe 0) (b * 4 + j) x0 (y * 4 + k) = _ ∧ upd (pe 1) (b * 4 + j) x1 (y * 4 + k) = _ ∧ upd (pe 2) (b * 4 + j) x2 (y * 4 + k) = _ ∧ upd (pe 3) (b * 4 + j) x3 (y * 4 + k) = _ ∧ upd (pe 4) (b * 4 + j) x4 (y * 4 + k) = _) ∧ zz_pok nc (upd (pe 0) (b * 4 + j) x0 (y * 4 + k)) (upd (pe 1) (b * 4 + j) x1 (y * 4 + k)) (upd (pe 2) (b * 4 + j) x2 (y * 4 + k)) (upd (pe 3) (b * 4 + j) x3 (y * 4 + k)) (upd (pe 4) (b * 4 + j) x4 (y * 4 + k))
    rw [pk_un hq, pk_un hq, pk_un hq, pk_un hq, pk_un hq, a0, a 1 (by omega), a 2 (by omega), a 3 (by omega), a 4 (by omega)]
    exact h
  intro y hy
  obtain ⟨h1, h2, h3, h4⟩ := hP y hy
  by_cases q : y = b
  · subst q
    have ep : zz_pd pn y v y = v := if_pos rfl
    rw [ep]
    refine ⟨hpc, hv, by omega, fun k hk => ?_⟩
    by_cases z : k = j
    · subst z
      obtain ⟨z0, z1, z2, z3, z4⟩ := zz_a5_at (g := pp) (k := y * 20 + k * 5) (x0 := x0) (x1 := x1) (x2 := x2) (x3 := x3) (x4 := x4)
      show (upd (pe 0) (y * 4 + k) x0 (y * 4 + k) = _ ∧ upd (pe 1) (y * 4 + k) x1 (y * 4 + k) = _ ∧ upd (pe 2) (y * 4 + k) x2 (y * 4 + k) = _ ∧ upd (pe 3) (y * 4 + k) x3 (y * 4 + k) = _ ∧ upd (pe 4) (y * 4 + k) x4 (y * 4 + k) = _) ∧ zz_pok nc (upd (pe 0) (y * 4 + k) x0 (y * 4 + k)) (upd (pe 1) (y * 4 + k) x1 (y * 4 + k)) (upd (pe 2) (y * 4 + k) x2 (y * 4 + k)) (upd (pe 3) (y * 4 + k) x3 (y * 4 + k)) (upd (pe 4) (y * 4 + k) x4 (y * 4 + k))
      rw [pk_us, pk_us, pk_us, pk_us, pk_us, z0, z1, z2, z3, z4]
      exact ⟨⟨rfl, rfl, rfl, rfl, rfl⟩, hok⟩
    · refine old y k (by omega) (by omega) (h4 k ?_)
      rcases hvk k hk with w | w
      · exact w
      · exact (z w).elim
  · have ep : zz_pd pn b v y = pn y := if_neg q
    rw [ep, hpc' y q]
    exact ⟨h1, h2, h3, fun k hk => old y k (by omega) (by omega) (h4 k hk)⟩
section
variable {nc nb dr lo tm ln lg mc gc : Nat} {pn : Nat → Nat} {dn re : Int32} {ck rt lk : Nat → Int32} {le ne pe ms : Nat → Nat → Int32} {pc bv bw ct ha mm gg pp : Nat → Int32}
variable {b c t : Nat} {n md : Int32}
theorem zz_tr97 {post : Int32 → SY → Prop} {x4 x5 x7 x8 : Int32} (hG : zz_RG nc nb gc ne gg) (hc : c < nc) (hb : b < nb) (hn : 1 ≤ n.toInt) (h1 : ne 0 (c * 4 + b) ≤ n → wY_takeRequest_118 post (nI c) (nI b) n x4 x5 x7 x8 (nI nc) (nI nb) (nI dr) (nI lo) (nI tm) (nI ln) (nI lg) re (nI mc) (nI gc) dn ck rt ct bv bw ha mm gg pp pc) (h0 : ¬ ne 0 (c * 4 + b) ≤ n → post 1 ((nI nc), (nI nb), (nI dr), (nI lo), (nI tm), (nI ln), (nI lg), re, (nI mc), (nI gc), dn, ck, rt, ct, bv, bw, ha, mm, gg, pp, pc)) : wY_takeRequest_97 post (nI c) (nI b) n x4 x5 (zz_ni gg (nI c) (nI b) gc) x7 x8 (nI nc) (nI nb) (nI dr) (nI lo) (nI tm) (nI ln) (nI lg) re (nI mc) (nI gc) dn ck rt ct bv bw ha mm gg pp pc := by
  obtain ⟨⟨g0, g1⟩, hg⟩ := hG
  have k0 := (hg c b hc hb).1
  rcases zz_ni_spec gg (nI c) (nI b) gc with ⟨e, e1, _⟩ | ⟨m, hm, e, e1⟩
  · rw [e]
    rw [e1] at k0
    refine br_t (by decide) (h1 ?_)
    rw [k0, zz_le, zz_t0]; omega
  · rw [e]
    rw [e1] at k0
    have i6 : nI m * 6 = nI (m * 6) := pk_mul m 6
    refine br_f (nI_pos (by omega)) ⟨zz_vi _ i6 (by omega) (by decide), ?_⟩
    have k0' : ne 0 (c * 4 + b) = gg (m * 6) := k0
    rw [zz_cl i6 (by omega), ← k0']
    exact br_c h1 h0
theorem zz_t_request (hR : zz_R nc nb dr lo tm ln lg mc gc pn ck rt lk le ne pe ms pc ct ha mm gg pp) (hN1 : gc + (pn 0 + pn 1 + pn 2 + pn 3) + zz_rq (ms 0) mc + 1 ≤ ln) (hb : b < nb) (hc : c < nc) (hn : 1 ≤ n.toInt) (hmd : md = 1 ∨ md = 2) (ht : t ≤ 20) : ∃ (r : Int32) (lg' mc' gc' : Nat) (pn' : Nat → Nat) (le' ne' pe' ms' : Nat → Nat → Int32) (pc' bv' bw' ha' mm' gg' pp' : Nat → Int32), zz_R nc nb dr lo tm ln lg' mc' gc' pn' ck rt lk le' ne' pe' ms' pc' ct ha' mm' gg' pp' ∧
    (∀ post : Int32 → SX → Prop, post r ((nI nc), (nI nb), (nI dr), (nI lo), (nI tm), (nI ln), dn, re, (nI lg'), (nI mc'), ck, rt, lk, (le' 0), (le' 1), (le' 2), (le' 3), (le' 4), (le' 5), (le' 6), (ne' 0), (ne' 1), (ne' 2), (ne' 3), (ne' 4), pc', (pe' 0), (pe' 1), (pe' 2), (pe' 3), (pe' 4), bv', bw', (ms' 0), (ms' 1), (ms' 2), (ms' 3), (ms' 4), (ms' 5), (ms' 6)) → wpX_takeRequest post ((nI nc), (nI nb), (nI dr), (nI lo), (nI tm), (nI ln), dn, re, (nI lg), (nI mc), ck, rt, lk, (le 0), (le 1), (le 2), (le 3), (le 4), (le 5), (le 6), (ne 0), (ne 1), (ne 2), (ne 3), (ne 4), pc, (pe 0), (pe 1), (pe 2), (pe 3), (pe 4), bv, bw, (ms 0), (ms 1), (ms 2), (ms 3), (ms 4), (ms 5), (ms 6)) (nI c) (nI b) n md (nI t)) ∧
    (∀ post : Int32 → SY → Prop, post r ((nI nc), (nI nb), (nI dr), (nI lo), (nI tm), (nI ln), (nI lg'), re, (nI mc'), (nI gc'), dn, ck, rt, ct, bv', bw', ha', mm', gg', pp', pc') → wpY_takeRequest post ((nI nc), (nI nb), (nI dr), (nI lo), (nI tm), (nI ln), (nI lg), re, (nI mc), (nI gc), dn, ck, rt, ct, bv, bw, ha, mm, gg, pp, pc) (nI c) (nI b) n md (nI t)) := by
  have hR0 := hR
  obtain ⟨⟨c1, c2, b1, b2, d3, l1, l2, t6, n2, g2⟩, hC, hL, hH, hM, hP, hG, hN⟩ := hR
  obtain ⟨hp1, hp2, hp3, hp4⟩ := hP b (by omega)
  have g0 := hG.1.1
  have vb : vp_in (nI b) 4 := vp_in_nI (by omega) (by decide)
  have cb : (nI b).toNatClampNeg = b := nI_clamp (by omega)
  have vp : vp_in (nI c * 4 + nI b) 16 := zz_vi _ (zz_p c b) (by omega) (by decide)
  have cp : (nI c * 4 + nI b).toNatClampNeg = c * 4 + b := zz_cl (zz_p c b) (by omega)
  have hok : zz_pok nc (nI c) n md (nI t) 0 := ⟨⟨c, hc, rfl⟩, hn, hmd, ⟨t, ht, rfl⟩, Or.inl rfl⟩
  have fp : (∀ k, k < pn b → ¬ pe 0 (b * 4 + k) = nI c) ∨ ∃ j, j < pn b ∧ pe 0 (b * 4 + j) = nI c ∧ ∀ k, k < j → ¬ pe 0 (b * 4 + k) = nI c := by
    have ex : ∀ m, (∀ k, k < m → ¬ pe 0 (b * 4 + k) = nI c) ∨ ∃ j, j < m ∧ pe 0 (b * 4 + j) = nI c ∧ ∀ k, k < j → ¬ pe 0 (b * 4 + k) = nI c := by
      intro m
      induction m with
      | zero => exact Or.inl (fun k hk => absurd hk (by omega))
      | succ m ih =>
        rcases ih with a | ⟨j, a1, a2, a3⟩
        · by_cases q : pe 0 (b * 4 + m) = nI c
          · exact Or.inr ⟨m, by omega, q, a⟩
          · refine Or.inl (fun k hk => ?_)
            by_cases z : k = m
            · subst z; exact q
            · exact a k (by omega)
        · exact Or.inr ⟨j, by omega, a2, a3⟩
    exact ex (pn b)
  have pe0 : ∀ k, k < pn b → pe 0 (b * 4 + k) = pp (b * 20 + k * 5) := fun k hk => (hp4 k hk).1.1
  rcases fp with fp | ⟨j, hj, fe, fn⟩
  · -- not in the list
    have X0 : ∀ post : Int32 → SX → Prop, wX_takeRequest_30 post (nI c) (nI b) n md (nI t) (-1) (nI nc) (nI nb) (nI dr) (nI lo) (nI tm) (nI ln) dn re (nI lg) (nI mc) ck rt lk (le 0) (le 1) (le 2) (le 3) (le 4) (le 5) (le 6) (ne 0) (ne 1) (ne 2) (ne 3) (ne 4) pc (pe 0) (pe 1) (pe 2) (pe 3) (pe 4) bv bw (ms 0) (ms 1) (ms 2) (ms 3) (ms 4) (ms 5) (ms 6) → wpX_takeRequest post ((nI nc), (nI nb), (nI dr), (nI lo), (nI tm), (nI ln), dn, re, (nI lg), (nI mc), ck, rt, lk, (le 0), (le 1), (le 2), (le 3), (le 4), (le 5), (le 6), (ne 0), (ne 1), (ne 2), (ne 3), (ne 4), pc, (pe 0), (pe 1), (pe 2), (pe 3), (pe 4), bv, bw, (ms 0), (ms 1), (ms 2), (ms 3), (ms 4), (ms 5), (ms 6)) (nI c) (nI b) n md (nI t) := fun post h => by
      unfold wpX_takeRequest
      exact ⟨pn b + 1, zz_fpX0 (by omega) hp2 hp1 fp (br_t (by decide) h) (pn b) 0 (by omega)⟩
    have Y0 : ∀ post : Int32 → SY → Prop, wY_takeRequest_14 post (nI c) (nI b) n md (nI t) (zz_ni gg (nI c) (nI b) gc) (nI nc) (nI nb) (nI dr) (nI lo) (nI tm) (nI ln) (nI lg) re (nI mc) (nI gc) dn ck rt ct bv bw ha mm gg pp pc 1 (nI (pn b)) (nI (pn b)) → wpY_takeRequest post ((nI nc), (nI nb), (nI dr), (nI lo), (nI tm), (nI ln), (nI lg), re, (nI mc), (nI gc), dn, ck, rt, ct, bv, bw, ha, mm, gg, pp, pc) (nI c) (nI b) n md (nI t) := fun post h => by
      unfold wpY_takeRequest
      exact zz_newestY g0 ⟨pn b + 1, zz_fpY (by omega) hp2 (Nat.le_refl _) hp1 (fun k hk => by rw [← pe0 k hk]; exact fp k hk) (fun z => absurd z (by omega)) h (pn b) 0 0 (by omega) (by omega) (by omega) (by omega)⟩
    by_cases nn : ne 0 (c * 4 + b) ≤ n
    · by_cases full : pn b = 4
      · refine ⟨1, lg, mc, gc, pn, le, ne, pe, ms, pc, bv, bw, ha, mm, gg, pp, hR0, fun post h => X0 post ⟨vp, ?_⟩, fun post h => Y0 post ⟨vb, ?_⟩⟩
        · rw [cp]
          refine br_t nn (br_f (by decide) ⟨vb, ?_⟩)
          rw [cb, hp1, full]
          exact nm_e (br_f (by decide) h)
        · rw [cb, hp1, full]
          exact br_t (by decide) (br_f (by decide) h)
      · have hR' : zz_R nc nb dr lo tm ln lg mc gc (zz_pd pn b (pn b + 1)) ck rt lk le ne (zz_p5 pe (b * 4 + pn b) (nI c) n md (nI t) 0) ms (upd pc b (nI (pn b + 1))) ct ha mm gg (zz_a5 pp (b * 20 + pn b * 5) (nI c) n md (nI t) 0) := by
          refine ⟨⟨c1, c2, b1, b2, d3, l1, l2, t6, n2, g2⟩, hC, hL, hH, hM, zz_RP_put hP hb b2 (by omega) (by omega) (fun k hk => by omega) pk_us (fun y hy => pk_un hy) hok, hG, ?_⟩
          have hs := zz_pd_sum (pn := pn) (b := b) (v := pn b + 1) (by omega)
          unfold zz_RN
          omega
        obtain ⟨r, lg2, mc2, gc2, pn2, le2, ne2, pe2, ms2, pc2, bv2, bw2, ha2, mm2, gg2, pp2, hR2, hX2, hY2⟩ := zz_serve (dn := dn) (re := re) (bv := bv) (bw := bw) hR' hb
        refine ⟨3, lg2, mc2, gc2, pn2, le2, ne2, pe2, ms2, pc2, bv2, bw2, ha2, mm2, gg2, pp2, hR2, fun post h => X0 post ⟨vp, ?_⟩, fun post h => Y0 post ⟨vb, ?_⟩⟩
        · rw [cp]
          refine br_t nn (br_f (by decide) ⟨vb, ?_⟩)
          rw [cb, hp1, nI_1]
          refine nm_e (br_t (nI_lt (b := 4) (by omega) (by decide)) ⟨vb, vb, nm_e ?_⟩)
          unfold wX_takeRequest_77
          refine nm_r (zz_p b (pn b)) ?_
          refine zz_st (b * 4 + pn b) rfl (by omega) (by decide) ?_
          refine zz_st (b * 4 + pn b) rfl (by omega) (by decide) ?_
          refine zz_st (b * 4 + pn b) rfl (by omega) (by decide) ?_
          refine zz_st (b * 4 + pn b) rfl (by omega) (by decide) ?_
          refine zz_st (b * 4 + pn b) rfl (by omega) (by decide) ?_
          exact hX2 _ h
        · rw [cb, hp1]
          refine br_t (nI_le (by omega) (by omega)) (br_t (nI_lt (b := 4) (by omega) (by decide)) (nm_r (zz_x20 b (pn b)) ⟨vb, br_t (nI_le (by omega) (by omega)) (zz_tr97 hG hc hb hn (fun _ => ?_) (fun z => (z nn).elim))⟩))
          unfold wY_takeRequest_118
          refine ⟨vb, ?_⟩
          rw [cb, hp1, nI_1]
          refine br_t rfl ⟨vb, vb, nm_e ?_⟩
          unfold wY_takeRequest_139
          refine zz_st (b * 20 + pn b * 5) rfl (by omega) (by decide) ?_
          refine zz_st (b * 20 + pn b * 5 + 1) (nI_add _ 1) (by omega) (by decide) ?_
          refine zz_st (b * 20 + pn b * 5 + 2) (nI_add _ 2) (by omega) (by decide) ?_
          refine zz_st (b * 20 + pn b * 5 + 3) (nI_add _ 3) (by omega) (by decide) ?_
          refine zz_st (b * 20 + pn b * 5 + 4) (nI_add _ 4) (by omega) (by decide) ?_
          exact hY2 _ h
    · refine ⟨1, lg, mc, gc, pn, le, ne, pe, ms, pc, bv, bw, ha, mm, gg, pp, hR0, fun post h => X0 post ⟨vp, ?_⟩, fun post h => Y0 post ⟨vb, ?_⟩⟩
      · rw [cp]
        exact br_f nn h
      · rw [cb, hp1]
        refine br_t (nI_le (by omega) (by omega)) (br_c (fun _ => nm_r (zz_x20 b (pn b)) ⟨vb, br_t (nI_le (by omega) (by omega)) (zz_tr97 hG hc hb hn (fun z => (nn z).elim) (fun _ => h))⟩) (fun _ => h))
  · -- in the list at j
    have lt : ∀ k, k < pn b → ¬ pc b ≤ nI k := fun k hk => by rw [hp1]; exact nI_ge hk (by omega)
    have e1 : pe 1 (b * 4 + j) = pp (b * 20 + j * 5 + 1) := (hp4 j hj).1.2.1
    have ibj : nI b * 4 + nI j = nI (b * 4 + j) := zz_p b j
    have X0 : ∀ post : Int32 → SX → Prop, ((pe 1 (b * 4 + j) ≤ n → wX_takeRequest_30 post (nI c) (nI b) n md (nI t) (nI j) (nI nc) (nI nb) (nI dr) (nI lo) (nI tm) (nI ln) dn re (nI lg) (nI mc) ck rt lk (le 0) (le 1) (le 2) (le 3) (le 4) (le 5) (le 6) (ne 0) (ne 1) (ne 2) (ne 3) (ne 4) pc (pe 0) (pe 1) (pe 2) (pe 3) (pe 4) bv bw (ms 0) (ms 1) (ms 2) (ms 3) (ms 4) (ms 5) (ms 6)) ∧ (¬ pe 1 (b * 4 + j) ≤ n → post 1 ((nI nc), (nI nb), (nI dr), (nI lo), (nI tm), (nI ln), dn, re, (nI lg), (nI mc), ck, rt, lk, (le 0), (le 1), (le 2), (le 3), (le 4), (le 5), (le 6), (ne 0), (ne 1), (ne 2), (ne 3), (ne 4), pc, (pe 0), (pe 1), (pe 2), (pe 3), (pe 4), bv, bw, (ms 0), (ms 1), (ms 2), (ms 3), (ms 4), (ms 5), (ms 6)))) → wpX_takeRequest post ((nI nc), (nI nb), (nI dr), (nI lo), (nI tm), (nI ln), dn, re, (nI lg), (nI mc), ck, rt, lk, (le 0), (le 1), (le 2), (le 3), (le 4), (le 5), (le 6), (ne 0), (ne 1), (ne 2), (ne 3), (ne 4), pc, (pe 0), (pe 1), (pe 2), (pe 3), (pe 4), bv, bw, (ms 0), (ms 1), (ms 2), (ms 3), (ms 4), (ms 5), (ms 6)) (nI c) (nI b) n md (nI t) := fun post h => by
      unfold wpX_takeRequest
      refine ⟨j + 1, zz_fpX1 (by omega) (by omega) (lt j hj) (fun k hk => lt k (by omega)) fe fn (br_f (nI_pos (by omega)) ⟨zz_vi _ ibj (by omega) (by decide), ?_⟩) j 0 (by omega)⟩
      rw [zz_cl ibj (by omega)]
      exact h
    have Y0 : ∀ post : Int32 → SY → Prop, ((pe 1 (b * 4 + j) ≤ n → wY_takeRequest_97 post (nI c) (nI b) n md (nI t) (zz_ni gg (nI c) (nI b) gc) (nI j) (nI (b * 20 + j * 5)) (nI nc) (nI nb) (nI dr) (nI lo) (nI tm) (nI ln) (nI lg) re (nI mc) (nI gc) dn ck rt ct bv bw ha mm gg pp pc) ∧ (¬ pe 1 (b * 4 + j) ≤ n → post 1 ((nI nc), (nI nb), (nI dr), (nI lo), (nI tm), (nI ln), (nI lg), re, (nI mc), (nI gc), dn, ck, rt, ct, bv, bw, ha, mm, gg, pp, pc))) → wpY_takeRequest post ((nI nc), (nI nb), (nI dr), (nI lo), (nI tm), (nI ln), (nI lg), re, (nI mc), (nI gc), dn, ck, rt, ct, bv, bw, ha, mm, gg, pp, pc) (nI c) (nI b) n md (nI t) := fun post h => by
      unfold wpY_takeRequest
      refine zz_newestY g0 ⟨pn b + 1, zz_fpY (J := j) (by omega) hp2 (by omega) hp1 (fun k hk => by rw [← pe0 k (by omega)]; exact fn k hk) (fun z => (pe0 j hj).symm.trans fe) ⟨vb, ?_⟩ (pn b) 0 0 (by omega) (by omega) (by omega) (by omega)⟩
      have i1 : nI (b * 20 + j * 5) + 1 = nI (b * 20 + j * 5 + 1) := nI_1 _
      rw [cb, hp1]
      refine br_t (nI_le (by omega) (by omega)) (br_t (nI_lt (b := 4) (by omega) (by decide)) (nm_r (zz_x20 b j) ⟨vb, br_f (nI_ge hj (by omega)) ⟨zz_vi _ i1 (by omega) (by decide), ?_⟩⟩))
      rw [zz_cl i1 (by omega), ← e1]
      exact h
    by_cases p1 : pe 1 (b * 4 + j) ≤ n
    · by_cases nn : ne 0 (c * 4 + b) ≤ n
      · have hR' : zz_R nc nb dr lo tm ln lg mc gc (zz_pd pn b (pn b)) ck rt lk le ne (zz_p5 pe (b * 4 + j) (nI c) n md (nI t) 0) ms pc ct ha mm gg (zz_a5 pp (b * 20 + j * 5) (nI c) n md (nI t) 0) := by
          refine ⟨⟨c1, c2, b1, b2, d3, l1, l2, t6, n2, g2⟩, hC, hL, hH, hM, zz_RP_put hP hb b2 (by omega) (by omega) (fun k hk => Or.inl hk) hp1 (fun y hy => rfl) hok, hG, ?_⟩
          have hs := zz_pd_sum (pn := pn) (b := b) (v := pn b) (by omega)
          unfold zz_RN
          omega
        obtain ⟨r, lg2, mc2, gc2, pn2, le2, ne2, pe2, ms2, pc2, bv2, bw2, ha2, mm2, gg2, pp2, hR2, hX2, hY2⟩ := zz_serve (dn := dn) (re := re) (bv := bv) (bw := bw) hR' hb
        refine ⟨3, lg2, mc2, gc2, pn2, le2, ne2, pe2, ms2, pc2, bv2, bw2, ha2, mm2, gg2, pp2, hR2, fun post h => X0 post (br_t p1 ⟨vp, ?_⟩), fun post h => Y0 post (br_t p1 (zz_tr97 hG hc hb hn (fun _ => ?_) (fun z => (z nn).elim)))⟩
        · rw [cp]
          refine br_t nn (br_t (nI_pos' (by omega)) ?_)
          unfold wX_takeRequest_77
          refine nm_r (zz_p b j) ?_
          refine zz_st (b * 4 + j) rfl (by omega) (by decide) ?_
          refine zz_st (b * 4 + j) rfl (by omega) (by decide) ?_
          refine zz_st (b * 4 + j) rfl (by omega) (by decide) ?_
          refine zz_st (b * 4 + j) rfl (by omega) (by decide) ?_
          refine zz_st (b * 4 + j) rfl (by omega) (by decide) ?_
          exact hX2 _ h
        · unfold wY_takeRequest_118
          refine ⟨vb, ?_⟩
          rw [cb, hp1]
          refine br_f (by rw [nI_eq (by omega) (by omega)]; omega) ?_
          unfold wY_takeRequest_139
          refine zz_st (b * 20 + j * 5) rfl (by omega) (by decide) ?_
          refine zz_st (b * 20 + j * 5 + 1) (nI_add _ 1) (by omega) (by decide) ?_
          refine zz_st (b * 20 + j * 5 + 2) (nI_add _ 2) (by omega) (by decide) ?_
          refine zz_st (b * 20 + j * 5 + 3) (nI_add _ 3) (by omega) (by decide) ?_
          refine zz_st (b * 20 + j * 5 + 4) (nI_add _ 4) (by omega) (by decide) ?_
          exact hY2 _ h
      · refine ⟨1, lg, mc, gc, pn, le, ne, pe, ms, pc, bv, bw, ha, mm, gg, pp, hR0, fun post h => X0 post (br_t p1 ⟨vp, ?_⟩), fun post h => Y0 post (br_t p1 (zz_tr97 hG hc hb hn (fun z => (nn z).elim) (fun _ => h)))⟩
        rw [cp]
        exact br_f nn h
    · exact ⟨1, lg, mc, gc, pn, le, ne, pe, ms, pc, bv, bw, ha, mm, gg, pp, hR0, fun post h => X0 post (br_f p1 h), fun post h => Y0 post (br_f p1 h)⟩
end
end
section
/-! takeRelease, takeStore, takeGrant, takeRecall, takeAck -/
theorem zz_relY {f_clients f_blocks f_drift f_longest f_time f_lastNumber f_longestGranted f_recoveryEnd f_msgCount f_down : Int32} {a_clock a_rate a_cut a_value a_written a_has a_msg a_pend a_pendCount : Nat → Int32} {b c gc : Nat} {post : Int32 → SY → Prop} (hgc : gc ≤ 250) : ∀ d i, i + d = gc → ∀ gg g' : Nat → Int32, (∀ q, g' q = if q % 6 = 5 ∧ i ≤ q / 6 ∧ q / 6 < gc ∧ gg (q / 6 * 6 + 3) = nI c ∧ gg (q / 6 * 6 + 4) = nI b then 1 else gg q) → wpY_serve (fun _ u => post 3 u) (f_clients, f_blocks, f_drift, f_longest, f_time, f_lastNumber, f_longestGranted, f_recoveryEnd, f_msgCount, (nI gc), f_down, a_clock, a_rate, a_cut, a_value, a_written, a_has, a_msg, g', a_pend, a_pendCount) (nI b) → wY_takeRelease_42 post (nI c) (nI b) f_clients f_blocks f_drift f_longest f_time f_lastNumber f_longestGranted f_recoveryEnd f_msgCount (nI gc) f_down (d + 1) (nI i) a_clock a_rate a_cut a_value a_written a_has a_msg gg a_pend a_pendCount := by
  intro d
  induction d with
  | zero =>
    intro i hi gg g' e h
    obtain rfl : g' = gg := funext fun q => by rw [e, if_neg (by omega)]
    exact br_t (nI_le (by omega) (by omega)) h
  | succ d ih =>
    intro i hi gg g' e h
    have i3 : nI i * 6 + 3 = nI (i * 6 + 3) := zz_x6 i 3
    have i4 : nI i * 6 + 4 = nI (i * 6 + 4) := zz_x6 i 4
    have i5 : nI i * 6 + 5 = nI (i * 6 + 5) := zz_x6 i 5
    refine br_f (nI_ge (by omega) (by omega)) ⟨zz_vi _ i3 (by omega) (by decide), ?_⟩
    rw [zz_cl i3 (by omega), zz_cl i4 (by omega)]
    have nomatch' : ¬ (gg (i * 6 + 3) = nI c ∧ gg (i * 6 + 4) = nI b) → wY_takeRelease_42 post (nI c) (nI b) f_clients f_blocks f_drift f_longest f_time f_lastNumber f_longestGranted f_recoveryEnd f_msgCount (nI gc) f_down (d + 1) (nI (i + 1)) a_clock a_rate a_cut a_value a_written a_has a_msg gg a_pend a_pendCount := fun z => by
      refine ih (i + 1) (by omega) gg g' (fun q => ?_) h
      rw [e q]
      by_cases w : q % 6 = 5 ∧ i + 1 ≤ q / 6 ∧ q / 6 < gc ∧ gg (q / 6 * 6 + 3) = nI c ∧ gg (q / 6 * 6 + 4) = nI b
      · rw [if_pos w, if_pos ⟨w.1, by omega, w.2.2⟩]
      · rw [if_neg w, if_neg]
        rintro ⟨w1, w2, w3, w4, w5⟩
        by_cases v : q / 6 = i
        · rw [v] at w4 w5; exact z ⟨w4, w5⟩
        · exact w ⟨w1, by omega, w3, w4, w5⟩
    by_cases h3 : gg (i * 6 + 3) = nI c
    · refine br_t h3 ⟨zz_vi _ i4 (by omega) (by decide), ?_⟩
      by_cases h4 : gg (i * 6 + 4) = nI b
      · refine br_t h4 (zz_st (i * 6 + 5) i5 (by omega) (by decide) (nm_r (nI_1 i) (ih (i + 1) (by omega) (upd gg (i * 6 + 5) 1) g' (fun q => ?_) h)))
        rw [e q, pk_un (f := gg) (k := i * 6 + 5) (j := q / 6 * 6 + 3) (by omega), pk_un (f := gg) (k := i * 6 + 5) (j := q / 6 * 6 + 4) (by omega)]
        by_cases v : q = i * 6 + 5
        · have v1 : q / 6 = i := by omega
          rw [v1, if_pos ⟨by omega, by omega, by omega, h3, h4⟩, if_neg (by omega), v, pk_us]
        · rw [pk_un v]
          by_cases w : q % 6 = 5 ∧ i + 1 ≤ q / 6 ∧ q / 6 < gc ∧ gg (q / 6 * 6 + 3) = nI c ∧ gg (q / 6 * 6 + 4) = nI b
          · rw [if_pos w, if_pos ⟨w.1, by omega, w.2.2⟩]
          · rw [if_neg w, if_neg]
            rintro ⟨w1, w2, w3, w4, w5⟩
            exact w ⟨w1, by omega, w3, w4, w5⟩
      · exact br_f h4 (nm_r (nI_1 i) (nomatch' (fun z => h4 z.2)))
    · exact br_f h3 (nm_r (nI_1 i) (nomatch' (fun z => h3 z.1)))
section
variable {nc nb dr lo tm ln lg mc gc : Nat} {pn : Nat → Nat} {dn re : Int32} {ck rt lk : Nat → Int32} {le ne pe ms : Nat → Nat → Int32} {pc bv bw ct ha mm gg pp : Nat → Int32}
variable {b c t : Nat} {n : Int32}
theorem zz_t_release (hR : zz_R nc nb dr lo tm ln lg mc gc pn ck rt lk le ne pe ms pc ct ha mm gg pp) (hb : b < nb) (hc : c < nc) : ∃ (r : Int32) (lg' mc' gc' : Nat) (pn' : Nat → Nat) (le' ne' pe' ms' : Nat → Nat → Int32) (pc' bv' bw' ha' mm' gg' pp' : Nat → Int32), zz_R nc nb dr lo tm ln lg' mc' gc' pn' ck rt lk le' ne' pe' ms' pc' ct ha' mm' gg' pp' ∧
    (∀ post : Int32 → SX → Prop, post r ((nI nc), (nI nb), (nI dr), (nI lo), (nI tm), (nI ln), dn, re, (nI lg'), (nI mc'), ck, rt, lk, (le' 0), (le' 1), (le' 2), (le' 3), (le' 4), (le' 5), (le' 6), (ne' 0), (ne' 1), (ne' 2), (ne' 3), (ne' 4), pc', (pe' 0), (pe' 1), (pe' 2), (pe' 3), (pe' 4), bv', bw', (ms' 0), (ms' 1), (ms' 2), (ms' 3), (ms' 4), (ms' 5), (ms' 6)) → wpX_takeRelease post ((nI nc), (nI nb), (nI dr), (nI lo), (nI tm), (nI ln), dn, re, (nI lg), (nI mc), ck, rt, lk, (le 0), (le 1), (le 2), (le 3), (le 4), (le 5), (le 6), (ne 0), (ne 1), (ne 2), (ne 3), (ne 4), pc, (pe 0), (pe 1), (pe 2), (pe 3), (pe 4), bv, bw, (ms 0), (ms 1), (ms 2), (ms 3), (ms 4), (ms 5), (ms 6)) (nI c) (nI b) n) ∧
    (∀ post : Int32 → SY → Prop, post r ((nI nc), (nI nb), (nI dr), (nI lo), (nI tm), (nI ln), (nI lg'), re, (nI mc'), (nI gc'), dn, ck, rt, ct, bv', bw', ha', mm', gg', pp', pc') → wpY_takeRelease post ((nI nc), (nI nb), (nI dr), (nI lo), (nI tm), (nI ln), (nI lg), re, (nI mc), (nI gc), dn, ck, rt, ct, bv, bw, ha, mm, gg, pp, pc) (nI c) (nI b) n) := by
  have hR0 := hR
  obtain ⟨⟨c1, c2, b1, b2, d3, l1, l2, t6, n2, g2⟩, hC, hL, hH, hM, hP, hG, hN⟩ := hR
  have hG0 := hG
  obtain ⟨⟨g0, g1⟩, hg⟩ := hG
  obtain ⟨k0, k1, k2, k3, k4⟩ := hg c b hc hb
  have hk : 0 ≤ (ck nc).toInt := (hC nc (by omega)).1
  have hgb : ∀ i, i < gc → 0 ≤ (gg (i * 6 + 2)).toInt := fun i hi => (g1 i hi).2.1
  have hp : c * 4 + b < 16 := by omega
  have vp : vp_in (nI (c * 4 + b)) 16 := vp_in_nI hp (by decide)
  have cp : (nI (c * 4 + b)).toNatClampNeg = c * 4 + b := nI_clamp (by omega)
  have vn : vp_in (nI nc) 5 := vp_in_nI (by omega) (by decide)
  have cn : (nI nc).toNatClampNeg = nc := nI_clamp (by omega)
  rcases zz_ni_spec gg (nI c) (nI b) gc with ⟨e, e1, _⟩ | ⟨m, hm, e, e1⟩
  · rw [e1] at k0
    refine ⟨1, lg, mc, gc, pn, le, ne, pe, ms, pc, bv, bw, ha, mm, gg, pp, hR0, fun post h => ?_, fun post h => ?_⟩
    · refine nm_r (zz_p c b) ⟨vp, ?_⟩
      rw [cp]; exact br_t k0 h
    · unfold wpY_takeRelease
      refine zz_newestY g0 ?_
      rw [e]; exact br_t (by decide) h
  · rw [e1] at k0
    have k0' : ne 0 (c * 4 + b) = gg (m * 6) := k0
    have nz : ¬ ne 0 (c * 4 + b) = 0 := by rw [k0']; exact zz_pos (g1 m hm).1
    have i6 : nI m * 6 = nI (m * 6) := pk_mul m 6
    by_cases q : ne 0 (c * 4 + b) = n
    · have Y0 : ∀ post : Int32 → SY → Prop, ((zz_dl (ck nc) (zz_mx gg (nI c) (nI b) 1 gc) = 0 → post 1 ((nI nc), (nI nb), (nI dr), (nI lo), (nI tm), (nI ln), (nI lg), re, (nI mc), (nI gc), dn, ck, rt, ct, bv, bw, ha, mm, gg, pp, pc)) ∧ (¬ zz_dl (ck nc) (zz_mx gg (nI c) (nI b) 1 gc) = 0 → ∃ n42, wY_takeRelease_42 post (nI c) (nI b) (nI nc) (nI nb) (nI dr) (nI lo) (nI tm) (nI ln) (nI lg) re (nI mc) (nI gc) dn n42 0 ck rt ct bv bw ha mm gg pp pc)) → wpY_takeRelease post ((nI nc), (nI nb), (nI dr), (nI lo), (nI tm), (nI ln), (nI lg), re, (nI mc), (nI gc), dn, ck, rt, ct, bv, bw, ha, mm, gg, pp, pc) (nI c) (nI b) n := fun post h => by
        unfold wpY_takeRelease
        refine zz_newestY g0 ?_
        rw [e]
        refine br_f (nI_pos (by omega)) ⟨zz_vi _ i6 (by omega) (by decide), ?_⟩
        rw [zz_cl i6 (by omega), ← k0']
        exact br_t q (zz_unitsY g0 c2 hk hgb h)
      have X0 : ∀ post : Int32 → SX → Prop, ((ck nc < ne 4 (c * 4 + b) → wpX_endGrants (fun u => wpX_serve (fun _ u => post 3 u) u (nI b)) ((nI nc), (nI nb), (nI dr), (nI lo), (nI tm), (nI ln), dn, re, (nI lg), (nI mc), ck, rt, lk, (le 0), (le 1), (le 2), (le 3), (le 4), (le 5), (le 6), (ne 0), (ne 1), (ne 2), (ne 3), (ne 4), pc, (pe 0), (pe 1), (pe 2), (pe 3), (pe 4), bv, bw, (ms 0), (ms 1), (ms 2), (ms 3), (ms 4), (ms 5), (ms 6)) (nI (c * 4 + b))) ∧ (¬ ck nc < ne 4 (c * 4 + b) → post 1 ((nI nc), (nI nb), (nI dr), (nI lo), (nI tm), (nI ln), dn, re, (nI lg), (nI mc), ck, rt, lk, (le 0), (le 1), (le 2), (le 3), (le 4), (le 5), (le 6), (ne 0), (ne 1), (ne 2), (ne 3), (ne 4), pc, (pe 0), (pe 1), (pe 2), (pe 3), (pe 4), bv, bw, (ms 0), (ms 1), (ms 2), (ms 3), (ms 4), (ms 5), (ms 6)))) → wpX_takeRelease post ((nI nc), (nI nb), (nI dr), (nI lo), (nI tm), (nI ln), dn, re, (nI lg), (nI mc), ck, rt, lk, (le 0), (le 1), (le 2), (le 3), (le 4), (le 5), (le 6), (ne 0), (ne 1), (ne 2), (ne 3), (ne 4), pc, (pe 0), (pe 1), (pe 2), (pe 3), (pe 4), bv, bw, (ms 0), (ms 1), (ms 2), (ms 3), (ms 4), (ms 5), (ms 6)) (nI c) (nI b) n := fun post h => by
        refine nm_r (zz_p c b) ⟨vp, ?_⟩
        rw [cp]
        refine br_f nz ⟨vp, br_t q ⟨vp, vn, ?_⟩⟩
        rw [cn]
        exact h
      by_cases w : ck nc < ne 4 (c * 4 + b)
      · have w' : ¬ zz_dl (ck nc) (zz_mx gg (nI c) (nI b) 1 gc) = 0 := by
          rw [zz_dl0 hk (zz_mx_b gc hgb), ← k4, zz_le]
          rw [zz_lt] at w
          omega
        have xg : ∃ g' : Nat → Int32, ∀ q, g' q = if q % 6 = 5 ∧ 0 ≤ q / 6 ∧ q / 6 < gc ∧ gg (q / 6 * 6 + 3) = nI c ∧ gg (q / 6 * 6 + 4) = nI b then 1 else gg q := ⟨_, fun _ => rfl⟩
        obtain ⟨g', eg⟩ := xg
        have hR' : zz_R nc nb dr lo tm ln lg mc gc pn ck rt lk le (zz_m5 (ne 0) (ne 1) (upd (ne 2) (c * 4 + b) 0) (upd (ne 3) (c * 4 + b) 0) (upd (ne 4) (c * 4 + b) 0)) pe ms pc ct ha mm g' pp := by
          refine ⟨⟨c1, c2, b1, b2, d3, l1, l2, t6, n2, g2⟩, hC, hL, hH, hM, hP, zz_RG_end hG0 hc hb c2 b2 rfl rfl rfl rfl rfl ?_ ?_ ?_, hN⟩
          · intro i hi
            rw [eg, if_neg (by omega)]
          · intro i hi j hj
            rw [eg, if_neg (by omega)]
          · intro i hi
            have v1 : (i * 6 + 5) / 6 = i := by omega
            constructor
            · intro z
              rw [eg, v1, if_pos ⟨by omega, by omega, hi, z.1, z.2⟩]
            · intro z
              rw [eg, v1, if_neg (fun y => z ⟨y.2.2.2.1, y.2.2.2.2⟩)]
        obtain ⟨r, lg2, mc2, gc2, pn2, le2, ne2, pe2, ms2, pc2, bv2, bw2, ha2, mm2, gg2, pp2, hR2, hX2, hY2⟩ := zz_serve (dn := dn) (re := re) (bv := bv) (bw := bw) hR' hb
        refine ⟨3, lg2, mc2, gc2, pn2, le2, ne2, pe2, ms2, pc2, bv2, bw2, ha2, mm2, gg2, pp2, hR2, fun post h => X0 post (br_t w (zz_endGX hp ?_)), fun post h => Y0 post (br_f w' ⟨gc + 1, zz_relY g0 gc 0 (by omega) gg g' eg ?_⟩)⟩
        · exact hX2 _ h
        · exact hY2 _ h
      · have w' : zz_dl (ck nc) (zz_mx gg (nI c) (nI b) 1 gc) = 0 := by
          rw [zz_dl0 hk (zz_mx_b gc hgb), ← k4, zz_le]
          rw [zz_lt] at w
          omega
        exact ⟨1, lg, mc, gc, pn, le, ne, pe, ms, pc, bv, bw, ha, mm, gg, pp, hR0, fun post h => X0 post (br_f w h), fun post h => Y0 post (br_t w' h)⟩
    · refine ⟨1, lg, mc, gc, pn, le, ne, pe, ms, pc, bv, bw, ha, mm, gg, pp, hR0, fun post h => ?_, fun post h => ?_⟩
      · refine nm_r (zz_p c b) ⟨vp, ?_⟩
        rw [cp]; exact br_f nz ⟨vp, br_f q h⟩
      · unfold wpY_takeRelease
        refine zz_newestY g0 ?_
        rw [e]
        refine br_f (nI_pos (by omega)) ⟨zz_vi _ i6 (by omega) (by decide), ?_⟩
        rw [zz_cl i6 (by omega), ← k0']
        exact br_f q h
theorem zz_t_store {s l v : Int32} (hR : zz_R nc nb dr lo tm ln lg mc gc pn ck rt lk le ne pe ms pc ct ha mm gg pp) (hb : b < nb) (hc : c < nc) : ∃ (r : Int32) (lg' mc' gc' : Nat) (pn' : Nat → Nat) (le' ne' pe' ms' : Nat → Nat → Int32) (pc' bv' bw' ha' mm' gg' pp' : Nat → Int32), zz_R nc nb dr lo tm ln lg' mc' gc' pn' ck rt lk le' ne' pe' ms' pc' ct ha' mm' gg' pp' ∧
    (∀ post : Int32 → SX → Prop, post r ((nI nc), (nI nb), (nI dr), (nI lo), (nI tm), (nI ln), dn, re, (nI lg'), (nI mc'), ck, rt, lk, (le' 0), (le' 1), (le' 2), (le' 3), (le' 4), (le' 5), (le' 6), (ne' 0), (ne' 1), (ne' 2), (ne' 3), (ne' 4), pc', (pe' 0), (pe' 1), (pe' 2), (pe' 3), (pe' 4), bv', bw', (ms' 0), (ms' 1), (ms' 2), (ms' 3), (ms' 4), (ms' 5), (ms' 6)) → wpX_takeStore post ((nI nc), (nI nb), (nI dr), (nI lo), (nI tm), (nI ln), dn, re, (nI lg), (nI mc), ck, rt, lk, (le 0), (le 1), (le 2), (le 3), (le 4), (le 5), (le 6), (ne 0), (ne 1), (ne 2), (ne 3), (ne 4), pc, (pe 0), (pe 1), (pe 2), (pe 3), (pe 4), bv, bw, (ms 0), (ms 1), (ms 2), (ms 3), (ms 4), (ms 5), (ms 6)) (nI c) (nI b) s l v) ∧
    (∀ post : Int32 → SY → Prop, post r ((nI nc), (nI nb), (nI dr), (nI lo), (nI tm), (nI ln), (nI lg'), re, (nI mc'), (nI gc'), dn, ck, rt, ct, bv', bw', ha', mm', gg', pp', pc') → wpY_takeStore post ((nI nc), (nI nb), (nI dr), (nI lo), (nI tm), (nI ln), (nI lg), re, (nI mc), (nI gc), dn, ck, rt, ct, bv, bw, ha, mm, gg, pp, pc) (nI c) (nI b) s l v) := by
  have hR0 := hR
  obtain ⟨⟨c1, c2, b1, b2, d3, l1, l2, t6, n2, g2⟩, hC, hL, hH, hM, hP, hG, hN⟩ := hR
  have hG0 := hG
  obtain ⟨⟨g0, g1⟩, hg⟩ := hG
  obtain ⟨k0, k1, k2, k3, k4⟩ := hg c b hc hb
  have hk : 0 ≤ (ck nc).toInt := (hC nc (by omega)).1
  have hp : c * 4 + b < 16 := by omega
  have vp : vp_in (nI (c * 4 + b)) 16 := vp_in_nI hp (by decide)
  have cp : (nI (c * 4 + b)).toNatClampNeg = c * 4 + b := nI_clamp (by omega)
  have vn : vp_in (nI nc) 5 := vp_in_nI (by omega) (by decide)
  have cn : (nI nc).toNatClampNeg = nc := nI_clamp (by omega)
  have vb : vp_in (nI b) 4 := vp_in_nI (by omega) (by decide)
  have cb : (nI b).toNatClampNeg = b := nI_clamp (by omega)
  rcases zz_ni_spec gg (nI c) (nI b) gc with ⟨e, e1, _⟩ | ⟨m, hm, e, e1⟩
  · rw [e1] at k0
    refine ⟨1, lg, mc, gc, pn, le, ne, pe, ms, pc, bv, bw, ha, mm, gg, pp, hR0, fun post h => ?_, fun post h => ?_⟩
    · refine nm_r (zz_p c b) ⟨vp, ?_⟩
      rw [cp]; exact br_t k0 h
    · unfold wpY_takeStore
      refine zz_newestY g0 ?_
      rw [e]; exact br_t (by decide) h
  · have k0' : ne 0 (c * 4 + b) = gg (m * 6) := k0.trans (e1 _)
    have k1' : ne 1 (c * 4 + b) = gg (m * 6 + 1) := k1.trans (e1 _)
    have k2' : ne 2 (c * 4 + b) = zz_hE gg m := k2.trans (e1 _)
    have nz : ¬ ne 0 (c * 4 + b) = 0 := by rw [k0']; exact zz_pos (g1 m hm).1
    have i6 : nI m * 6 = nI (m * 6) := pk_mul m 6
    have i7 : nI m * 6 + 1 = nI (m * 6 + 1) := zz_x6 m 1
    have nn : 0 ≤ (zz_hE gg m).toInt := by
      unfold zz_hE
      by_cases q : gg (m * 6 + 5) = 1
      · rw [if_pos q, zz_t0]; omega
      · rw [if_neg q]; exact (g1 m hm).2.1
    have lf0 : zz_lf gg (ck nc) m = 0 ↔ ¬ ck nc < ne 2 (c * 4 + b) := by
      rw [← zz_lf_hE hk, zz_dl0 hk nn, k2', zz_le, zz_lt]; omega
    -- X: the four tests, Y: the same
    have X0 : ∀ post : Int32 → SX → Prop, ((ne 0 (c * 4 + b) = l → (ne 1 (c * 4 + b) = 2 → (ck nc < ne 2 (c * 4 + b) → ((bw b < s → wpX_send (fun u => post 3 u) ((nI nc), (nI nb), (nI dr), (nI lo), (nI tm), (nI ln), dn, re, (nI lg), (nI mc), ck, rt, lk, (le 0), (le 1), (le 2), (le 3), (le 4), (le 5), (le 6), (ne 0), (ne 1), (ne 2), (ne 3), (ne 4), pc, (pe 0), (pe 1), (pe 2), (pe 3), (pe 4), (upd bv b v), (upd bw b s), (ms 0), (ms 1), (ms 2), (ms 3), (ms 4), (ms 5), (ms 6)) 6 (nI c) (nI b) s 0 0 0) ∧ (¬ bw b < s → post 1 ((nI nc), (nI nb), (nI dr), (nI lo), (nI tm), (nI ln), dn, re, (nI lg), (nI mc), ck, rt, lk, (le 0), (le 1), (le 2), (le 3), (le 4), (le 5), (le 6), (ne 0), (ne 1), (ne 2), (ne 3), (ne 4), pc, (pe 0), (pe 1), (pe 2), (pe 3), (pe 4), bv, bw, (ms 0), (ms 1), (ms 2), (ms 3), (ms 4), (ms 5), (ms 6))))) ∧ (¬ ck nc < ne 2 (c * 4 + b) → post 1 ((nI nc), (nI nb), (nI dr), (nI lo), (nI tm), (nI ln), dn, re, (nI lg), (nI mc), ck, rt, lk, (le 0), (le 1), (le 2), (le 3), (le 4), (le 5), (le 6), (ne 0), (ne 1), (ne 2), (ne 3), (ne 4), pc, (pe 0), (pe 1), (pe 2), (pe 3), (pe 4), bv, bw, (ms 0), (ms 1), (ms 2), (ms 3), (ms 4), (ms 5), (ms 6)))) ∧ (¬ ne 1 (c * 4 + b) = 2 → post 1 ((nI nc), (nI nb), (nI dr), (nI lo), (nI tm), (nI ln), dn, re, (nI lg), (nI mc), ck, rt, lk, (le 0), (le 1), (le 2), (le 3), (le 4), (le 5), (le 6), (ne 0), (ne 1), (ne 2), (ne 3), (ne 4), pc, (pe 0), (pe 1), (pe 2), (pe 3), (pe 4), bv, bw, (ms 0), (ms 1), (ms 2), (ms 3), (ms 4), (ms 5), (ms 6)))) ∧ (¬ ne 0 (c * 4 + b) = l → post 1 ((nI nc), (nI nb), (nI dr), (nI lo), (nI tm), (nI ln), dn, re, (nI lg), (nI mc), ck, rt, lk, (le 0), (le 1), (le 2), (le 3), (le 4), (le 5), (le 6), (ne 0), (ne 1), (ne 2), (ne 3), (ne 4), pc, (pe 0), (pe 1), (pe 2), (pe 3), (pe 4), bv, bw, (ms 0), (ms 1), (ms 2), (ms 3), (ms 4), (ms 5), (ms 6)))) → wpX_takeStore post ((nI nc), (nI nb), (nI dr), (nI lo), (nI tm), (nI ln), dn, re, (nI lg), (nI mc), ck, rt, lk, (le 0), (le 1), (le 2), (le 3), (le 4), (le 5), (le 6), (ne 0), (ne 1), (ne 2), (ne 3), (ne 4), pc, (pe 0), (pe 1), (pe 2), (pe 3), (pe 4), bv, bw, (ms 0), (ms 1), (ms 2), (ms 3), (ms 4), (ms 5), (ms 6)) (nI c) (nI b) s l v := fun post h => by
      refine nm_r (zz_p c b) ⟨vp, ?_⟩
      rw [cp]
      refine br_f nz ⟨vp, ⟨fun a1 => ⟨vp, ⟨fun a2 => ⟨vp, vn, ?_⟩, fun a2 => (h.1 a1).2 a2⟩⟩, h.2⟩⟩
      rw [cn, cb]
      refine ⟨fun a3 => ⟨vb, ⟨fun a4 => ⟨vb, nm_e ⟨vb, nm_e ?_⟩⟩, fun a4 => (((h.1 a1).1 a2).1 a3).2 a4⟩⟩, fun a3 => ((h.1 a1).1 a2).2 a3⟩
      exact (((h.1 a1).1 a2).1 a3).1 a4
    have Y0 : ∀ post : Int32 → SY → Prop, ((ne 0 (c * 4 + b) = l → (ne 1 (c * 4 + b) = 2 → (ck nc < ne 2 (c * 4 + b) → ((bw b < s → wpY_send (fun u => post 3 u) ((nI nc), (nI nb), (nI dr), (nI lo), (nI tm), (nI ln), (nI lg), re, (nI mc), (nI gc), dn, ck, rt, ct, (upd bv b v), (upd bw b s), ha, mm, gg, pp, pc) 6 (nI c) (nI b) s 0 0 0) ∧ (¬ bw b < s → post 1 ((nI nc), (nI nb), (nI dr), (nI lo), (nI tm), (nI ln), (nI lg), re, (nI mc), (nI gc), dn, ck, rt, ct, bv, bw, ha, mm, gg, pp, pc)))) ∧ (¬ ck nc < ne 2 (c * 4 + b) → post 1 ((nI nc), (nI nb), (nI dr), (nI lo), (nI tm), (nI ln), (nI lg), re, (nI mc), (nI gc), dn, ck, rt, ct, bv, bw, ha, mm, gg, pp, pc))) ∧ (¬ ne 1 (c * 4 + b) = 2 → post 1 ((nI nc), (nI nb), (nI dr), (nI lo), (nI tm), (nI ln), (nI lg), re, (nI mc), (nI gc), dn, ck, rt, ct, bv, bw, ha, mm, gg, pp, pc))) ∧ (¬ ne 0 (c * 4 + b) = l → post 1 ((nI nc), (nI nb), (nI dr), (nI lo), (nI tm), (nI ln), (nI lg), re, (nI mc), (nI gc), dn, ck, rt, ct, bv, bw, ha, mm, gg, pp, pc))) → wpY_takeStore post ((nI nc), (nI nb), (nI dr), (nI lo), (nI tm), (nI ln), (nI lg), re, (nI mc), (nI gc), dn, ck, rt, ct, bv, bw, ha, mm, gg, pp, pc) (nI c) (nI b) s l v := fun post h => by
      unfold wpY_takeStore
      refine zz_newestY g0 ?_
      rw [e]
      refine br_f (nI_pos (by omega)) ⟨zz_vi _ i6 (by omega) (by decide), ?_⟩
      rw [zz_cl i6 (by omega), ← k0']
      refine ⟨fun a1 => ⟨zz_vi _ i7 (by omega) (by decide), ?_⟩, h.2⟩
      rw [zz_cl i7 (by omega), ← k1']
      refine ⟨fun a2 => zz_leftY (by omega) c2 ⟨fun z => ((h.1 a1).1 a2).2 (lf0.mp z), fun z => ?_⟩, fun a2 => (h.1 a1).2 a2⟩
      have a3 : ck nc < ne 2 (c * 4 + b) := by
        by_cases y : ck nc < ne 2 (c * 4 + b)
        · exact y
        · exact (z (lf0.mpr y)).elim
      refine ⟨vb, ?_⟩
      rw [cb]
      refine ⟨fun a4 => ⟨vb, nm_e ⟨vb, nm_e ?_⟩⟩, fun a4 => (((h.1 a1).1 a2).1 a3).2 a4⟩
      exact (((h.1 a1).1 a2).1 a3).1 a4
    by_cases a1 : ne 0 (c * 4 + b) = l
    · by_cases a2 : ne 1 (c * 4 + b) = 2
      · by_cases a3 : ck nc < ne 2 (c * 4 + b)
        · by_cases a4 : bw b < s
          · have hok : zz_mok nc nb 6 (nI c) (nI b) s 0 0 := ⟨⟨c, hc, rfl⟩, ⟨b, hb, rfl⟩, fun z => absurd z (by decide), fun z => absurd z (by decide)⟩
            obtain ⟨mc', ms', mm', hM', hq', hX, hY⟩ := zz_send (l := 0) hM hL hc c2 hok
            rw [if_neg (by decide)] at hq'
            refine ⟨3, lg, mc', gc, pn, le, ne, pe, ms', pc, upd bv b v, upd bw b s, ha, mm', gg, pp, ⟨⟨c1, c2, b1, b2, d3, l1, l2, t6, n2, g2⟩, hC, hL, hH, hM', hP, hG0, ?_⟩, fun post h => X0 post (br_t a1 (br_t a2 (br_t a3 (br_t a4 (hX _ h))))), fun post h => Y0 post (br_t a1 (br_t a2 (br_t a3 (br_t a4 (hY _ h)))))⟩
            unfold zz_RN at hN ⊢; omega
          · exact ⟨1, lg, mc, gc, pn, le, ne, pe, ms, pc, bv, bw, ha, mm, gg, pp, hR0, fun post h => X0 post (br_t a1 (br_t a2 (br_t a3 (br_f a4 h)))), fun post h => Y0 post (br_t a1 (br_t a2 (br_t a3 (br_f a4 h))))⟩
        · exact ⟨1, lg, mc, gc, pn, le, ne, pe, ms, pc, bv, bw, ha, mm, gg, pp, hR0, fun post h => X0 post (br_t a1 (br_t a2 (br_f a3 h))), fun post h => Y0 post (br_t a1 (br_t a2 (br_f a3 h)))⟩
      · exact ⟨1, lg, mc, gc, pn, le, ne, pe, ms, pc, bv, bw, ha, mm, gg, pp, hR0, fun post h => X0 post (br_t a1 (br_f a2 h)), fun post h => Y0 post (br_t a1 (br_f a2 h))⟩
    · exact ⟨1, lg, mc, gc, pn, le, ne, pe, ms, pc, bv, bw, ha, mm, gg, pp, hR0, fun post h => X0 post (br_f a1 h), fun post h => Y0 post (br_f a1 h)⟩
theorem zz_t_grant (hR : zz_R nc nb dr lo tm ln lg mc gc pn ck rt lk le ne pe ms pc ct ha mm gg pp) (hb : b < nb) (hc : c < nc) (hn : 1 ≤ n.toInt) : ∃ (r : Int32) (lg' mc' gc' : Nat) (pn' : Nat → Nat) (le' ne' pe' ms' : Nat → Nat → Int32) (pc' bv' bw' ha' mm' gg' pp' : Nat → Int32), zz_R nc nb dr lo tm ln lg' mc' gc' pn' ck rt lk le' ne' pe' ms' pc' ct ha' mm' gg' pp' ∧
    (∀ post : Int32 → SX → Prop, post r ((nI nc), (nI nb), (nI dr), (nI lo), (nI tm), (nI ln), dn, re, (nI lg'), (nI mc'), ck, rt, lk, (le' 0), (le' 1), (le' 2), (le' 3), (le' 4), (le' 5), (le' 6), (ne' 0), (ne' 1), (ne' 2), (ne' 3), (ne' 4), pc', (pe' 0), (pe' 1), (pe' 2), (pe' 3), (pe' 4), bv', bw', (ms' 0), (ms' 1), (ms' 2), (ms' 3), (ms' 4), (ms' 5), (ms' 6)) → wpX_takeGrant post ((nI nc), (nI nb), (nI dr), (nI lo), (nI tm), (nI ln), dn, re, (nI lg), (nI mc), ck, rt, lk, (le 0), (le 1), (le 2), (le 3), (le 4), (le 5), (le 6), (ne 0), (ne 1), (ne 2), (ne 3), (ne 4), pc, (pe 0), (pe 1), (pe 2), (pe 3), (pe 4), bv, bw, (ms 0), (ms 1), (ms 2), (ms 3), (ms 4), (ms 5), (ms 6)) (nI c) (nI b) n) ∧
    (∀ post : Int32 → SY → Prop, post r ((nI nc), (nI nb), (nI dr), (nI lo), (nI tm), (nI ln), (nI lg'), re, (nI mc'), (nI gc'), dn, ck, rt, ct, bv', bw', ha', mm', gg', pp', pc') → wpY_takeAtClient post ((nI nc), (nI nb), (nI dr), (nI lo), (nI tm), (nI ln), (nI lg), re, (nI mc), (nI gc), dn, ck, rt, ct, bv, bw, ha, mm, gg, pp, pc) 2 (nI c) (nI b) n) := by
  have hR0 := hR
  obtain ⟨⟨c1, c2, b1, b2, d3, l1, l2, t6, n2, g2⟩, hC, hL, hH, hM, hP, hG, hN⟩ := hR
  have hp : c * 4 + b < 16 := by omega
  have hq : (c * 4 + b) % 4 < nb := by omega
  have vp : vp_in (nI (c * 4 + b)) 16 := vp_in_nI hp (by decide)
  have cp : (nI (c * 4 + b)).toNatClampNeg = c * 4 + b := nI_clamp (by omega)
  have vc : vp_in (nI c) 5 := vp_in_nI (by omega) (by decide)
  have cc : (nI c).toNatClampNeg = c := nI_clamp (by omega)
  have v0 : vp_in (nI ((c * 4 + b) * 7)) 112 := vp_in_nI (by omega) (by decide)
  have j0 : (nI ((c * 4 + b) * 7)).toNatClampNeg = (c * 4 + b) * 7 := nI_clamp (by omega)
  have i1 : nI ((c * 4 + b) * 7) + 1 = nI ((c * 4 + b) * 7 + 1) := nI_add _ 1
  have i2 : nI ((c * 4 + b) * 7) + 2 = nI ((c * 4 + b) * 7 + 2) := nI_add _ 2
  have i3 : nI ((c * 4 + b) * 7) + 3 = nI ((c * 4 + b) * 7 + 3) := nI_add _ 3
  have i4 : nI ((c * 4 + b) * 7) + 4 = nI ((c * 4 + b) * 7 + 4) := nI_add _ 4
  have i5 : nI ((c * 4 + b) * 7) + 5 = nI ((c * 4 + b) * 7 + 5) := nI_add _ 5
  have i6 : nI ((c * 4 + b) * 7) + 6 = nI ((c * 4 + b) * 7 + 6) := nI_add _ 6
  have v4 : vp_in (nI ((c * 4 + b) * 7) + 4) 112 := zz_vi _ i4 (by omega) (by decide)
  have w := hH (c * 4 + b) hp hq
  have w4 : le 4 (c * 4 + b) = ha ((c * 4 + b) * 7 + 4) := w.2.2.1
  by_cases q : le 4 (c * 4 + b) = n
  · have nz : ¬ le 4 (c * 4 + b) = 0 := by rw [q]; exact zz_pos hn
    obtain ⟨u5, u6, _⟩ := w.2.2.2 nz
    have u5 : le 5 (c * 4 + b) = ha ((c * 4 + b) * 7 + 5) := u5
    have u6 : le 6 (c * 4 + b) = ha ((c * 4 + b) * 7 + 6) := u6
    by_cases k : ck c < le 6 (c * 4 + b)
    · refine ⟨3, lg, mc, gc, pn, zz_m7 (upd (le 0) (c * 4 + b) (le 5 (c * 4 + b))) (upd (le 1) (c * 4 + b) n) (upd (le 2) (c * 4 + b) (le 6 (c * 4 + b))) (upd (le 3) (c * 4 + b) 0) (upd (le 4) (c * 4 + b) 0) (upd (le 5) (c * 4 + b) 0) (upd (le 6) (c * 4 + b) 0), ne, pe, ms, pc, bv, bw, upd (upd (upd (upd (upd ha ((c * 4 + b) * 7 + 4) 0) ((c * 4 + b) * 7) (le 5 (c * 4 + b))) ((c * 4 + b) * 7 + 1) n) ((c * 4 + b) * 7 + 2) (le 6 (c * 4 + b))) ((c * 4 + b) * 7 + 3) 0, mm, gg, pp, ⟨⟨c1, c2, b1, b2, d3, l1, l2, t6, n2, g2⟩, hC, hL, ?_, hM, hP, hG, hN⟩, fun post h => ?_, fun post h => ?_⟩
      · refine zz_RH_upd (p := c * 4 + b) hH (fun q hq => ⟨pk_un hq, pk_un hq, pk_un hq, pk_un hq, pk_un hq, pk_un hq, pk_un hq⟩) (fun j hj => ?_) ?_
        · rw [pk_un (by omega), pk_un (by omega), pk_un (by omega), pk_un (by omega), pk_un (by omega)]
        · refine ⟨pk_us.trans ?_, fun _ => ⟨pk_us.trans ?_, pk_us.trans ?_, pk_us.trans ?_⟩, pk_us.trans ?_, fun z => absurd pk_us z⟩
          · show _ = upd (upd (upd (upd (upd ha ((c * 4 + b) * 7 + 4) 0) ((c * 4 + b) * 7) (le 5 (c * 4 + b))) ((c * 4 + b) * 7 + 1) n) ((c * 4 + b) * 7 + 2) (le 6 (c * 4 + b))) ((c * 4 + b) * 7 + 3) 0 ((c * 4 + b) * 7)
            rw [pk_un (by omega), pk_un (by omega), pk_un (by omega), pk_us]
          · show _ = upd (upd (upd (upd (upd ha ((c * 4 + b) * 7 + 4) 0) ((c * 4 + b) * 7) (le 5 (c * 4 + b))) ((c * 4 + b) * 7 + 1) n) ((c * 4 + b) * 7 + 2) (le 6 (c * 4 + b))) ((c * 4 + b) * 7 + 3) 0 ((c * 4 + b) * 7 + 1)
            rw [pk_un (by omega), pk_un (by omega), pk_us]
          · show _ = upd (upd (upd (upd (upd ha ((c * 4 + b) * 7 + 4) 0) ((c * 4 + b) * 7) (le 5 (c * 4 + b))) ((c * 4 + b) * 7 + 1) n) ((c * 4 + b) * 7 + 2) (le 6 (c * 4 + b))) ((c * 4 + b) * 7 + 3) 0 ((c * 4 + b) * 7 + 2)
            rw [pk_un (by omega), pk_us]
          · show _ = upd (upd (upd (upd (upd ha ((c * 4 + b) * 7 + 4) 0) ((c * 4 + b) * 7) (le 5 (c * 4 + b))) ((c * 4 + b) * 7 + 1) n) ((c * 4 + b) * 7 + 2) (le 6 (c * 4 + b))) ((c * 4 + b) * 7 + 3) 0 ((c * 4 + b) * 7 + 3)
            rw [pk_us]
          · show _ = upd (upd (upd (upd (upd ha ((c * 4 + b) * 7 + 4) 0) ((c * 4 + b) * 7) (le 5 (c * 4 + b))) ((c * 4 + b) * 7 + 1) n) ((c * 4 + b) * 7 + 2) (le 6 (c * 4 + b))) ((c * 4 + b) * 7 + 3) 0 ((c * 4 + b) * 7 + 4)
            rw [pk_un (by omega), pk_un (by omega), pk_un (by omega), pk_un (by omega), pk_us]
      · refine nm_r (zz_p c b) ⟨vp, ?_⟩
        rw [cp]
        refine br_f nz ⟨vp, br_t q ⟨vp, nm_e ⟨vp, nm_e (zz_dropAX hp ⟨vc, ?_⟩)⟩⟩⟩
        rw [cc]
        exact br_t k ⟨vp, nm_e ⟨vp, nm_e ⟨vp, nm_e ⟨vp, nm_e h⟩⟩⟩⟩
      · unfold wpY_takeAtClient
        refine zz_cellY (br_t rfl ⟨v4, ?_⟩)
        rw [zz_cl i4 (by omega), ← w4]
        refine br_t q ⟨v4, nm_e ⟨vc, zz_vi _ i6 (by omega) (by decide), ?_⟩⟩
        rw [cc, zz_cl i6 (by omega), zz_cl i5 (by omega), j0, pk_un (j := (c * 4 + b) * 7 + 6) (by omega), pk_un (j := (c * 4 + b) * 7 + 5) (by omega), ← u5, ← u6]
        refine br_t k ⟨zz_vi _ i5 (by omega) (by decide), v0, nm_e (zz_st _ i1 (by omega) (by decide) ⟨zz_vi _ i6 (by omega) (by decide), ?_⟩)⟩
        rw [pk_un (j := (c * 4 + b) * 7 + 6) (by omega), pk_un (j := (c * 4 + b) * 7 + 6) (by omega), pk_un (j := (c * 4 + b) * 7 + 6) (by omega), ← u6]
        exact zz_st _ i2 (by omega) (by decide) (zz_st _ i3 (by omega) (by decide) h)
    · refine ⟨2, lg, mc, gc, pn, zz_m7 (le 0) (le 1) (le 2) (le 3) (upd (le 4) (c * 4 + b) 0) (upd (le 5) (c * 4 + b) 0) (upd (le 6) (c * 4 + b) 0), ne, pe, ms, pc, bv, bw, upd ha ((c * 4 + b) * 7 + 4) 0, mm, gg, pp, ⟨⟨c1, c2, b1, b2, d3, l1, l2, t6, n2, g2⟩, hC, hL, ?_, hM, hP, hG, hN⟩, fun post h => ?_, fun post h => ?_⟩
      · refine zz_RH_upd (p := c * 4 + b) hH (fun q hq => ⟨rfl, rfl, rfl, rfl, pk_un hq, pk_un hq, pk_un hq⟩) (fun j hj => pk_un (by omega)) ?_
        have lo : ∀ j, j ≠ 4 → (upd ha ((c * 4 + b) * 7 + 4) 0) ((c * 4 + b) * 7 + j) = ha ((c * 4 + b) * 7 + j) := fun j hj => pk_un (by omega)
        have f4 : (upd ha ((c * 4 + b) * 7 + 4) 0) ((c * 4 + b) * 7 + 4) = 0 := pk_us
        exact ⟨w.1.trans (lo 0 (by omega)).symm, fun z => ⟨(w.2.1 z).1.trans (lo 1 (by omega)).symm, (w.2.1 z).2.1.trans (lo 2 (by omega)).symm, (w.2.1 z).2.2.trans (lo 3 (by omega)).symm⟩, pk_us.trans f4.symm, fun z => absurd pk_us z⟩
      · refine nm_r (zz_p c b) ⟨vp, ?_⟩
        rw [cp]
        refine br_f nz ⟨vp, br_t q ⟨vp, nm_e ⟨vp, nm_e (zz_dropAX hp ⟨vc, ?_⟩)⟩⟩⟩
        rw [cc]
        exact br_f k h
      · unfold wpY_takeAtClient
        refine zz_cellY (br_t rfl ⟨v4, ?_⟩)
        rw [zz_cl i4 (by omega), ← w4]
        refine br_t q ⟨v4, nm_e ⟨vc, zz_vi _ i6 (by omega) (by decide), ?_⟩⟩
        rw [cc, zz_cl i6 (by omega), pk_un (j := (c * 4 + b) * 7 + 6) (by omega), ← u6]
        exact br_f k h
  · refine ⟨1, lg, mc, gc, pn, le, ne, pe, ms, pc, bv, bw, ha, mm, gg, pp, hR0, fun post h => ?_, fun post h => ?_⟩
    · refine nm_r (zz_p c b) ⟨vp, ?_⟩
      rw [cp]
      exact br_c (fun _ => h) (fun _ => ⟨vp, br_f q h⟩)
    · unfold wpY_takeAtClient
      refine zz_cellY (br_t rfl ⟨v4, ?_⟩)
      rw [zz_cl i4 (by omega), ← w4]
      exact br_f q h
theorem zz_t_recall (hR : zz_R nc nb dr lo tm ln lg mc gc pn ck rt lk le ne pe ms pc ct ha mm gg pp) (hb : b < nb) (hc : c < nc) : ∃ (r : Int32) (lg' mc' gc' : Nat) (pn' : Nat → Nat) (le' ne' pe' ms' : Nat → Nat → Int32) (pc' bv' bw' ha' mm' gg' pp' : Nat → Int32), zz_R nc nb dr lo tm ln lg' mc' gc' pn' ck rt lk le' ne' pe' ms' pc' ct ha' mm' gg' pp' ∧
    (∀ post : Int32 → SX → Prop, post r ((nI nc), (nI nb), (nI dr), (nI lo), (nI tm), (nI ln), dn, re, (nI lg'), (nI mc'), ck, rt, lk, (le' 0), (le' 1), (le' 2), (le' 3), (le' 4), (le' 5), (le' 6), (ne' 0), (ne' 1), (ne' 2), (ne' 3), (ne' 4), pc', (pe' 0), (pe' 1), (pe' 2), (pe' 3), (pe' 4), bv', bw', (ms' 0), (ms' 1), (ms' 2), (ms' 3), (ms' 4), (ms' 5), (ms' 6)) → wpX_takeRecall post ((nI nc), (nI nb), (nI dr), (nI lo), (nI tm), (nI ln), dn, re, (nI lg), (nI mc), ck, rt, lk, (le 0), (le 1), (le 2), (le 3), (le 4), (le 5), (le 6), (ne 0), (ne 1), (ne 2), (ne 3), (ne 4), pc, (pe 0), (pe 1), (pe 2), (pe 3), (pe 4), bv, bw, (ms 0), (ms 1), (ms 2), (ms 3), (ms 4), (ms 5), (ms 6)) (nI c) (nI b) n) ∧
    (∀ post : Int32 → SY → Prop, post r ((nI nc), (nI nb), (nI dr), (nI lo), (nI tm), (nI ln), (nI lg'), re, (nI mc'), (nI gc'), dn, ck, rt, ct, bv', bw', ha', mm', gg', pp', pc') → wpY_takeAtClient post ((nI nc), (nI nb), (nI dr), (nI lo), (nI tm), (nI ln), (nI lg), re, (nI mc), (nI gc), dn, ck, rt, ct, bv, bw, ha, mm, gg, pp, pc) 3 (nI c) (nI b) n) := by
  obtain ⟨⟨c1, c2, b1, b2, d3, l1, l2, t6, n2, g2⟩, hC, hL, hH, hM, hP, hG, hN⟩ := hR
  have hp : c * 4 + b < 16 := by omega
  have hq : (c * 4 + b) % 4 < nb := by omega
  have vp : vp_in (nI (c * 4 + b)) 16 := vp_in_nI hp (by decide)
  have cp : (nI (c * 4 + b)).toNatClampNeg = c * 4 + b := nI_clamp (by omega)
  have v0 : vp_in (nI ((c * 4 + b) * 7)) 112 := vp_in_nI (by omega) (by decide)
  have i1 : nI ((c * 4 + b) * 7) + 1 = nI ((c * 4 + b) * 7 + 1) := nI_add _ 1
  have i4 : nI ((c * 4 + b) * 7) + 4 = nI ((c * 4 + b) * 7 + 4) := nI_add _ 4
  have v1 : vp_in (nI ((c * 4 + b) * 7) + 1) 112 := zz_vi _ i1 (by omega) (by decide)
  have v4 : vp_in (nI ((c * 4 + b) * 7) + 4) 112 := zz_vi _ i4 (by omega) (by decide)
  have w := hH (c * 4 + b) hp hq
  have w0 : le 0 (c * 4 + b) = ha ((c * 4 + b) * 7) := w.1
  -- the lease
  have X1 : ∃ le1, ((n < le 1 (c * 4 + b) ∧ le1 = le) ∨ (¬ n < le 1 (c * 4 + b) ∧ le1 = zz_m7 (upd (le 0) (c * 4 + b) 0) (upd (le 1) (c * 4 + b) 0) (upd (le 2) (c * 4 + b) 0) (upd (le 3) (c * 4 + b) 0) (le 4) (le 5) (le 6))) := by
    by_cases q : n < le 1 (c * 4 + b)
    · exact ⟨_, Or.inl ⟨q, rfl⟩⟩
    · exact ⟨_, Or.inr ⟨q, rfl⟩⟩
  have Y1 : ∃ ha1, ((n < ha ((c * 4 + b) * 7 + 1) ∧ ha1 = ha) ∨ (¬ n < ha ((c * 4 + b) * 7 + 1) ∧ ha1 = upd ha ((c * 4 + b) * 7) 0)) := by
    by_cases q : n < ha ((c * 4 + b) * 7 + 1)
    · exact ⟨_, Or.inl ⟨q, rfl⟩⟩
    · exact ⟨_, Or.inr ⟨q, rfl⟩⟩
  obtain ⟨le1, hl1⟩ := X1
  obtain ⟨ha1, hh1⟩ := Y1
  have hlow : ∀ j, j ≠ 0 → (upd ha ((c * 4 + b) * 7) 0) ((c * 4 + b) * 7 + j) = ha ((c * 4 + b) * 7 + j) := fun j hj => pk_un (by omega)
  have f0 : (upd ha ((c * 4 + b) * 7) 0) ((c * 4 + b) * 7 + 0) = 0 := pk_us
  have aw : ¬ le 4 (c * 4 + b) = 0 → le 5 (c * 4 + b) = upd ha ((c * 4 + b) * 7) 0 ((c * 4 + b) * 7 + 5) ∧ le 6 (c * 4 + b) = upd ha ((c * 4 + b) * 7) 0 ((c * 4 + b) * 7 + 6) ∧ 0 ≤ (le 6 (c * 4 + b)).toInt ∧ (le 6 (c * 4 + b)).toInt ≤ 1000000 := fun z => ⟨(w.2.2.2 z).1.trans (hlow 5 (by omega)).symm, (w.2.2.2 z).2.1.trans (hlow 6 (by omega)).symm, (w.2.2.2 z).2.2⟩
  have hH1 : zz_RH nb le1 ha1 := by
    rcases hl1 with ⟨q, rfl⟩ | ⟨q, rfl⟩
    · rcases hh1 with ⟨q', rfl⟩ | ⟨q', rfl⟩
      · exact hH
      · have m0 : le1 0 (c * 4 + b) = 0 := by
          by_cases z : le1 0 (c * 4 + b) = 0
          · exact z
          · have u : le1 1 (c * 4 + b) = ha ((c * 4 + b) * 7 + 1) := (w.2.1 z).1
            rw [u] at q
            exact (q' q).elim
        exact zz_RH_upd (p := c * 4 + b) hH (fun q hq => ⟨rfl, rfl, rfl, rfl, rfl, rfl, rfl⟩) (fun j hj => pk_un (by omega)) ⟨m0.trans f0.symm, fun z => (z m0).elim, w.2.2.1.trans (hlow 4 (by omega)).symm, aw⟩
    · rcases hh1 with ⟨q', rfl⟩ | ⟨q', rfl⟩
      · have m0 : ha1 ((c * 4 + b) * 7) = 0 := by
          by_cases z : le 0 (c * 4 + b) = 0
          · exact w0.symm.trans z
          · have u : le 1 (c * 4 + b) = ha1 ((c * 4 + b) * 7 + 1) := (w.2.1 z).1
            rw [u] at q
            exact (q q').elim
        exact zz_RH_upd (p := c * 4 + b) hH (fun q hq => ⟨pk_un hq, pk_un hq, pk_un hq, pk_un hq, rfl, rfl, rfl⟩) (fun j hj => rfl) ⟨pk_us.trans m0.symm, fun z => absurd pk_us z, w.2.2.1, w.2.2.2⟩
      · exact zz_RH_upd (p := c * 4 + b) hH (fun q hq => ⟨pk_un hq, pk_un hq, pk_un hq, pk_un hq, rfl, rfl, rfl⟩) (fun j hj => pk_un (by omega)) ⟨pk_us.trans f0.symm, fun z => absurd pk_us z, w.2.2.1.trans (hlow 4 (by omega)).symm, aw⟩
  have KX1 : ∀ post : Int32 → SX → Prop, wX_takeRecall_24 post (nI c) (nI b) n (nI (c * 4 + b)) (nI nc) (nI nb) (nI dr) (nI lo) (nI tm) (nI ln) dn re (nI lg) (nI mc) ck rt lk (le1 0) (le1 1) (le1 2) (le1 3) (le1 4) (le1 5) (le1 6) (ne 0) (ne 1) (ne 2) (ne 3) (ne 4) pc (pe 0) (pe 1) (pe 2) (pe 3) (pe 4) bv bw (ms 0) (ms 1) (ms 2) (ms 3) (ms 4) (ms 5) (ms 6) → wpX_takeRecall post ((nI nc), (nI nb), (nI dr), (nI lo), (nI tm), (nI ln), dn, re, (nI lg), (nI mc), ck, rt, lk, (le 0), (le 1), (le 2), (le 3), (le 4), (le 5), (le 6), (ne 0), (ne 1), (ne 2), (ne 3), (ne 4), pc, (pe 0), (pe 1), (pe 2), (pe 3), (pe 4), bv, bw, (ms 0), (ms 1), (ms 2), (ms 3), (ms 4), (ms 5), (ms 6)) (nI c) (nI b) n := fun post h => by
    refine nm_r (zz_p c b) ⟨vp, ?_⟩
    rw [cp]
    rcases hl1 with ⟨q, rfl⟩ | ⟨q, rfl⟩
    · exact br_t q h
    · exact br_f q (zz_dropLX hp h)
  have KY1 : ∀ post : Int32 → SY → Prop, wY_takeAtClient_146 post (nI c) (nI b) n (nI ((c * 4 + b) * 7)) (nI nc) (nI nb) (nI dr) (nI lo) (nI tm) (nI ln) (nI lg) re (nI mc) (nI gc) dn ck rt ct bv bw ha1 mm gg pp pc → wpY_takeAtClient post ((nI nc), (nI nb), (nI dr), (nI lo), (nI tm), (nI ln), (nI lg), re, (nI mc), (nI gc), dn, ck, rt, ct, bv, bw, ha, mm, gg, pp, pc) 3 (nI c) (nI b) n := fun post h => by
    unfold wpY_takeAtClient
    refine zz_cellY (br_f (by decide) (br_t rfl ⟨v1, ?_⟩))
    rw [zz_cl i1 (by omega)]
    rcases hh1 with ⟨q, rfl⟩ | ⟨q, rfl⟩
    · exact br_t q h
    · exact br_f q (zz_st _ rfl (by omega) (by decide) h)
  -- the awaited request
  have w' := hH1 (c * 4 + b) hp hq
  have w4 : le1 4 (c * 4 + b) = ha1 ((c * 4 + b) * 7 + 4) := w'.2.2.1
  have hok : zz_mok nc nb 4 (nI c) (nI b) n 0 0 := ⟨⟨c, hc, rfl⟩, ⟨b, hb, rfl⟩, fun z => absurd z (by decide), fun z => absurd z (by decide)⟩
  obtain ⟨mc', ms', mm', hM', hq', hX, hY⟩ := zz_send (l := 0) hM hL hc c2 hok
  rw [if_neg (by decide)] at hq'
  have hN' : zz_RN ln mc' gc pn ms' := by unfold zz_RN at hN ⊢; omega
  by_cases q : n < le1 4 (c * 4 + b)
  · refine ⟨3, lg, mc', gc, pn, le1, ne, pe, ms', pc, bv, bw, ha1, mm', gg, pp, ⟨⟨c1, c2, b1, b2, d3, l1, l2, t6, n2, g2⟩, hC, hL, hH1, hM', hP, hG, hN'⟩, fun post h => KX1 post ⟨vp, ?_⟩, fun post h => KY1 post ⟨v4, ?_⟩⟩
    · rw [cp]
      refine br_t q ?_
      unfold wX_takeRecall_41
      exact hX _ h
    · rw [zz_cl i4 (by omega), ← w4]
      refine br_t q ?_
      unfold wY_takeAtClient_170
      exact hY _ h
  · refine ⟨3, lg, mc', gc, pn, zz_m7 (le1 0) (le1 1) (le1 2) (le1 3) (upd (le1 4) (c * 4 + b) 0) (upd (le1 5) (c * 4 + b) 0) (upd (le1 6) (c * 4 + b) 0), ne, pe, ms', pc, bv, bw, upd ha1 ((c * 4 + b) * 7 + 4) 0, mm', gg, pp, ⟨⟨c1, c2, b1, b2, d3, l1, l2, t6, n2, g2⟩, hC, hL, ?_, hM', hP, hG, hN'⟩, fun post h => KX1 post ⟨vp, ?_⟩, fun post h => KY1 post ⟨v4, ?_⟩⟩
    · refine zz_RH_upd (p := c * 4 + b) hH1 (fun q hq => ⟨rfl, rfl, rfl, rfl, pk_un hq, pk_un hq, pk_un hq⟩) (fun j hj => pk_un (by omega)) ?_
      have lo : ∀ j, j ≠ 4 → (upd ha1 ((c * 4 + b) * 7 + 4) 0) ((c * 4 + b) * 7 + j) = ha1 ((c * 4 + b) * 7 + j) := fun j hj => pk_un (by omega)
      have f4 : (upd ha1 ((c * 4 + b) * 7 + 4) 0) ((c * 4 + b) * 7 + 4) = 0 := pk_us
      exact ⟨w'.1.trans (lo 0 (by omega)).symm, fun z => ⟨(w'.2.1 z).1.trans (lo 1 (by omega)).symm, (w'.2.1 z).2.1.trans (lo 2 (by omega)).symm, (w'.2.1 z).2.2.trans (lo 3 (by omega)).symm⟩, pk_us.trans f4.symm, fun z => absurd pk_us z⟩
    · rw [cp]
      refine br_f q (zz_dropAX hp ?_)
      exact hX _ h
    · rw [zz_cl i4 (by omega), ← w4]
      refine br_f q ⟨v4, nm_e ?_⟩
      exact hY _ h
theorem zz_t_ack {kd : Int32} (hR : zz_R nc nb dr lo tm ln lg mc gc pn ck rt lk le ne pe ms pc ct ha mm gg pp) (hb : b < nb) (hc : c < nc) (hk2 : ¬ kd = 2) (hk3 : ¬ kd = 3) : ∃ (r : Int32) (lg' mc' gc' : Nat) (pn' : Nat → Nat) (le' ne' pe' ms' : Nat → Nat → Int32) (pc' bv' bw' ha' mm' gg' pp' : Nat → Int32), zz_R nc nb dr lo tm ln lg' mc' gc' pn' ck rt lk le' ne' pe' ms' pc' ct ha' mm' gg' pp' ∧
    (∀ post : Int32 → SX → Prop, post r ((nI nc), (nI nb), (nI dr), (nI lo), (nI tm), (nI ln), dn, re, (nI lg'), (nI mc'), ck, rt, lk, (le' 0), (le' 1), (le' 2), (le' 3), (le' 4), (le' 5), (le' 6), (ne' 0), (ne' 1), (ne' 2), (ne' 3), (ne' 4), pc', (pe' 0), (pe' 1), (pe' 2), (pe' 3), (pe' 4), bv', bw', (ms' 0), (ms' 1), (ms' 2), (ms' 3), (ms' 4), (ms' 5), (ms' 6)) → wpX_takeAck post ((nI nc), (nI nb), (nI dr), (nI lo), (nI tm), (nI ln), dn, re, (nI lg), (nI mc), ck, rt, lk, (le 0), (le 1), (le 2), (le 3), (le 4), (le 5), (le 6), (ne 0), (ne 1), (ne 2), (ne 3), (ne 4), pc, (pe 0), (pe 1), (pe 2), (pe 3), (pe 4), bv, bw, (ms 0), (ms 1), (ms 2), (ms 3), (ms 4), (ms 5), (ms 6)) (nI c) (nI b) n) ∧
    (∀ post : Int32 → SY → Prop, post r ((nI nc), (nI nb), (nI dr), (nI lo), (nI tm), (nI ln), (nI lg'), re, (nI mc'), (nI gc'), dn, ck, rt, ct, bv', bw', ha', mm', gg', pp', pc') → wpY_takeAtClient post ((nI nc), (nI nb), (nI dr), (nI lo), (nI tm), (nI ln), (nI lg), re, (nI mc), (nI gc), dn, ck, rt, ct, bv, bw, ha, mm, gg, pp, pc) kd (nI c) (nI b) n) := by
  have hR0 := hR
  obtain ⟨⟨c1, c2, b1, b2, d3, l1, l2, t6, n2, g2⟩, hC, hL, hH, hM, hP, hG, hN⟩ := hR
  have hp : c * 4 + b < 16 := by omega
  have hq : (c * 4 + b) % 4 < nb := by omega
  have vp : vp_in (nI (c * 4 + b)) 16 := vp_in_nI hp (by decide)
  have cp : (nI (c * 4 + b)).toNatClampNeg = c * 4 + b := nI_clamp (by omega)
  have i3 : nI ((c * 4 + b) * 7) + 3 = nI ((c * 4 + b) * 7 + 3) := nI_add _ 3
  have v3 : vp_in (nI ((c * 4 + b) * 7) + 3) 112 := zz_vi _ i3 (by omega) (by decide)
  have w := hH (c * 4 + b) hp hq
  have hE := zz_hd_eq hH hp hq (ck c)
  rcases zz_hd01 (le 0 (c * 4 + b)) (le 2 (c * 4 + b)) (ck c) with e | ⟨e, e0⟩
  · rw [e] at hE
    refine ⟨1, lg, mc, gc, pn, le, ne, pe, ms, pc, bv, bw, ha, mm, gg, pp, hR0, fun post h => ?_, fun post h => ?_⟩
    · refine nm_r (zz_p c b) (zz_holdsX (by omega) (by omega) ?_)
      rw [e]; exact br_t rfl h
    · unfold wpY_takeAtClient
      refine zz_cellY (br_f hk2 (br_f hk3 (zz_holdsY (by omega) (by omega) ?_)))
      rw [hE]; exact br_t rfl h
  · rw [e] at hE
    have u3 : le 3 (c * 4 + b) = ha ((c * 4 + b) * 7 + 3) := (w.2.1 e0).2.2
    by_cases q : le 3 (c * 4 + b) = n
    · refine ⟨3, lg, mc, gc, pn, zz_m7 (le 0) (le 1) (le 2) (upd (le 3) (c * 4 + b) 0) (le 4) (le 5) (le 6), ne, pe, ms, pc, bv, bw, upd ha ((c * 4 + b) * 7 + 3) 0, mm, gg, pp, ⟨⟨c1, c2, b1, b2, d3, l1, l2, t6, n2, g2⟩, hC, hL, ?_, hM, hP, hG, hN⟩, fun post h => ?_, fun post h => ?_⟩
      · refine zz_RH_upd (p := c * 4 + b) hH (fun q hq => ⟨rfl, rfl, rfl, pk_un hq, rfl, rfl, rfl⟩) (fun j hj => pk_un (by omega)) ?_
        have lo : ∀ j, j ≠ 3 → (upd ha ((c * 4 + b) * 7 + 3) 0) ((c * 4 + b) * 7 + j) = ha ((c * 4 + b) * 7 + j) := fun j hj => pk_un (by omega)
        have f3 : (upd ha ((c * 4 + b) * 7 + 3) 0) ((c * 4 + b) * 7 + 3) = 0 := pk_us
        exact ⟨w.1.trans (lo 0 (by omega)).symm, fun z => ⟨(w.2.1 z).1.trans (lo 1 (by omega)).symm, (w.2.1 z).2.1.trans (lo 2 (by omega)).symm, pk_us.trans f3.symm⟩, w.2.2.1.trans (lo 4 (by omega)).symm, fun z => ⟨(w.2.2.2 z).1.trans (lo 5 (by omega)).symm, (w.2.2.2 z).2.1.trans (lo 6 (by omega)).symm, (w.2.2.2 z).2.2⟩⟩
      · refine nm_r (zz_p c b) (zz_holdsX (by omega) (by omega) ?_)
        rw [e]
        refine br_f zz_01 ⟨vp, ?_⟩
        rw [cp]
        exact br_t q ⟨vp, nm_e h⟩
      · unfold wpY_takeAtClient
        refine zz_cellY (br_f hk2 (br_f hk3 (zz_holdsY (by omega) (by omega) ?_)))
        rw [hE]
        refine br_f zz_01 ⟨v3, ?_⟩
        rw [zz_cl i3 (by omega), ← u3]
        exact br_t q ⟨v3, nm_e h⟩
    · refine ⟨1, lg, mc, gc, pn, le, ne, pe, ms, pc, bv, bw, ha, mm, gg, pp, hR0, fun post h => ?_, fun post h => ?_⟩
      · refine nm_r (zz_p c b) (zz_holdsX (by omega) (by omega) ?_)
        rw [e]
        refine br_f zz_01 ⟨vp, ?_⟩
        rw [cp]
        exact br_f q h
      · unfold wpY_takeAtClient
        refine zz_cellY (br_f hk2 (br_f hk3 (zz_holdsY (by omega) (by omega) ?_)))
        rw [hE]
        refine br_f zz_01 ⟨v3, ?_⟩
        rw [zz_cl i3 (by omega), ← u3]
        exact br_f q h
end
end
section
/-! deliver -/
section
variable {nc nb dr lo tm ln lg mc gc : Nat} {pn : Nat → Nat} {dn re : Int32} {ck rt lk : Nat → Int32} {le ne pe ms : Nat → Nat → Int32} {pc bv bw ct ha mm gg pp : Nat → Int32}
variable {b c i : Nat} {kd n l md la : Int32}
theorem zz_disp (hR : zz_R nc nb dr lo tm ln lg mc gc pn ck rt lk le ne pe ms pc ct ha mm gg pp) (hok : zz_mok nc nb kd (nI c) (nI b) n md la) (hb : b < nb) (hc : c < nc) (hN1 : kd = 1 → gc + (pn 0 + pn 1 + pn 2 + pn 3) + zz_rq (ms 0) mc + 1 ≤ ln) : ∃ (r : Int32) (lg' mc' gc' : Nat) (pn' : Nat → Nat) (le' ne' pe' ms' : Nat → Nat → Int32) (pc' bv' bw' ha' mm' gg' pp' : Nat → Int32), zz_R nc nb dr lo tm ln lg' mc' gc' pn' ck rt lk le' ne' pe' ms' pc' ct ha' mm' gg' pp' ∧
    (∀ post : Int32 → SX → Prop, post r ((nI nc), (nI nb), (nI dr), (nI lo), (nI tm), (nI ln), dn, re, (nI lg'), (nI mc'), ck, rt, lk, (le' 0), (le' 1), (le' 2), (le' 3), (le' 4), (le' 5), (le' 6), (ne' 0), (ne' 1), (ne' 2), (ne' 3), (ne' 4), pc', (pe' 0), (pe' 1), (pe' 2), (pe' 3), (pe' 4), bv', bw', (ms' 0), (ms' 1), (ms' 2), (ms' 3), (ms' 4), (ms' 5), (ms' 6)) → wX_deliver_121 post (nI c) kd (nI b) n l md la (nI nc) (nI nb) (nI dr) (nI lo) (nI tm) (nI ln) dn re (nI lg) (nI mc) ck rt lk (le 0) (le 1) (le 2) (le 3) (le 4) (le 5) (le 6) (ne 0) (ne 1) (ne 2) (ne 3) (ne 4) pc (pe 0) (pe 1) (pe 2) (pe 3) (pe 4) bv bw (ms 0) (ms 1) (ms 2) (ms 3) (ms 4) (ms 5) (ms 6)) ∧
    (∀ post : Int32 → SY → Prop, post r ((nI nc), (nI nb), (nI dr), (nI lo), (nI tm), (nI ln), (nI lg'), re, (nI mc'), (nI gc'), dn, ck, rt, ct, bv', bw', ha', mm', gg', pp', pc') → wY_deliver_144 post kd (nI c) (nI b) n l md la (nI nc) (nI nb) (nI dr) (nI lo) (nI tm) (nI ln) (nI lg) re (nI mc) (nI gc) dn ck rt ct bv bw ha mm gg pp pc) := by
  obtain ⟨_, _, o1, o2⟩ := hok
  by_cases k1 : kd = 1
  · subst k1
    obtain ⟨hn, hmd, t, ht, rfl⟩ := o1 rfl
    obtain ⟨r, lg2, mc2, gc2, pn2, le2, ne2, pe2, ms2, pc2, bv2, bw2, ha2, mm2, gg2, pp2, hR2, hX2, hY2⟩ := zz_t_request (dn := dn) (re := re) (bv := bv) (bw := bw) hR (hN1 rfl) hb hc hn hmd ht
    exact ⟨r, lg2, mc2, gc2, pn2, le2, ne2, pe2, ms2, pc2, bv2, bw2, ha2, mm2, gg2, pp2, hR2, fun post h => br_f (by decide) (br_f (by decide) (br_t rfl (hX2 _ h))), fun post h => br_t rfl (hY2 _ h)⟩
  by_cases k2 : kd = 2
  · subst k2
    obtain ⟨r, lg2, mc2, gc2, pn2, le2, ne2, pe2, ms2, pc2, bv2, bw2, ha2, mm2, gg2, pp2, hR2, hX2, hY2⟩ := zz_t_grant (dn := dn) (re := re) (bv := bv) (bw := bw) hR hb hc (o2 rfl)
    exact ⟨r, lg2, mc2, gc2, pn2, le2, ne2, pe2, ms2, pc2, bv2, bw2, ha2, mm2, gg2, pp2, hR2, fun post h => br_f (by decide) (br_f (by decide) (br_f k1 (br_t rfl (hX2 _ h)))), fun post h => br_f k1 (br_f (by decide) (br_f (by decide) (hY2 _ h)))⟩
  by_cases k3 : kd = 3
  · subst k3
    obtain ⟨r, lg2, mc2, gc2, pn2, le2, ne2, pe2, ms2, pc2, bv2, bw2, ha2, mm2, gg2, pp2, hR2, hX2, hY2⟩ := zz_t_recall (n := n) (dn := dn) (re := re) (bv := bv) (bw := bw) hR hb hc
    exact ⟨r, lg2, mc2, gc2, pn2, le2, ne2, pe2, ms2, pc2, bv2, bw2, ha2, mm2, gg2, pp2, hR2, fun post h => br_f (by decide) (br_f (by decide) (br_f k1 (br_f k2 (br_t rfl (hX2 _ h))))), fun post h => br_f k1 (br_f (by decide) (br_f (by decide) (hY2 _ h)))⟩
  by_cases k4 : kd = 4
  · subst k4
    obtain ⟨r, lg2, mc2, gc2, pn2, le2, ne2, pe2, ms2, pc2, bv2, bw2, ha2, mm2, gg2, pp2, hR2, hX2, hY2⟩ := zz_t_release (n := n) (dn := dn) (re := re) (bv := bv) (bw := bw) hR hb hc
    exact ⟨r, lg2, mc2, gc2, pn2, le2, ne2, pe2, ms2, pc2, bv2, bw2, ha2, mm2, gg2, pp2, hR2, fun post h => br_f (by decide) (br_f (by decide) (br_f k1 (br_f k2 (br_f k3 (br_t rfl (hX2 _ h)))))), fun post h => br_f k1 (br_t rfl (hY2 _ h))⟩
  by_cases k5 : kd = 5
  · subst k5
    obtain ⟨r, lg2, mc2, gc2, pn2, le2, ne2, pe2, ms2, pc2, bv2, bw2, ha2, mm2, gg2, pp2, hR2, hX2, hY2⟩ := zz_t_store (s := n) (l := l) (v := la) (dn := dn) (re := re) (bv := bv) (bw := bw) hR hb hc
    exact ⟨r, lg2, mc2, gc2, pn2, le2, ne2, pe2, ms2, pc2, bv2, bw2, ha2, mm2, gg2, pp2, hR2, fun post h => br_f (by decide) (br_f (by decide) (br_f k1 (br_f k2 (br_f k3 (br_f k4 (br_t rfl (hX2 _ h))))))), fun post h => br_f k1 (br_f k4 (br_t rfl (hY2 _ h)))⟩
  obtain ⟨r, lg2, mc2, gc2, pn2, le2, ne2, pe2, ms2, pc2, bv2, bw2, ha2, mm2, gg2, pp2, hR2, hX2, hY2⟩ := zz_t_ack (n := n) (dn := dn) (re := re) (bv := bv) (bw := bw) hR hb hc k2 k3
  exact ⟨r, lg2, mc2, gc2, pn2, le2, ne2, pe2, ms2, pc2, bv2, bw2, ha2, mm2, gg2, pp2, hR2, fun post h => br_c (fun _ => hX2 _ h) (fun _ => br_c (fun _ => hX2 _ h) (fun _ => br_f k1 (br_f k2 (br_f k3 (br_f k4 (br_f k5 trivial)))))), fun post h => br_f k1 (br_f k4 (br_f k5 (hY2 _ h)))⟩
theorem zz_s_deliver (hR : zz_R nc nb dr lo tm ln lg mc gc pn ck rt lk le ne pe ms pc ct ha mm gg pp) (v1 : Int32) : ∃ (r : Int32) (u' : SX) (v' : SY), i_Rel 0 u' v' ∧ (∀ post : Int32 → SX → Prop, post r u' → wpX_deliver post ((nI nc), (nI nb), (nI dr), (nI lo), (nI tm), (nI ln), dn, re, (nI lg), (nI mc), ck, rt, lk, (le 0), (le 1), (le 2), (le 3), (le 4), (le 5), (le 6), (ne 0), (ne 1), (ne 2), (ne 3), (ne 4), pc, (pe 0), (pe 1), (pe 2), (pe 3), (pe 4), bv, bw, (ms 0), (ms 1), (ms 2), (ms 3), (ms 4), (ms 5), (ms 6)) v1) ∧ (∀ post : Int32 → SY → Prop, post r v' → wpY_deliver post ((nI nc), (nI nb), (nI dr), (nI lo), (nI tm), (nI ln), (nI lg), re, (nI mc), (nI gc), dn, ck, rt, ct, bv, bw, ha, mm, gg, pp, pc) v1) := by
  have hR0 := hR
  obtain ⟨⟨c1, c2, b1, b2, d3, l1, l2, t6, n2, g2⟩, hC, hL, hH, hM, hP, hG, hN⟩ := hR
  have hm := hM.1
  rcases zz_ix v1 mc (by omega) with a | ⟨a, a1, a2⟩ | ⟨i, hi, rfl⟩
  · exact ⟨-1, ((nI nc), (nI nb), (nI dr), (nI lo), (nI tm), (nI ln), dn, re, (nI lg), (nI mc), ck, rt, lk, (le 0), (le 1), (le 2), (le 3), (le 4), (le 5), (le 6), (ne 0), (ne 1), (ne 2), (ne 3), (ne 4), pc, (pe 0), (pe 1), (pe 2), (pe 3), (pe 4), bv, bw, (ms 0), (ms 1), (ms 2), (ms 3), (ms 4), (ms 5), (ms 6)), ((nI nc), (nI nb), (nI dr), (nI lo), (nI tm), (nI ln), (nI lg), re, (nI mc), (nI gc), dn, ck, rt, ct, bv, bw, ha, mm, gg, pp, pc), zz_rel hR0, fun _ h => br_t a h, fun _ h => br_t a h⟩
  · exact ⟨-1, ((nI nc), (nI nb), (nI dr), (nI lo), (nI tm), (nI ln), dn, re, (nI lg), (nI mc), ck, rt, lk, (le 0), (le 1), (le 2), (le 3), (le 4), (le 5), (le 6), (ne 0), (ne 1), (ne 2), (ne 3), (ne 4), pc, (pe 0), (pe 1), (pe 2), (pe 3), (pe 4), bv, bw, (ms 0), (ms 1), (ms 2), (ms 3), (ms 4), (ms 5), (ms 6)), ((nI nc), (nI nb), (nI dr), (nI lo), (nI tm), (nI ln), (nI lg), re, (nI mc), (nI gc), dn, ck, rt, ct, bv, bw, ha, mm, gg, pp, pc), zz_rel hR0, fun _ h => br_f a (br_f a2 h), fun _ h => br_f a (br_f a2 h)⟩
  · obtain ⟨⟨e0, e1, e2, e3, e4, e5, e6⟩, hok⟩ := hM.2 i hi
    have hok' := hok
    obtain ⟨⟨c, hc, ec⟩, ⟨b, hb, eb⟩, _, _⟩ := hok'
    have p0 : ¬ nI i < 0 := nI_pos (by omega)
    have p1 : nI i < nI mc := nI_lt hi (by omega)
    have vc : vp_in (nI c) 4 := vp_in_nI (by omega) (by decide)
    have cc : (nI c).toNatClampNeg = c := nI_clamp (by omega)
    have hl := hL c (by omega)
    have f0 : nI i * 7 = nI (i * 7) := zz_x7 i
    have fj : ∀ j : Nat, nI i * 7 + nI j = nI (i * 7 + j) := fun j => by rw [zz_x7, nI_add]
    have Y00 : ∀ post : Int32 → SY → Prop, ((ct c = 0 → wpY_drop (fun _ u => match u with | (f_clients, f_blocks, f_drift, f_longest, f_time, f_lastNumber, f_longestGranted, f_recoveryEnd, f_msgCount, f_grantCount, f_down, a_clock, a_rate, a_cut, a_value, a_written, a_has, a_msg, a_grant, a_pend, a_pendCount) => ((f_down = 0 → wY_deliver_144 post (ms 0 i) (nI c) (nI b) (ms 3 i) (ms 4 i) (ms 5 i) (ms 6 i) f_clients f_blocks f_drift f_longest f_time f_lastNumber f_longestGranted f_recoveryEnd f_msgCount f_grantCount f_down a_clock a_rate a_cut a_value a_written a_has a_msg a_grant a_pend a_pendCount) ∧ (¬ f_down = 0 → ((ms 0 i = 1 → post 0 (f_clients, f_blocks, f_drift, f_longest, f_time, f_lastNumber, f_longestGranted, f_recoveryEnd, f_msgCount, f_grantCount, f_down, a_clock, a_rate, a_cut, a_value, a_written, a_has, a_msg, a_grant, a_pend, a_pendCount)) ∧ (¬ ms 0 i = 1 → ((ms 0 i = 4 → post 0 (f_clients, f_blocks, f_drift, f_longest, f_time, f_lastNumber, f_longestGranted, f_recoveryEnd, f_msgCount, f_grantCount, f_down, a_clock, a_rate, a_cut, a_value, a_written, a_has, a_msg, a_grant, a_pend, a_pendCount)) ∧ (¬ ms 0 i = 4 → ((ms 0 i = 5 → post 0 (f_clients, f_blocks, f_drift, f_longest, f_time, f_lastNumber, f_longestGranted, f_recoveryEnd, f_msgCount, f_grantCount, f_down, a_clock, a_rate, a_cut, a_value, a_written, a_has, a_msg, a_grant, a_pend, a_pendCount)) ∧ (¬ ms 0 i = 5 → wY_deliver_144 post (ms 0 i) (nI c) (nI b) (ms 3 i) (ms 4 i) (ms 5 i) (ms 6 i) f_clients f_blocks f_drift f_longest f_time f_lastNumber f_longestGranted f_recoveryEnd f_msgCount f_grantCount f_down a_clock a_rate a_cut a_value a_written a_has a_msg a_grant a_pend a_pendCount))))))))) ((nI nc), (nI nb), (nI dr), (nI lo), (nI tm), (nI ln), (nI lg), re, (nI mc), (nI gc), dn, ck, rt, ct, bv, bw, ha, mm, gg, pp, pc) (nI i)) ∧ (¬ ct c = 0 → post (-6) ((nI nc), (nI nb), (nI dr), (nI lo), (nI tm), (nI ln), (nI lg), re, (nI mc), (nI gc), dn, ck, rt, ct, bv, bw, ha, mm, gg, pp, pc))) → wpY_deliver post ((nI nc), (nI nb), (nI dr), (nI lo), (nI tm), (nI ln), (nI lg), re, (nI mc), (nI gc), dn, ck, rt, ct, bv, bw, ha, mm, gg, pp, pc) (nI i) := fun post h => by
      refine br_f p0 (br_t p1 (zz_rd (i * 7) f0 (by omega) (by decide) (zz_rd (i * 7 + 1) (fj 1) (by omega) (by decide) (zz_rd (i * 7 + 2) (fj 2) (by omega) (by decide) (zz_rd (i * 7 + 3) (fj 3) (by omega) (by decide) (zz_rd (i * 7 + 4) (fj 4) (by omega) (by decide) (zz_rd (i * 7 + 5) (fj 5) (by omega) (by decide) (zz_rd (i * 7 + 6) (fj 6) (by omega) (by decide) ?_))))))))
      rw [← e0, ← e1, ← e2, ← e3, ← e4, ← e5, ← e6, ec, eb]
      refine ⟨vc, ?_⟩
      rw [cc]
      exact h
    have X00 : ∀ post : Int32 → SX → Prop, ((lk c = 0 → post (-6) ((nI nc), (nI nb), (nI dr), (nI lo), (nI tm), (nI ln), dn, re, (nI lg), (nI mc), ck, rt, lk, (le 0), (le 1), (le 2), (le 3), (le 4), (le 5), (le 6), (ne 0), (ne 1), (ne 2), (ne 3), (ne 4), pc, (pe 0), (pe 1), (pe 2), (pe 3), (pe 4), bv, bw, (ms 0), (ms 1), (ms 2), (ms 3), (ms 4), (ms 5), (ms 6))) ∧ (¬ lk c = 0 → wpX_removeMessage (fun u => match u with | (f_clients, f_blocks, f_drift, f_longest, f_time, f_lastNumber, f_down, f_recoveryEnd, f_longestGranted, f_msgCount, a_clock, a_rate, a_linkUp, a_leaseMode, a_leaseNumber, a_leaseEnd, a_leaseUnacked, a_awaitNumber, a_awaitMode, a_awaitEnd, a_newestNumber, a_newestMode, a_newestEnd, a_maxWriteEnd, a_maxAnyEnd, a_pendCount, a_pendClient, a_pendNumber, a_pendMode, a_pendTerm, a_pendMark, a_blockValue, a_blockWrite, a_msgKind, a_msgClient, a_msgBlock, a_msgNumber, a_msgLease, a_msgMode, a_msgLast) => ((ms 0 i = 1 → wX_deliver_100 post (nI c) (ms 0 i) (nI b) (ms 3 i) (ms 4 i) (ms 5 i) (ms 6 i) f_clients f_blocks f_drift f_longest f_time f_lastNumber f_down f_recoveryEnd f_longestGranted f_msgCount a_clock a_rate a_linkUp a_leaseMode a_leaseNumber a_leaseEnd a_leaseUnacked a_awaitNumber a_awaitMode a_awaitEnd a_newestNumber a_newestMode a_newestEnd a_maxWriteEnd a_maxAnyEnd a_pendCount a_pendClient a_pendNumber a_pendMode a_pendTerm a_pendMark a_blockValue a_blockWrite a_msgKind a_msgClient a_msgBlock a_msgNumber a_msgLease a_msgMode a_msgLast) ∧ (¬ ms 0 i = 1 → ((ms 0 i = 4 → wX_deliver_100 post (nI c) (ms 0 i) (nI b) (ms 3 i) (ms 4 i) (ms 5 i) (ms 6 i) f_clients f_blocks f_drift f_longest f_time f_lastNumber f_down f_recoveryEnd f_longestGranted f_msgCount a_clock a_rate a_linkUp a_leaseMode a_leaseNumber a_leaseEnd a_leaseUnacked a_awaitNumber a_awaitMode a_awaitEnd a_newestNumber a_newestMode a_newestEnd a_maxWriteEnd a_maxAnyEnd a_pendCount a_pendClient a_pendNumber a_pendMode a_pendTerm a_pendMark a_blockValue a_blockWrite a_msgKind a_msgClient a_msgBlock a_msgNumber a_msgLease a_msgMode a_msgLast) ∧ (¬ ms 0 i = 4 → ((ms 0 i = 5 → wX_deliver_100 post (nI c) (ms 0 i) (nI b) (ms 3 i) (ms 4 i) (ms 5 i) (ms 6 i) f_clients f_blocks f_drift f_longest f_time f_lastNumber f_down f_recoveryEnd f_longestGranted f_msgCount a_clock a_rate a_linkUp a_leaseMode a_leaseNumber a_leaseEnd a_leaseUnacked a_awaitNumber a_awaitMode a_awaitEnd a_newestNumber a_newestMode a_newestEnd a_maxWriteEnd a_maxAnyEnd a_pendCount a_pendClient a_pendNumber a_pendMode a_pendTerm a_pendMark a_blockValue a_blockWrite a_msgKind a_msgClient a_msgBlock a_msgNumber a_msgLease a_msgMode a_msgLast) ∧ (¬ ms 0 i = 5 → wX_deliver_105 post (nI c) (ms 0 i) (nI b) (ms 3 i) (ms 4 i) (ms 5 i) (ms 6 i) 0 f_clients f_blocks f_drift f_longest f_time f_lastNumber f_down f_recoveryEnd f_longestGranted f_msgCount a_clock a_rate a_linkUp a_leaseMode a_leaseNumber a_leaseEnd a_leaseUnacked a_awaitNumber a_awaitMode a_awaitEnd a_newestNumber a_newestMode a_newestEnd a_maxWriteEnd a_maxAnyEnd a_pendCount a_pendClient a_pendNumber a_pendMode a_pendTerm a_pendMark a_blockValue a_blockWrite a_msgKind a_msgClient a_msgBlock a_msgNumber a_msgLease a_msgMode a_msgLast))))))) ((nI nc), (nI nb), (nI dr), (nI lo), (nI tm), (nI ln), dn, re, (nI lg), (nI mc), ck, rt, lk, (le 0), (le 1), (le 2), (le 3), (le 4), (le 5), (le 6), (ne 0), (ne 1), (ne 2), (ne 3), (ne 4), pc, (pe 0), (pe 1), (pe 2), (pe 3), (pe 4), bv, bw, (ms 0), (ms 1), (ms 2), (ms 3), (ms 4), (ms 5), (ms 6)) (nI i))) → wpX_deliver post ((nI nc), (nI nb), (nI dr), (nI lo), (nI tm), (nI ln), dn, re, (nI lg), (nI mc), ck, rt, lk, (le 0), (le 1), (le 2), (le 3), (le 4), (le 5), (le 6), (ne 0), (ne 1), (ne 2), (ne 3), (ne 4), pc, (pe 0), (pe 1), (pe 2), (pe 3), (pe 4), bv, bw, (ms 0), (ms 1), (ms 2), (ms 3), (ms 4), (ms 5), (ms 6)) (nI i) := fun post h => by
      refine br_f p0 (br_t p1 (zz_rd i rfl (by omega) (by decide) ?_))
      rw [ec]
      refine ⟨vc, ?_⟩
      rw [cc]
      refine ⟨h.1, fun q => zz_rd i rfl (by omega) (by decide) (zz_rd i rfl (by omega) (by decide) (zz_rd i rfl (by omega) (by decide) (zz_rd i rfl (by omega) (by decide) (zz_rd i rfl (by omega) (by decide) (zz_rd i rfl (by omega) (by decide) ?_)))))⟩
      rw [eb]
      exact h.2 q
    by_cases q : lk c = 0
    · exact ⟨-6, ((nI nc), (nI nb), (nI dr), (nI lo), (nI tm), (nI ln), dn, re, (nI lg), (nI mc), ck, rt, lk, (le 0), (le 1), (le 2), (le 3), (le 4), (le 5), (le 6), (ne 0), (ne 1), (ne 2), (ne 3), (ne 4), pc, (pe 0), (pe 1), (pe 2), (pe 3), (pe 4), bv, bw, (ms 0), (ms 1), (ms 2), (ms 3), (ms 4), (ms 5), (ms 6)), ((nI nc), (nI nb), (nI dr), (nI lo), (nI tm), (nI ln), (nI lg), re, (nI mc), (nI gc), dn, ck, rt, ct, bv, bw, ha, mm, gg, pp, pc), zz_rel hR0, fun post h => X00 post (br_t q h), fun post h => Y00 post (br_f (hl.mp q) h)⟩
    · have q' : ct c = 0 := by
        by_cases z : ct c = 0
        · exact z
        · exact (q (hl.mpr z)).elim
      obtain ⟨ms', mm', hM', hq', hX, hY⟩ := zz_rem hM hi
      have hR1 : zz_R nc nb dr lo tm ln lg (mc - 1) gc pn ck rt lk le ne pe ms' pc ct ha mm' gg pp := ⟨⟨c1, c2, b1, b2, d3, l1, l2, t6, n2, g2⟩, hC, hL, hH, hM', hP, hG, by unfold zz_RN at hN ⊢; omega⟩
      by_cases sv : (ms 0 i = 1 ∨ ms 0 i = 4 ∨ ms 0 i = 5) ∧ ¬ dn = 0
      · refine ⟨0, ((nI nc), (nI nb), (nI dr), (nI lo), (nI tm), (nI ln), dn, re, (nI lg), (nI (mc - 1)), ck, rt, lk, (le 0), (le 1), (le 2), (le 3), (le 4), (le 5), (le 6), (ne 0), (ne 1), (ne 2), (ne 3), (ne 4), pc, (pe 0), (pe 1), (pe 2), (pe 3), (pe 4), bv, bw, (ms' 0), (ms' 1), (ms' 2), (ms' 3), (ms' 4), (ms' 5), (ms' 6)), ((nI nc), (nI nb), (nI dr), (nI lo), (nI tm), (nI ln), (nI lg), re, (nI (mc - 1)), (nI gc), dn, ck, rt, ct, bv, bw, ha, mm', gg, pp, pc), zz_rel hR1, fun post h => X00 post (br_f q (hX _ ?_)), fun post h => Y00 post (br_t q' (hY _ ?_))⟩
        · have K : wX_deliver_105 post (nI c) (ms 0 i) (nI b) (ms 3 i) (ms 4 i) (ms 5 i) (ms 6 i) 1 (nI nc) (nI nb) (nI dr) (nI lo) (nI tm) (nI ln) dn re (nI lg) (nI (mc - 1)) ck rt lk (le 0) (le 1) (le 2) (le 3) (le 4) (le 5) (le 6) (ne 0) (ne 1) (ne 2) (ne 3) (ne 4) pc (pe 0) (pe 1) (pe 2) (pe 3) (pe 4) bv bw (ms' 0) (ms' 1) (ms' 2) (ms' 3) (ms' 4) (ms' 5) (ms' 6) := br_f zz_01 (br_f sv.2 h)
          refine br_c (fun _ => K) (fun k1 => br_c (fun _ => K) (fun k4 => br_c (fun _ => K) (fun k5 => ?_)))
          rcases sv.1 with z | z | z
          · exact (k1 z).elim
          · exact (k4 z).elim
          · exact (k5 z).elim
        · refine br_f sv.2 (br_c (fun _ => h) (fun k1 => br_c (fun _ => h) (fun k4 => br_c (fun _ => h) (fun k5 => ?_))))
          rcases sv.1 with z | z | z
          · exact (k1 z).elim
          · exact (k4 z).elim
          · exact (k5 z).elim
      · rw [ec, eb] at hok
        obtain ⟨r, lg2, mc2, gc2, pn2, le2, ne2, pe2, ms2, pc2, bv2, bw2, ha2, mm2, gg2, pp2, hR2, hX2, hY2⟩ := zz_disp (l := ms 4 i) (dn := dn) (re := re) (bv := bv) (bw := bw) hR1 hok hb hc (fun z => by rw [if_pos z] at hq'; unfold zz_RN at hN; omega)
        refine ⟨r, ((nI nc), (nI nb), (nI dr), (nI lo), (nI tm), (nI ln), dn, re, (nI lg2), (nI mc2), ck, rt, lk, (le2 0), (le2 1), (le2 2), (le2 3), (le2 4), (le2 5), (le2 6), (ne2 0), (ne2 1), (ne2 2), (ne2 3), (ne2 4), pc2, (pe2 0), (pe2 1), (pe2 2), (pe2 3), (pe2 4), bv2, bw2, (ms2 0), (ms2 1), (ms2 2), (ms2 3), (ms2 4), (ms2 5), (ms2 6)), ((nI nc), (nI nb), (nI dr), (nI lo), (nI tm), (nI ln), (nI lg2), re, (nI mc2), (nI gc2), dn, ck, rt, ct, bv2, bw2, ha2, mm2, gg2, pp2, pc2), zz_rel hR2, fun post h => X00 post (br_f q (hX _ ?_)), fun post h => Y00 post (br_t q' (hY _ ?_))⟩
        · have K0 := hX2 post h
          have K1 : (ms 0 i = 1 ∨ ms 0 i = 4 ∨ ms 0 i = 5) → wX_deliver_105 post (nI c) (ms 0 i) (nI b) (ms 3 i) (ms 4 i) (ms 5 i) (ms 6 i) 1 (nI nc) (nI nb) (nI dr) (nI lo) (nI tm) (nI ln) dn re (nI lg) (nI (mc - 1)) ck rt lk (le 0) (le 1) (le 2) (le 3) (le 4) (le 5) (le 6) (ne 0) (ne 1) (ne 2) (ne 3) (ne 4) pc (pe 0) (pe 1) (pe 2) (pe 3) (pe 4) bv bw (ms' 0) (ms' 1) (ms' 2) (ms' 3) (ms' 4) (ms' 5) (ms' 6) := fun z => br_f zz_01 (br_c (fun _ => K0) (fun y => (sv ⟨z, y⟩).elim))
          have K2 : wX_deliver_105 post (nI c) (ms 0 i) (nI b) (ms 3 i) (ms 4 i) (ms 5 i) (ms 6 i) 0 (nI nc) (nI nb) (nI dr) (nI lo) (nI tm) (nI ln) dn re (nI lg) (nI (mc - 1)) ck rt lk (le 0) (le 1) (le 2) (le 3) (le 4) (le 5) (le 6) (ne 0) (ne 1) (ne 2) (ne 3) (ne 4) pc (pe 0) (pe 1) (pe 2) (pe 3) (pe 4) bv bw (ms' 0) (ms' 1) (ms' 2) (ms' 3) (ms' 4) (ms' 5) (ms' 6) := br_t rfl K0
          exact br_c (fun z => K1 (Or.inl z)) (fun _ => br_c (fun z => K1 (Or.inr (Or.inl z))) (fun _ => br_c (fun z => K1 (Or.inr (Or.inr z))) (fun _ => K2)))
        · have K0 := hY2 post h
          exact br_c (fun _ => K0) (fun y => br_c (fun z => (sv ⟨Or.inl z, y⟩).elim) (fun _ => br_c (fun z => (sv ⟨Or.inr (Or.inl z), y⟩).elim) (fun _ => br_c (fun z => (sv ⟨Or.inr (Or.inr z), y⟩).elim) (fun _ => K0))))
end
end
section
/-! advance -/
theorem zz_ckX {f_blocks f_drift f_longest f_time f_lastNumber f_down f_recoveryEnd f_longestGranted f_msgCount : Int32} {a_rate a_linkUp a_leaseMode a_leaseNumber a_leaseEnd a_leaseUnacked a_awaitNumber a_awaitMode a_awaitEnd a_newestNumber a_newestMode a_newestEnd a_maxWriteEnd a_maxAnyEnd a_pendCount a_pendClient a_pendNumber a_pendMode a_pendTerm a_pendMark a_blockValue a_blockWrite a_msgKind a_msgClient a_msgBlock a_msgNumber a_msgLease a_msgMode a_msgLast : Nat → Int32} {nc : Nat} {post : Int32 → SX → Prop} {J : Int32 → Int32 → Int32 → Int32 → Int32 → Int32 → Int32 → Int32 → Int32 → Int32 → Int32 → Int32 → (Nat → Int32) → (Nat → Int32) → (Nat → Int32) → (Nat → Int32) → (Nat → Int32) → (Nat → Int32) → (Nat → Int32) → (Nat → Int32) → (Nat → Int32) → (Nat → Int32) → (Nat → Int32) → (Nat → Int32) → (Nat → Int32) → (Nat → Int32) → (Nat → Int32) → (Nat → Int32) → (Nat → Int32) → (Nat → Int32) → (Nat → Int32) → (Nat → Int32) → (Nat → Int32) → (Nat → Int32) → (Nat → Int32) → (Nat → Int32) → (Nat → Int32) → (Nat → Int32) → (Nat → Int32) → (Nat → Int32) → (Nat → Int32) → (Nat → Int32) → Prop} {x1 x2 x3 : Int32} (hnc : nc ≤ 4) : ∀ d j, j + d = nc + 1 → ∀ ck ck' : Nat → Int32, (∀ q, ck' q = if j ≤ q ∧ q ≤ nc then ck q + a_rate q else ck q) → (∃ n, wX_advance_84 post J x1 x3 n x2 0 (nI nc) f_blocks f_drift f_longest f_time f_lastNumber f_down f_recoveryEnd f_longestGranted f_msgCount ck' a_rate a_linkUp a_leaseMode a_leaseNumber a_leaseEnd a_leaseUnacked a_awaitNumber a_awaitMode a_awaitEnd a_newestNumber a_newestMode a_newestEnd a_maxWriteEnd a_maxAnyEnd a_pendCount a_pendClient a_pendNumber a_pendMode a_pendTerm a_pendMark a_blockValue a_blockWrite a_msgKind a_msgClient a_msgBlock a_msgNumber a_msgLease a_msgMode a_msgLast) → wX_advance_49 post J x1 x2 x3 (nI nc) f_blocks f_drift f_longest f_time f_lastNumber f_down f_recoveryEnd f_longestGranted f_msgCount (d + 1) (nI j) ck a_rate a_linkUp a_leaseMode a_leaseNumber a_leaseEnd a_leaseUnacked a_awaitNumber a_awaitMode a_awaitEnd a_newestNumber a_newestMode a_newestEnd a_maxWriteEnd a_maxAnyEnd a_pendCount a_pendClient a_pendNumber a_pendMode a_pendTerm a_pendMark a_blockValue a_blockWrite a_msgKind a_msgClient a_msgBlock a_msgNumber a_msgLease a_msgMode a_msgLast := by
  intro d
  induction d with
  | zero =>
    intro j hj ck ck' e h
    obtain rfl : ck' = ck := funext fun q => by rw [e, if_neg (by omega)]
    exact br_t (nI_lt (by omega) (by omega)) h
  | succ d ih =>
    intro j hj ck ck' e h
    have vj : vp_in (nI j) 5 := vp_in_nI (by omega) (by decide)
    refine br_f (nI_nlt (by omega) (by omega)) ⟨vj, vj, vj, ?_⟩
    rw [nI_clamp (n := j) (by omega)]
    refine nm_e (nm_r (nI_1 j) (ih (j + 1) (by omega) (upd ck j (ck j + a_rate j)) ck' (fun q => ?_) h))
    rw [e q]
    by_cases q1 : q = j
    · subst q1
      rw [if_pos (by omega), if_neg (by omega), pk_us]
    · rw [pk_un q1]
      by_cases q2 : j + 1 ≤ q ∧ q ≤ nc
      · rw [if_pos (by omega), if_pos q2]
      · rw [if_neg (by omega), if_neg q2]
theorem zz_ckY {f_blocks f_drift f_longest f_time f_lastNumber f_longestGranted f_recoveryEnd f_msgCount f_grantCount f_down : Int32} {a_rate a_cut a_value a_written a_has a_msg a_grant a_pend a_pendCount : Nat → Int32} {nc : Nat} {post : Int32 → SY → Prop} {J : Int32 → Int32 → Int32 → Int32 → Int32 → Int32 → Int32 → Int32 → Int32 → Int32 → Int32 → Int32 → Int32 → (Nat → Int32) → (Nat → Int32) → (Nat → Int32) → (Nat → Int32) → (Nat → Int32) → (Nat → Int32) → (Nat → Int32) → (Nat → Int32) → (Nat → Int32) → (Nat → Int32) → Prop} {x1 x2 x3 : Int32} (hnc : nc ≤ 4) : ∀ d j, j + d = nc + 1 → ∀ ck ck' : Nat → Int32, (∀ q, ck' q = if j ≤ q ∧ q ≤ nc then ck q + a_rate q else ck q) → (∃ n, wY_advance_84 post J x1 x3 n x2 0 (nI nc) f_blocks f_drift f_longest f_time f_lastNumber f_longestGranted f_recoveryEnd f_msgCount f_grantCount f_down ck' a_rate a_cut a_value a_written a_has a_msg a_grant a_pend a_pendCount) → wY_advance_49 post J x1 x2 x3 (nI nc) f_blocks f_drift f_longest f_time f_lastNumber f_longestGranted f_recoveryEnd f_msgCount f_grantCount f_down (d + 1) (nI j) ck a_rate a_cut a_value a_written a_has a_msg a_grant a_pend a_pendCount := by
  intro d
  induction d with
  | zero =>
    intro j hj ck ck' e h
    obtain rfl : ck' = ck := funext fun q => by rw [e, if_neg (by omega)]
    exact br_t (nI_lt (by omega) (by omega)) h
  | succ d ih =>
    intro j hj ck ck' e h
    have vj : vp_in (nI j) 5 := vp_in_nI (by omega) (by decide)
    refine br_f (nI_nlt (by omega) (by omega)) ⟨vj, vj, vj, ?_⟩
    rw [nI_clamp (n := j) (by omega)]
    refine nm_e (nm_r (nI_1 j) (ih (j + 1) (by omega) (upd ck j (ck j + a_rate j)) ck' (fun q => ?_) h))
    rw [e q]
    by_cases q1 : q = j
    · subst q1
      rw [if_pos (by omega), if_neg (by omega), pk_us]
    · rw [pk_un q1]
      by_cases q2 : j + 1 ≤ q ∧ q ≤ nc
      · rw [if_pos (by omega), if_pos q2]
      · rw [if_neg (by omega), if_neg q2]
theorem zz_RC_tick {nc tm : Nat} {ck ck' rt : Nat → Int32} (hC : zz_RC tm ck rt) (ht : tm ≤ 60000) (e : ∀ q, ck' q = if 0 ≤ q ∧ q ≤ nc then ck q + rt q else ck q) : zz_RC (tm + 1) ck' rt := by
  intro i hi
  obtain ⟨h1, h2, h3, h4⟩ := hC i hi
  rw [e i]
  by_cases q : 0 ≤ i ∧ i ≤ nc
  · rw [if_pos q]
    have a := zz_addT (a := ck i) (b := rt i) (by omega) (by omega)
    omega
  · rw [if_neg q]
    omega
/-- the blocks are served one behind another -/
theorem zz_adv84 {nc nb dr lo tm ln : Nat} {dn re : Int32} {ck rt lk ct : Nat → Int32} {x1 x3 : Int32} : ∀ d b, b + d = nb → ∀ {lg mc gc : Nat} {pn : Nat → Nat} {le ne pe ms : Nat → Nat → Int32} {pc bv bw ha mm gg pp : Nat → Int32}, zz_R nc nb dr lo tm ln lg mc gc pn ck rt lk le ne pe ms pc ct ha mm gg pp → ∀ made : Int32, ∃ (r : Int32) (lg' mc' gc' : Nat) (pn' : Nat → Nat) (le' ne' pe' ms' : Nat → Nat → Int32) (pc' bv' bw' ha' mm' gg' pp' : Nat → Int32), zz_R nc nb dr lo tm ln lg' mc' gc' pn' ck rt lk le' ne' pe' ms' pc' ct ha' mm' gg' pp' ∧
    (∀ (post : Int32 → SX → Prop) (J : Int32 → Int32 → Int32 → Int32 → Int32 → Int32 → Int32 → Int32 → Int32 → Int32 → Int32 → Int32 → (Nat → Int32) → (Nat → Int32) → (Nat → Int32) → (Nat → Int32) → (Nat → Int32) → (Nat → Int32) → (Nat → Int32) → (Nat → Int32) → (Nat → Int32) → (Nat → Int32) → (Nat → Int32) → (Nat → Int32) → (Nat → Int32) → (Nat → Int32) → (Nat → Int32) → (Nat → Int32) → (Nat → Int32) → (Nat → Int32) → (Nat → Int32) → (Nat → Int32) → (Nat → Int32) → (Nat → Int32) → (Nat → Int32) → (Nat → Int32) → (Nat → Int32) → (Nat → Int32) → (Nat → Int32) → (Nat → Int32) → (Nat → Int32) → (Nat → Int32) → Prop), J r (x3 + 1) (nI nc) (nI nb) (nI dr) (nI lo) (nI tm) (nI ln) dn re (nI lg') (nI mc') ck rt lk (le' 0) (le' 1) (le' 2) (le' 3) (le' 4) (le' 5) (le' 6) (ne' 0) (ne' 1) (ne' 2) (ne' 3) (ne' 4) pc' (pe' 0) (pe' 1) (pe' 2) (pe' 3) (pe' 4) bv' bw' (ms' 0) (ms' 1) (ms' 2) (ms' 3) (ms' 4) (ms' 5) (ms' 6) → wX_advance_84 post J x1 x3 (d + 1) made (nI b) (nI nc) (nI nb) (nI dr) (nI lo) (nI tm) (nI ln) dn re (nI lg) (nI mc) ck rt lk (le 0) (le 1) (le 2) (le 3) (le 4) (le 5) (le 6) (ne 0) (ne 1) (ne 2) (ne 3) (ne 4) pc (pe 0) (pe 1) (pe 2) (pe 3) (pe 4) bv bw (ms 0) (ms 1) (ms 2) (ms 3) (ms 4) (ms 5) (ms 6)) ∧
    (∀ (post : Int32 → SY → Prop) (J : Int32 → Int32 → Int32 → Int32 → Int32 → Int32 → Int32 → Int32 → Int32 → Int32 → Int32 → Int32 → Int32 → (Nat → Int32) → (Nat → Int32) → (Nat → Int32) → (Nat → Int32) → (Nat → Int32) → (Nat → Int32) → (Nat → Int32) → (Nat → Int32) → (Nat → Int32) → (Nat → Int32) → Prop), J r (x3 + 1) (nI nc) (nI nb) (nI dr) (nI lo) (nI tm) (nI ln) (nI lg') re (nI mc') (nI gc') dn ck rt ct bv' bw' ha' mm' gg' pp' pc' → wY_advance_84 post J x1 x3 (d + 1) made (nI b) (nI nc) (nI nb) (nI dr) (nI lo) (nI tm) (nI ln) (nI lg) re (nI mc) (nI gc) dn ck rt ct bv bw ha mm gg pp pc) := by
  intro d
  induction d with
  | zero =>
    intro b hb lg mc gc pn le ne pe ms pc bv bw ha mm gg pp hR made
    have b2 := hR.1.2.2.2.1
    exact ⟨made, lg, mc, gc, pn, le, ne, pe, ms, pc, bv, bw, ha, mm, gg, pp, hR, fun post J h => br_t (nI_le (by omega) (by omega)) (nm_e h), fun post J h => br_t (nI_le (by omega) (by omega)) (nm_e h)⟩
  | succ d ih =>
    intro b hb lg mc gc pn le ne pe ms pc bv bw ha mm gg pp hR made
    have b2 := hR.1.2.2.2.1
    obtain ⟨r1, lg1, mc1, gc1, pn1, le1, ne1, pe1, ms1, pc1, bv1, bw1, ha1, mm1, gg1, pp1, hR1, hX1, hY1⟩ := zz_serve (b := b) (dn := dn) (re := re) (bv := bv) (bw := bw) hR (by omega)
    obtain ⟨r, lg2, mc2, gc2, pn2, le2, ne2, pe2, ms2, pc2, bv2, bw2, ha2, mm2, gg2, pp2, hR2, hX2, hY2⟩ := ih (b + 1) (by omega) (bv := bv1) (bw := bw1) hR1 (made + r1)
    refine ⟨r, lg2, mc2, gc2, pn2, le2, ne2, pe2, ms2, pc2, bv2, bw2, ha2, mm2, gg2, pp2, hR2, fun post J h => br_f (nI_ge (by omega) (by omega)) (hX1 _ (nm_e (nm_r (nI_1 b) ?_))), fun post J h => br_f (nI_ge (by omega) (by omega)) (hY1 _ (nm_e (nm_r (nI_1 b) ?_)))⟩
    · exact hX2 post J h
    · exact hY2 post J h
theorem zz_adv31 {nc nb dr lo ln D : Nat} {dn re : Int32} {rt lk ct : Nat → Int32} (hD : D ≤ 100) : ∀ d t, t + d = D → ∀ {tm lg mc gc : Nat} {pn : Nat → Nat} {ck : Nat → Int32} {le ne pe ms : Nat → Nat → Int32} {pc bv bw ha mm gg pp : Nat → Int32}, zz_R nc nb dr lo tm ln lg mc gc pn ck rt lk le ne pe ms pc ct ha mm gg pp → tm + d ≤ 60000 → ∀ made : Int32, ∃ (r : Int32) (tm' lg' mc' gc' : Nat) (pn' : Nat → Nat) (ck' : Nat → Int32) (le' ne' pe' ms' : Nat → Nat → Int32) (pc' bv' bw' ha' mm' gg' pp' : Nat → Int32), zz_R nc nb dr lo tm' ln lg' mc' gc' pn' ck' rt lk le' ne' pe' ms' pc' ct ha' mm' gg' pp' ∧
    (∀ post : Int32 → SX → Prop, post r ((nI nc), (nI nb), (nI dr), (nI lo), (nI tm'), (nI ln), dn, re, (nI lg'), (nI mc'), ck', rt, lk, (le' 0), (le' 1), (le' 2), (le' 3), (le' 4), (le' 5), (le' 6), (ne' 0), (ne' 1), (ne' 2), (ne' 3), (ne' 4), pc', (pe' 0), (pe' 1), (pe' 2), (pe' 3), (pe' 4), bv', bw', (ms' 0), (ms' 1), (ms' 2), (ms' 3), (ms' 4), (ms' 5), (ms' 6)) → wX_advance_31 post (nI D) (d + 1) made (nI t) (nI nc) (nI nb) (nI dr) (nI lo) (nI tm) (nI ln) dn re (nI lg) (nI mc) ck rt lk (le 0) (le 1) (le 2) (le 3) (le 4) (le 5) (le 6) (ne 0) (ne 1) (ne 2) (ne 3) (ne 4) pc (pe 0) (pe 1) (pe 2) (pe 3) (pe 4) bv bw (ms 0) (ms 1) (ms 2) (ms 3) (ms 4) (ms 5) (ms 6)) ∧
    (∀ post : Int32 → SY → Prop, post r ((nI nc), (nI nb), (nI dr), (nI lo), (nI tm'), (nI ln), (nI lg'), re, (nI mc'), (nI gc'), dn, ck', rt, ct, bv', bw', ha', mm', gg', pp', pc') → wY_advance_31 post (nI D) (d + 1) made (nI t) (nI nc) (nI nb) (nI dr) (nI lo) (nI tm) (nI ln) (nI lg) re (nI mc) (nI gc) dn ck rt ct bv bw ha mm gg pp pc) := by
  intro d
  induction d with
  | zero =>
    intro t ht tm lg mc gc pn ck le ne pe ms pc bv bw ha mm gg pp hR htm made
    exact ⟨made, tm, lg, mc, gc, pn, ck, le, ne, pe, ms, pc, bv, bw, ha, mm, gg, pp, hR, fun post h => br_t (nI_le (by omega) (by omega)) h, fun post h => br_t (nI_le (by omega) (by omega)) h⟩
  | succ d ih =>
    intro t ht tm lg mc gc pn ck le ne pe ms pc bv bw ha mm gg pp hR htm made
    obtain ⟨⟨c1, c2, b1, b2, d3, l1, l2, t6, n2, g2⟩, hC, hL, hH, hM, hP, hG, hN⟩ := hR
    have xc : ∃ ck1 : Nat → Int32, ∀ q, ck1 q = if 0 ≤ q ∧ q ≤ nc then ck q + rt q else ck q := ⟨_, fun _ => rfl⟩
    obtain ⟨ck1, ec⟩ := xc
    have hR1 : zz_R nc nb dr lo (tm + 1) ln lg mc gc pn ck1 rt lk le ne pe ms pc ct ha mm gg pp := ⟨⟨c1, c2, b1, b2, d3, l1, l2, by omega, n2, g2⟩, zz_RC_tick hC (by omega) ec, hL, hH, hM, hP, hG, hN⟩
    obtain ⟨r1, lg1, mc1, gc1, pn1, le1, ne1, pe1, ms1, pc1, bv1, bw1, ha1, mm1, gg1, pp1, hR2, hX1, hY1⟩ := zz_adv84 (x1 := nI D) (x3 := nI t) (dn := dn) (re := re) (bv := bv) (bw := bw) nb 0 (by omega) hR1 made
    obtain ⟨r, tm2, lg2, mc2, gc2, pn2, ck2, le2, ne2, pe2, ms2, pc2, bv2, bw2, ha2, mm2, gg2, pp2, hR3, hX2, hY2⟩ := ih (t + 1) (by omega) (bv := bv1) (bw := bw1) hR2 (by omega) r1
    refine ⟨r, tm2, lg2, mc2, gc2, pn2, ck2, le2, ne2, pe2, ms2, pc2, bv2, bw2, ha2, mm2, gg2, pp2, hR3, fun post h => br_f (nI_ge (by omega) (by omega)) (nm_r (nI_1 tm) ⟨nc + 1 + 1, zz_ckX c2 (nc + 1) 0 (by omega) ck ck1 ec ⟨nb + 1, hX1 _ _ ?_⟩⟩), fun post h => br_f (nI_ge (by omega) (by omega)) (nm_r (nI_1 tm) ⟨nc + 1 + 1, zz_ckY c2 (nc + 1) 0 (by omega) ck ck1 ec ⟨nb + 1, hY1 _ _ ?_⟩⟩)⟩
    · rw [nI_1 t]; exact hX2 post h
    · rw [nI_1 t]; exact hY2 post h
section
variable {nc nb dr lo tm ln lg mc gc : Nat} {pn : Nat → Nat} {dn re : Int32} {ck rt lk : Nat → Int32} {le ne pe ms : Nat → Nat → Int32} {pc bv bw ct ha mm gg pp : Nat → Int32}
theorem zz_s_advance (hR : zz_R nc nb dr lo tm ln lg mc gc pn ck rt lk le ne pe ms pc ct ha mm gg pp) (v1 : Int32) : ∃ (r : Int32) (u' : SX) (v' : SY), i_Rel 0 u' v' ∧ (∀ post : Int32 → SX → Prop, post r u' → wpX_advance post ((nI nc), (nI nb), (nI dr), (nI lo), (nI tm), (nI ln), dn, re, (nI lg), (nI mc), ck, rt, lk, (le 0), (le 1), (le 2), (le 3), (le 4), (le 5), (le 6), (ne 0), (ne 1), (ne 2), (ne 3), (ne 4), pc, (pe 0), (pe 1), (pe 2), (pe 3), (pe 4), bv, bw, (ms 0), (ms 1), (ms 2), (ms 3), (ms 4), (ms 5), (ms 6)) v1) ∧ (∀ post : Int32 → SY → Prop, post r v' → wpY_advance post ((nI nc), (nI nb), (nI dr), (nI lo), (nI tm), (nI ln), (nI lg), re, (nI mc), (nI gc), dn, ck, rt, ct, bv, bw, ha, mm, gg, pp, pc) v1) := by
  have t6 := hR.1.2.2.2.2.2.2.2.1
  by_cases a : v1 < 1
  · exact ⟨-1, ((nI nc), (nI nb), (nI dr), (nI lo), (nI tm), (nI ln), dn, re, (nI lg), (nI mc), ck, rt, lk, (le 0), (le 1), (le 2), (le 3), (le 4), (le 5), (le 6), (ne 0), (ne 1), (ne 2), (ne 3), (ne 4), pc, (pe 0), (pe 1), (pe 2), (pe 3), (pe 4), bv, bw, (ms 0), (ms 1), (ms 2), (ms 3), (ms 4), (ms 5), (ms 6)), ((nI nc), (nI nb), (nI dr), (nI lo), (nI tm), (nI ln), (nI lg), re, (nI mc), (nI gc), dn, ck, rt, ct, bv, bw, ha, mm, gg, pp, pc), zz_rel hR, fun _ h => br_t a h, fun _ h => br_t a h⟩
  by_cases a' : v1 ≤ 100
  case neg => exact ⟨-1, ((nI nc), (nI nb), (nI dr), (nI lo), (nI tm), (nI ln), dn, re, (nI lg), (nI mc), ck, rt, lk, (le 0), (le 1), (le 2), (le 3), (le 4), (le 5), (le 6), (ne 0), (ne 1), (ne 2), (ne 3), (ne 4), pc, (pe 0), (pe 1), (pe 2), (pe 3), (pe 4), bv, bw, (ms 0), (ms 1), (ms 2), (ms 3), (ms 4), (ms 5), (ms 6)), ((nI nc), (nI nb), (nI dr), (nI lo), (nI tm), (nI ln), (nI lg), re, (nI mc), (nI gc), dn, ck, rt, ct, bv, bw, ha, mm, gg, pp, pc), zz_rel hR, fun _ h => br_f a (br_f a' h), fun _ h => br_f a (br_f a' h)⟩
  obtain ⟨D, hD, rfl⟩ : ∃ D, D ≤ 100 ∧ v1 = nI D := by
    have z : ¬ v1 < 0 := by
      rw [zz_lt, zz_t1] at a; rw [zz_lt, zz_t0]; omega
    obtain ⟨D, hD, rfl⟩ := nI_of z
    have a2 : nI D ≤ nI 100 := a'
    rw [nI_leI hD (by omega)] at a2
    exact ⟨D, a2, rfl⟩
  have es : nI tm + nI D = nI (tm + D) := nI_add tm D
  by_cases q : tm + D ≤ 60000
  · have q' : nI tm + nI D ≤ 60000 := by rw [es]; exact nI_le (b := 60000) q (by decide)
    obtain ⟨r, tm2, lg2, mc2, gc2, pn2, ck2, le2, ne2, pe2, ms2, pc2, bv2, bw2, ha2, mm2, gg2, pp2, hR3, hX2, hY2⟩ := zz_adv31 (dn := dn) (re := re) (bv := bv) (bw := bw) hD D 0 (by omega) hR q 0
    exact ⟨r, ((nI nc), (nI nb), (nI dr), (nI lo), (nI tm2), (nI ln), dn, re, (nI lg2), (nI mc2), ck2, rt, lk, (le2 0), (le2 1), (le2 2), (le2 3), (le2 4), (le2 5), (le2 6), (ne2 0), (ne2 1), (ne2 2), (ne2 3), (ne2 4), pc2, (pe2 0), (pe2 1), (pe2 2), (pe2 3), (pe2 4), bv2, bw2, (ms2 0), (ms2 1), (ms2 2), (ms2 3), (ms2 4), (ms2 5), (ms2 6)), ((nI nc), (nI nb), (nI dr), (nI lo), (nI tm2), (nI ln), (nI lg2), re, (nI mc2), (nI gc2), dn, ck2, rt, ct, bv2, bw2, ha2, mm2, gg2, pp2, pc2), zz_rel hR3, fun post h => br_f a (br_t a' (br_t q' ⟨D + 1, hX2 post h⟩)), fun post h => br_f a (br_t a' (br_t q' ⟨D + 1, hY2 post h⟩))⟩
  · have q' : ¬ nI tm + nI D ≤ 60000 := by rw [es]; exact nI_ge (b := tm + D) (a := 60000) (by omega) (by omega)
    exact ⟨-2, ((nI nc), (nI nb), (nI dr), (nI lo), (nI tm), (nI ln), dn, re, (nI lg), (nI mc), ck, rt, lk, (le 0), (le 1), (le 2), (le 3), (le 4), (le 5), (le 6), (ne 0), (ne 1), (ne 2), (ne 3), (ne 4), pc, (pe 0), (pe 1), (pe 2), (pe 3), (pe 4), bv, bw, (ms 0), (ms 1), (ms 2), (ms 3), (ms 4), (ms 5), (ms 6)), ((nI nc), (nI nb), (nI dr), (nI lo), (nI tm), (nI ln), (nI lg), re, (nI mc), (nI gc), dn, ck, rt, ct, bv, bw, ha, mm, gg, pp, pc), zz_rel hR, fun _ h => br_f a (br_t a' (br_f q' h)), fun _ h => br_f a (br_t a' (br_f q' h))⟩
end
end
section
/-! the constructors, and what is owed -/
theorem zz_clm_n (x : Int32) {a b : Nat} (hab : a ≤ b) (hb : b < 2 ^ 31) : ∃ m, a ≤ m ∧ m ≤ b ∧ zz_clm x (nI a) (nI b) = nI m := by
  unfold zz_clm
  by_cases q : nI a ≤ x
  · rw [if_pos q]
    by_cases s : x ≤ nI b
    · rw [if_pos s]
      rw [zz_le, nI_toInt (by omega)] at q
      have z : ¬ x < 0 := by rw [zz_lt, zz_t0]; omega
      obtain ⟨m, hm, rfl⟩ := nI_of z
      rw [nI_toInt hm] at q
      rw [nI_leI hm hb] at s
      exact ⟨m, by omega, s, rfl⟩
    · rw [if_neg s]; exact ⟨b, hab, Nat.le_refl _, rfl⟩
  · rw [if_neg q]; exact ⟨a, Nat.le_refl _, hab, rfl⟩
theorem zz_ini341 {f_clients f_blocks f_drift f_longest f_time f_lastNumber f_down f_recoveryEnd f_longestGranted f_msgCount : Int32} {a_clock a_rate a_leaseMode a_leaseNumber a_leaseEnd a_leaseUnacked a_awaitNumber a_awaitMode a_awaitEnd a_newestNumber a_newestMode a_newestEnd a_maxWriteEnd a_maxAnyEnd a_pendCount a_pendClient a_pendNumber a_pendMode a_pendTerm a_pendMark a_blockValue a_blockWrite a_msgKind a_msgClient a_msgBlock a_msgNumber a_msgLease a_msgMode a_msgLast : Nat → Int32} {post : SX → Prop} : ∀ d j, j + d = 4 → ∀ lk lk' : Nat → Int32, (∀ q, lk' q = if j ≤ q ∧ q < 4 then 1 else lk q) → post (f_clients, f_blocks, f_drift, f_longest, f_time, f_lastNumber, f_down, f_recoveryEnd, f_longestGranted, f_msgCount, a_clock, a_rate, lk', a_leaseMode, a_leaseNumber, a_leaseEnd, a_leaseUnacked, a_awaitNumber, a_awaitMode, a_awaitEnd, a_newestNumber, a_newestMode, a_newestEnd, a_maxWriteEnd, a_maxAnyEnd, a_pendCount, a_pendClient, a_pendNumber, a_pendMode, a_pendTerm, a_pendMark, a_blockValue, a_blockWrite, a_msgKind, a_msgClient, a_msgBlock, a_msgNumber, a_msgLease, a_msgMode, a_msgLast) → wX_init_341 post f_clients f_blocks f_drift f_longest f_time f_lastNumber f_down f_recoveryEnd f_longestGranted f_msgCount (d + 1) (nI j) a_clock a_rate lk a_leaseMode a_leaseNumber a_leaseEnd a_leaseUnacked a_awaitNumber a_awaitMode a_awaitEnd a_newestNumber a_newestMode a_newestEnd a_maxWriteEnd a_maxAnyEnd a_pendCount a_pendClient a_pendNumber a_pendMode a_pendTerm a_pendMark a_blockValue a_blockWrite a_msgKind a_msgClient a_msgBlock a_msgNumber a_msgLease a_msgMode a_msgLast := by
  intro d
  induction d with
  | zero =>
    intro j hj lk lk' e h
    obtain rfl : lk' = lk := funext fun q => by rw [e, if_neg (by omega)]
    exact br_t (nI_le (a := 4) (by omega) (by omega)) h
  | succ d ih =>
    intro j hj lk lk' e h
    refine br_f (nI_ge (b := 4) (by omega) (by omega)) (zz_st j rfl (by omega) (by decide) (nm_r (nI_1 j) (ih (j + 1) (by omega) (upd lk j 1) lk' (fun q => ?_) h)))
    rw [e q]
    by_cases q1 : q = j
    · subst q1
      rw [if_pos (by omega), if_neg (by omega), pk_us]
    · rw [pk_un q1]
      by_cases q2 : j + 1 ≤ q ∧ q < 4
      · rw [if_pos (by omega), if_pos q2]
      · rw [if_neg (by omega), if_neg q2]
theorem zz_ini317 {f_clients f_blocks f_drift f_longest f_time f_lastNumber f_down f_recoveryEnd f_longestGranted f_msgCount : Int32} {a_clock a_linkUp a_leaseMode a_leaseNumber a_leaseEnd a_leaseUnacked a_awaitNumber a_awaitMode a_awaitEnd a_newestNumber a_newestMode a_newestEnd a_maxWriteEnd a_maxAnyEnd a_pendCount a_pendClient a_pendNumber a_pendMode a_pendTerm a_pendMark a_blockValue a_blockWrite a_msgKind a_msgClient a_msgBlock a_msgNumber a_msgLease a_msgMode a_msgLast : Nat → Int32} {post : SX → Prop} : ∀ d j, j + d = 5 → ∀ rt rt' : Nat → Int32, (∀ q, rt' q = if j ≤ q ∧ q < 5 then 10 else rt q) → (∃ n, wX_init_341 post f_clients f_blocks f_drift f_longest f_time f_lastNumber f_down f_recoveryEnd f_longestGranted f_msgCount n 0 a_clock rt' a_linkUp a_leaseMode a_leaseNumber a_leaseEnd a_leaseUnacked a_awaitNumber a_awaitMode a_awaitEnd a_newestNumber a_newestMode a_newestEnd a_maxWriteEnd a_maxAnyEnd a_pendCount a_pendClient a_pendNumber a_pendMode a_pendTerm a_pendMark a_blockValue a_blockWrite a_msgKind a_msgClient a_msgBlock a_msgNumber a_msgLease a_msgMode a_msgLast) → wX_init_317 post f_clients f_blocks f_drift f_longest f_time f_lastNumber f_down f_recoveryEnd f_longestGranted f_msgCount (d + 1) (nI j) a_clock rt a_linkUp a_leaseMode a_leaseNumber a_leaseEnd a_leaseUnacked a_awaitNumber a_awaitMode a_awaitEnd a_newestNumber a_newestMode a_newestEnd a_maxWriteEnd a_maxAnyEnd a_pendCount a_pendClient a_pendNumber a_pendMode a_pendTerm a_pendMark a_blockValue a_blockWrite a_msgKind a_msgClient a_msgBlock a_msgNumber a_msgLease a_msgMode a_msgLast := by
  intro d
  induction d with
  | zero =>
    intro j hj rt rt' e h
    obtain rfl : rt' = rt := funext fun q => by rw [e, if_neg (by omega)]
    exact br_t (nI_le (a := 5) (by omega) (by omega)) h
  | succ d ih =>
    intro j hj rt rt' e h
    refine br_f (nI_ge (b := 5) (by omega) (by omega)) (zz_st j rfl (by omega) (by decide) (nm_r (nI_1 j) (ih (j + 1) (by omega) (upd rt j 10) rt' (fun q => ?_) h)))
    rw [e q]
    by_cases q1 : q = j
    · subst q1
      rw [if_pos (by omega), if_neg (by omega), pk_us]
    · rw [pk_un q1]
      by_cases q2 : j + 1 ≤ q ∧ q < 5
      · rw [if_pos (by omega), if_pos q2]
      · rw [if_neg (by omega), if_neg q2]
theorem zz_iniY {f_clients f_blocks f_drift f_longest f_time f_lastNumber f_longestGranted f_recoveryEnd f_msgCount f_grantCount f_down : Int32} {a_clock a_cut a_value a_written a_has a_msg a_grant a_pend a_pendCount : Nat → Int32} {post : SY → Prop} : ∀ d j, j + d = 5 → ∀ rt rt' : Nat → Int32, (∀ q, rt' q = if j ≤ q ∧ q < 5 then 10 else rt q) → post (f_clients, f_blocks, f_drift, f_longest, f_time, f_lastNumber, f_longestGranted, f_recoveryEnd, f_msgCount, f_grantCount, f_down, a_clock, rt', a_cut, a_value, a_written, a_has, a_msg, a_grant, a_pend, a_pendCount) → wY_init_129 post f_clients f_blocks f_drift f_longest f_time f_lastNumber f_longestGranted f_recoveryEnd f_msgCount f_grantCount f_down (d + 1) (nI j) a_clock rt a_cut a_value a_written a_has a_msg a_grant a_pend a_pendCount := by
  intro d
  induction d with
  | zero =>
    intro j hj rt rt' e h
    obtain rfl : rt' = rt := funext fun q => by rw [e, if_neg (by omega)]
    exact br_t (nI_le (a := 5) (by omega) (by omega)) h
  | succ d ih =>
    intro j hj rt rt' e h
    refine br_f (nI_ge (b := 5) (by omega) (by omega)) (zz_st j rfl (by omega) (by decide) (nm_r (nI_1 j) (ih (j + 1) (by omega) (upd rt j 10) rt' (fun q => ?_) h)))
    rw [e q]
    by_cases q1 : q = j
    · subst q1
      rw [if_pos (by omega), if_neg (by omega), pk_us]
    · rw [pk_un q1]
      by_cases q2 : j + 1 ≤ q ∧ q < 5
      · rw [if_pos (by omega), if_pos q2]
      · rw [if_neg (by omega), if_neg q2]
theorem zz_R_init {a b d l : Nat} {rt lk : Nat → Int32} (ha : 2 ≤ a) (ha' : a ≤ 4) (hb : 1 ≤ b) (hb' : b ≤ 4) (hd : d ≤ 3) (hl : 1 ≤ l) (hl' : l ≤ 20) (er : ∀ q, rt q = if 0 ≤ q ∧ q < 5 then 10 else 0) (el : ∀ q, lk q = if 0 ≤ q ∧ q < 4 then 1 else 0) : zz_R a b d l 0 0 0 0 0 (fun _ => 0) (fun _ => 0) rt lk (fun _ _ => 0) (fun _ _ => 0) (fun _ _ => 0) (fun _ _ => 0) (fun _ => 0) (fun _ => 0) (fun _ => 0) (fun _ => 0) (fun _ => 0) (fun _ => 0) := by
  refine ⟨⟨ha, ha', hb, hb', hd, hl, hl', by omega, by omega, by omega⟩, ?_, ?_, ?_, ?_, ?_, ?_, ?_⟩
  · intro i hi
    show 0 ≤ (0 : Int32).toInt ∧ (0 : Int32).toInt ≤ 13 * (0 : Nat) ∧ 7 ≤ (rt i).toInt ∧ (rt i).toInt ≤ 13
    rw [er, if_pos (by omega)]
    decide
  · intro c hc
    rw [el, if_pos (by omega)]
    exact ⟨fun z => absurd z zz_01, fun z => absurd rfl z⟩
  · intro p hp hq
    exact ⟨rfl, fun z => absurd rfl z, rfl, fun z => absurd rfl z⟩
  · exact ⟨by omega, fun i hi => absurd hi (Nat.not_lt_zero _)⟩
  · intro y hy
    exact ⟨rfl, Nat.zero_le _, fun _ => rfl, fun k hk => absurd hk (Nat.not_lt_zero _)⟩
  · exact ⟨⟨by omega, fun g hg => absurd hg (Nat.not_lt_zero _)⟩, fun c b hc hb => ⟨rfl, rfl, rfl, rfl, rfl⟩⟩
  · exact Nat.le_refl 0
theorem i_vc0 (k0 : Int32) (k1 : Int32) (k2 : Int32) (k3 : Int32) : wpX_init (fun u => wpY_init (fun v => i_Rel 4 u v) k0 k1 k2 k3) k0 k1 k2 k3 := by
  obtain ⟨a, ha, ha', ea⟩ := zz_clm_n k0 (a := 2) (b := 4) (by decide) (by decide)
  obtain ⟨b, hb, hb', eb⟩ := zz_clm_n k1 (a := 1) (b := 4) (by decide) (by decide)
  obtain ⟨d, hd, hd', ed⟩ := zz_clm_n k2 (a := 0) (b := 3) (by decide) (by decide)
  obtain ⟨l, hl, hl', el⟩ := zz_clm_n k3 (a := 1) (b := 20) (by decide) (by decide)
  have ea : zz_clm k0 2 4 = nI a := ea
  have eb : zz_clm k1 1 4 = nI b := eb
  have ed : zz_clm k2 0 3 = nI d := ed
  have el : zz_clm k3 1 20 = nI l := el
  have xr : ∃ rt : Nat → Int32, ∀ q, rt q = if 0 ≤ q ∧ q < 5 then 10 else 0 := ⟨_, fun _ => rfl⟩
  have xl : ∃ lk : Nat → Int32, ∀ q, lk q = if 0 ≤ q ∧ q < 4 then 1 else 0 := ⟨_, fun _ => rfl⟩
  obtain ⟨rt, er⟩ := xr
  obtain ⟨lk, ek⟩ := xl
  have hR := zz_R_init ha ha' hb hb' hd' hl hl' er ek
  have Y : wpY_init (fun v => i_Rel 4 (nI a, nI b, nI d, nI l, 0, 0, 0, 0, 0, 0, fun _ => 0, rt, lk, fun _ => 0, fun _ => 0, fun _ => 0, fun _ => 0, fun _ => 0, fun _ => 0, fun _ => 0, fun _ => 0, fun _ => 0, fun _ => 0, fun _ => 0, fun _ => 0, fun _ => 0, fun _ => 0, fun _ => 0, fun _ => 0, fun _ => 0, fun _ => 0, fun _ => 0, fun _ => 0, fun _ => 0, fun _ => 0, fun _ => 0, fun _ => 0, fun _ => 0, fun _ => 0, fun _ => 0) v) k0 k1 k2 k3 := by
    unfold wpY_init
    refine zz_clampY ?_
    rw [ea]
    refine zz_clampY ?_
    rw [eb]
    refine zz_clampY ?_
    rw [ed]
    refine zz_clampY ?_
    rw [el]
    refine ⟨5 + 1, zz_iniY 5 0 (by omega) _ rt er ?_⟩
    exact zz_rel hR
  unfold wpX_init
  refine zz_clampX ?_
  rw [ea]
  refine zz_clampX ?_
  rw [eb]
  refine zz_clampX ?_
  rw [ed]
  refine zz_clampX ?_
  rw [el]
  exact ⟨5 + 1, zz_ini317 5 0 (by omega) _ rt er ⟨4 + 1, zz_ini341 4 0 (by omega) _ lk ek Y⟩⟩
theorem i_vc_request {k : Nat} {u : SX} {v : SY} (I : i_Rel k u v) (hk : k + 5 ≤ 2564) (v1 : Int32) (v2 : Int32) (v3 : Int32) (v4 : Int32) : wpX_request (fun r u' => wpY_request (fun r' v' => r' = r ∧ i_Rel (k + 5) u' v') v v1 v2 v3 v4) u v1 v2 v3 v4 := by
  refine zz_el (Q := fun u v => wpX_request (fun r u' => wpY_request (fun r' v' => r' = r ∧ i_Rel (k + 5) u' v') v v1 v2 v3 v4) u v1 v2 v3 v4) ?_ I
  intro nc nb dr lo tm ln lg mc gc pn dn re ck rt lk le ne pe ms pc bv bw ct ha mm gg pp hR
  obtain ⟨r, u', v', hrel, hX, hY⟩ := zz_s_request (dn := dn) (re := re) (bv := bv) (bw := bw) hR v1 v2 v3 v4
  exact hX _ (hY _ ⟨rfl, hrel⟩)
theorem i_vc_write {k : Nat} {u : SX} {v : SY} (I : i_Rel k u v) (hk : k + 5 ≤ 2564) (v1 : Int32) (v2 : Int32) (v3 : Int32) : wpX_write (fun r u' => wpY_write (fun r' v' => r' = r ∧ i_Rel (k + 5) u' v') v v1 v2 v3) u v1 v2 v3 := by
  refine zz_el (Q := fun u v => wpX_write (fun r u' => wpY_write (fun r' v' => r' = r ∧ i_Rel (k + 5) u' v') v v1 v2 v3) u v1 v2 v3) ?_ I
  intro nc nb dr lo tm ln lg mc gc pn dn re ck rt lk le ne pe ms pc bv bw ct ha mm gg pp hR
  obtain ⟨r, u', v', hrel, hX, hY⟩ := zz_s_write (dn := dn) (re := re) (bv := bv) (bw := bw) hR v1 v2 v3
  exact hX _ (hY _ ⟨rfl, hrel⟩)
theorem i_vc_release {k : Nat} {u : SX} {v : SY} (I : i_Rel k u v) (hk : k + 5 ≤ 2564) (v1 : Int32) (v2 : Int32) : wpX_release (fun r u' => wpY_release (fun r' v' => r' = r ∧ i_Rel (k + 5) u' v') v v1 v2) u v1 v2 := by
  refine zz_el (Q := fun u v => wpX_release (fun r u' => wpY_release (fun r' v' => r' = r ∧ i_Rel (k + 5) u' v') v v1 v2) u v1 v2) ?_ I
  intro nc nb dr lo tm ln lg mc gc pn dn re ck rt lk le ne pe ms pc bv bw ct ha mm gg pp hR
  obtain ⟨r, u', v', hrel, hX, hY⟩ := zz_s_release (dn := dn) (re := re) (bv := bv) (bw := bw) hR v1 v2
  exact hX _ (hY _ ⟨rfl, hrel⟩)
theorem i_vc_deliver {k : Nat} {u : SX} {v : SY} (I : i_Rel k u v) (hk : k + 5 ≤ 2564) (v1 : Int32) : wpX_deliver (fun r u' => wpY_deliver (fun r' v' => r' = r ∧ i_Rel (k + 5) u' v') v v1) u v1 := by
  refine zz_el (Q := fun u v => wpX_deliver (fun r u' => wpY_deliver (fun r' v' => r' = r ∧ i_Rel (k + 5) u' v') v v1) u v1) ?_ I
  intro nc nb dr lo tm ln lg mc gc pn dn re ck rt lk le ne pe ms pc bv bw ct ha mm gg pp hR
  obtain ⟨r, u', v', hrel, hX, hY⟩ := zz_s_deliver (dn := dn) (re := re) (bv := bv) (bw := bw) hR v1
  exact hX _ (hY _ ⟨rfl, hrel⟩)
theorem i_vc_drop {k : Nat} {u : SX} {v : SY} (I : i_Rel k u v) (hk : k + 5 ≤ 2564) (v1 : Int32) : wpX_drop (fun r u' => wpY_drop (fun r' v' => r' = r ∧ i_Rel (k + 5) u' v') v v1) u v1 := by
  refine zz_el (Q := fun u v => wpX_drop (fun r u' => wpY_drop (fun r' v' => r' = r ∧ i_Rel (k + 5) u' v') v v1) u v1) ?_ I
  intro nc nb dr lo tm ln lg mc gc pn dn re ck rt lk le ne pe ms pc bv bw ct ha mm gg pp hR
  obtain ⟨r, u', v', hrel, hX, hY⟩ := zz_s_drop (dn := dn) (re := re) (bv := bv) (bw := bw) hR v1
  exact hX _ (hY _ ⟨rfl, hrel⟩)
theorem i_vc_advance {k : Nat} {u : SX} {v : SY} (I : i_Rel k u v) (hk : k + 5 ≤ 2564) (v1 : Int32) : wpX_advance (fun r u' => wpY_advance (fun r' v' => r' = r ∧ i_Rel (k + 5) u' v') v v1) u v1 := by
  refine zz_el (Q := fun u v => wpX_advance (fun r u' => wpY_advance (fun r' v' => r' = r ∧ i_Rel (k + 5) u' v') v v1) u v1) ?_ I
  intro nc nb dr lo tm ln lg mc gc pn dn re ck rt lk le ne pe ms pc bv bw ct ha mm gg pp hR
  obtain ⟨r, u', v', hrel, hX, hY⟩ := zz_s_advance (dn := dn) (re := re) (bv := bv) (bw := bw) hR v1
  exact hX _ (hY _ ⟨rfl, hrel⟩)
theorem i_vc_setRate {k : Nat} {u : SX} {v : SY} (I : i_Rel k u v) (hk : k + 5 ≤ 2564) (v1 : Int32) (v2 : Int32) : wpX_setRate (fun r u' => wpY_setRate (fun r' v' => r' = r ∧ i_Rel (k + 5) u' v') v v1 v2) u v1 v2 := by
  refine zz_el (Q := fun u v => wpX_setRate (fun r u' => wpY_setRate (fun r' v' => r' = r ∧ i_Rel (k + 5) u' v') v v1 v2) u v1 v2) ?_ I
  intro nc nb dr lo tm ln lg mc gc pn dn re ck rt lk le ne pe ms pc bv bw ct ha mm gg pp hR
  obtain ⟨r, u', v', hrel, hX, hY⟩ := zz_s_setRate (dn := dn) (re := re) (bv := bv) (bw := bw) hR v1 v2
  exact hX _ (hY _ ⟨rfl, hrel⟩)
theorem i_vc_setLink {k : Nat} {u : SX} {v : SY} (I : i_Rel k u v) (hk : k + 5 ≤ 2564) (v1 : Int32) (v2 : Int32) : wpX_setLink (fun r u' => wpY_setLink (fun r' v' => r' = r ∧ i_Rel (k + 5) u' v') v v1 (lw_bz v2)) u v1 (lw_bz v2) := by
  refine zz_el (Q := fun u v => wpX_setLink (fun r u' => wpY_setLink (fun r' v' => r' = r ∧ i_Rel (k + 5) u' v') v v1 (lw_bz v2)) u v1 (lw_bz v2)) ?_ I
  intro nc nb dr lo tm ln lg mc gc pn dn re ck rt lk le ne pe ms pc bv bw ct ha mm gg pp hR
  obtain ⟨r, u', v', hrel, hX, hY⟩ := zz_s_setLink (dn := dn) (re := re) (bv := bv) (bw := bw) hR v1 v2
  exact hX _ (hY _ ⟨rfl, hrel⟩)
theorem i_vc_crashClient {k : Nat} {u : SX} {v : SY} (I : i_Rel k u v) (hk : k + 5 ≤ 2564) (v1 : Int32) : wpX_crashClient (fun r u' => wpY_crashClient (fun r' v' => r' = r ∧ i_Rel (k + 5) u' v') v v1) u v1 := by
  refine zz_el (Q := fun u v => wpX_crashClient (fun r u' => wpY_crashClient (fun r' v' => r' = r ∧ i_Rel (k + 5) u' v') v v1) u v1) ?_ I
  intro nc nb dr lo tm ln lg mc gc pn dn re ck rt lk le ne pe ms pc bv bw ct ha mm gg pp hR
  obtain ⟨r, u', v', hrel, hX, hY⟩ := zz_s_crashClient (dn := dn) (re := re) (bv := bv) (bw := bw) hR v1
  exact hX _ (hY _ ⟨rfl, hrel⟩)
theorem i_vc_crashServer {k : Nat} {u : SX} {v : SY} (I : i_Rel k u v) (hk : k + 5 ≤ 2564) : wpX_crashServer (fun r u' => wpY_crashServer (fun r' v' => r' = r ∧ i_Rel (k + 5) u' v') v) u := by
  refine zz_el (Q := fun u v => wpX_crashServer (fun r u' => wpY_crashServer (fun r' v' => r' = r ∧ i_Rel (k + 5) u' v') v) u) ?_ I
  intro nc nb dr lo tm ln lg mc gc pn dn re ck rt lk le ne pe ms pc bv bw ct ha mm gg pp hR
  obtain ⟨r, u', v', hrel, hX, hY⟩ := zz_s_crashServer (dn := dn) (re := re) (bv := bv) (bw := bw) hR
  exact hX _ (hY _ ⟨rfl, hrel⟩)
theorem i_vc_restartServer {k : Nat} {u : SX} {v : SY} (I : i_Rel k u v) (hk : k + 5 ≤ 2564) : wpX_restartServer (fun r u' => wpY_restartServer (fun r' v' => r' = r ∧ i_Rel (k + 5) u' v') v) u := by
  refine zz_el (Q := fun u v => wpX_restartServer (fun r u' => wpY_restartServer (fun r' v' => r' = r ∧ i_Rel (k + 5) u' v') v) u) ?_ I
  intro nc nb dr lo tm ln lg mc gc pn dn re ck rt lk le ne pe ms pc bv bw ct ha mm gg pp hR
  obtain ⟨r, u', v', hrel, hX, hY⟩ := zz_s_restartServer (dn := dn) (re := re) (bv := bv) (bw := bw) hR
  exact hX _ (hY _ ⟨rfl, hrel⟩)
theorem i_vc_read {k : Nat} {u : SX} {v : SY} (I : i_Rel k u v) (hk : k + 5 ≤ 2564) (v1 : Int32) (v2 : Int32) : wpX_read (fun r => wpY_read (fun r' => r' = r ∧ i_Rel (k + 5) u v) v v1 v2) u v1 v2 := by
  refine zz_el (Q := fun u v => wpX_read (fun r => wpY_read (fun r' => r' = r ∧ i_Rel (k + 5) u v) v v1 v2) u v1 v2) ?_ I
  intro nc nb dr lo tm ln lg mc gc pn dn re ck rt lk le ne pe ms pc bv bw ct ha mm gg pp hR
  obtain ⟨r, hX, hY⟩ := zz_g_read (dn := dn) (re := re) (bv := bv) (bw := bw) hR v1 v2
  exact hX _ (hY _ ⟨rfl, zz_rel hR⟩)
theorem i_vc_messageCount {k : Nat} {u : SX} {v : SY} (I : i_Rel k u v) (hk : k + 5 ≤ 2564) : wpX_messageCount (fun r => wpY_messageCount (fun r' => r' = r ∧ i_Rel (k + 5) u v) v) u := by
  refine zz_el (Q := fun u v => wpX_messageCount (fun r => wpY_messageCount (fun r' => r' = r ∧ i_Rel (k + 5) u v) v) u) ?_ I
  intro nc nb dr lo tm ln lg mc gc pn dn re ck rt lk le ne pe ms pc bv bw ct ha mm gg pp hR
  obtain ⟨r, hX, hY⟩ := zz_g_messageCount (dn := dn) (re := re) (bv := bv) (bw := bw) hR
  exact hX _ (hY _ ⟨rfl, zz_rel hR⟩)
theorem i_vc_messageField {k : Nat} {u : SX} {v : SY} (I : i_Rel k u v) (hk : k + 5 ≤ 2564) (v1 : Int32) (v2 : Int32) : wpX_messageField (fun r => wpY_messageField (fun r' => r' = r ∧ i_Rel (k + 5) u v) v v1 v2) u v1 v2 := by
  refine zz_el (Q := fun u v => wpX_messageField (fun r => wpY_messageField (fun r' => r' = r ∧ i_Rel (k + 5) u v) v v1 v2) u v1 v2) ?_ I
  intro nc nb dr lo tm ln lg mc gc pn dn re ck rt lk le ne pe ms pc bv bw ct ha mm gg pp hR
  obtain ⟨r, hX, hY⟩ := zz_g_messageField (dn := dn) (re := re) (bv := bv) (bw := bw) hR v1 v2
  exact hX _ (hY _ ⟨rfl, zz_rel hR⟩)
theorem i_vc_clientField {k : Nat} {u : SX} {v : SY} (I : i_Rel k u v) (hk : k + 5 ≤ 2564) (v1 : Int32) (v2 : Int32) (v3 : Int32) : wpX_clientField (fun r => wpY_clientField (fun r' => r' = r ∧ i_Rel (k + 5) u v) v v1 v2 v3) u v1 v2 v3 := by
  refine zz_el (Q := fun u v => wpX_clientField (fun r => wpY_clientField (fun r' => r' = r ∧ i_Rel (k + 5) u v) v v1 v2 v3) u v1 v2 v3) ?_ I
  intro nc nb dr lo tm ln lg mc gc pn dn re ck rt lk le ne pe ms pc bv bw ct ha mm gg pp hR
  obtain ⟨r, hX, hY⟩ := zz_g_clientField (dn := dn) (re := re) (bv := bv) (bw := bw) hR v1 v2 v3
  exact hX _ (hY _ ⟨rfl, zz_rel hR⟩)
theorem i_vc_grantField {k : Nat} {u : SX} {v : SY} (I : i_Rel k u v) (hk : k + 5 ≤ 2564) (v1 : Int32) (v2 : Int32) (v3 : Int32) : wpX_grantField (fun r => wpY_grantField (fun r' => r' = r ∧ i_Rel (k + 5) u v) v v1 v2 v3) u v1 v2 v3 := by
  refine zz_el (Q := fun u v => wpX_grantField (fun r => wpY_grantField (fun r' => r' = r ∧ i_Rel (k + 5) u v) v v1 v2 v3) u v1 v2 v3) ?_ I
  intro nc nb dr lo tm ln lg mc gc pn dn re ck rt lk le ne pe ms pc bv bw ct ha mm gg pp hR
  obtain ⟨r, hX, hY⟩ := zz_g_grantField (dn := dn) (re := re) (bv := bv) (bw := bw) hR v1 v2 v3
  exact hX _ (hY _ ⟨rfl, zz_rel hR⟩)
theorem i_vc_stored {k : Nat} {u : SX} {v : SY} (I : i_Rel k u v) (hk : k + 5 ≤ 2564) (v1 : Int32) : wpX_stored (fun r => wpY_stored (fun r' => r' = r ∧ i_Rel (k + 5) u v) v v1) u v1 := by
  refine zz_el (Q := fun u v => wpX_stored (fun r => wpY_stored (fun r' => r' = r ∧ i_Rel (k + 5) u v) v v1) u v1) ?_ I
  intro nc nb dr lo tm ln lg mc gc pn dn re ck rt lk le ne pe ms pc bv bw ct ha mm gg pp hR
  obtain ⟨r, hX, hY⟩ := zz_g_stored (dn := dn) (re := re) (bv := bv) (bw := bw) hR v1
  exact hX _ (hY _ ⟨rfl, zz_rel hR⟩)
theorem i_vc_lastWrite {k : Nat} {u : SX} {v : SY} (I : i_Rel k u v) (hk : k + 5 ≤ 2564) (v1 : Int32) : wpX_lastWrite (fun r => wpY_lastWrite (fun r' => r' = r ∧ i_Rel (k + 5) u v) v v1) u v1 := by
  refine zz_el (Q := fun u v => wpX_lastWrite (fun r => wpY_lastWrite (fun r' => r' = r ∧ i_Rel (k + 5) u v) v v1) u v1) ?_ I
  intro nc nb dr lo tm ln lg mc gc pn dn re ck rt lk le ne pe ms pc bv bw ct ha mm gg pp hR
  obtain ⟨r, hX, hY⟩ := zz_g_lastWrite (dn := dn) (re := re) (bv := bv) (bw := bw) hR v1
  exact hX _ (hY _ ⟨rfl, zz_rel hR⟩)
theorem i_vc_pendingCount {k : Nat} {u : SX} {v : SY} (I : i_Rel k u v) (hk : k + 5 ≤ 2564) (v1 : Int32) : wpX_pendingCount (fun r => wpY_pendingCount (fun r' => r' = r ∧ i_Rel (k + 5) u v) v v1) u v1 := by
  refine zz_el (Q := fun u v => wpX_pendingCount (fun r => wpY_pendingCount (fun r' => r' = r ∧ i_Rel (k + 5) u v) v v1) u v1) ?_ I
  intro nc nb dr lo tm ln lg mc gc pn dn re ck rt lk le ne pe ms pc bv bw ct ha mm gg pp hR
  obtain ⟨r, hX, hY⟩ := zz_g_pendingCount (dn := dn) (re := re) (bv := bv) (bw := bw) hR v1
  exact hX _ (hY _ ⟨rfl, zz_rel hR⟩)
theorem i_vc_pendingField {k : Nat} {u : SX} {v : SY} (I : i_Rel k u v) (hk : k + 5 ≤ 2564) (v1 : Int32) (v2 : Int32) (v3 : Int32) : wpX_pendingField (fun r => wpY_pendingField (fun r' => r' = r ∧ i_Rel (k + 5) u v) v v1 v2 v3) u v1 v2 v3 := by
  refine zz_el (Q := fun u v => wpX_pendingField (fun r => wpY_pendingField (fun r' => r' = r ∧ i_Rel (k + 5) u v) v v1 v2 v3) u v1 v2 v3) ?_ I
  intro nc nb dr lo tm ln lg mc gc pn dn re ck rt lk le ne pe ms pc bv bw ct ha mm gg pp hR
  obtain ⟨r, hX, hY⟩ := zz_g_pendingField (dn := dn) (re := re) (bv := bv) (bw := bw) hR v1 v2 v3
  exact hX _ (hY _ ⟨rfl, zz_rel hR⟩)
theorem i_vc_nodeField {k : Nat} {u : SX} {v : SY} (I : i_Rel k u v) (hk : k + 5 ≤ 2564) (v1 : Int32) (v2 : Int32) : wpX_nodeField (fun r => wpY_nodeField (fun r' => r' = r ∧ i_Rel (k + 5) u v) v v1 v2) u v1 v2 := by
  refine zz_el (Q := fun u v => wpX_nodeField (fun r => wpY_nodeField (fun r' => r' = r ∧ i_Rel (k + 5) u v) v v1 v2) u v1 v2) ?_ I
  intro nc nb dr lo tm ln lg mc gc pn dn re ck rt lk le ne pe ms pc bv bw ct ha mm gg pp hR
  obtain ⟨r, hX, hY⟩ := zz_g_nodeField (dn := dn) (re := re) (bv := bv) (bw := bw) hR v1 v2
  exact hX _ (hY _ ⟨rfl, zz_rel hR⟩)
theorem i_vc_serverField {k : Nat} {u : SX} {v : SY} (I : i_Rel k u v) (hk : k + 5 ≤ 2564) (v1 : Int32) : wpX_serverField (fun r => wpY_serverField (fun r' => r' = r ∧ i_Rel (k + 5) u v) v v1) u v1 := by
  refine zz_el (Q := fun u v => wpX_serverField (fun r => wpY_serverField (fun r' => r' = r ∧ i_Rel (k + 5) u v) v v1) u v1) ?_ I
  intro nc nb dr lo tm ln lg mc gc pn dn re ck rt lk le ne pe ms pc bv bw ct ha mm gg pp hR
  obtain ⟨r, hX, hY⟩ := zz_g_serverField (dn := dn) (re := re) (bv := bv) (bw := bw) hR v1
  exact hX _ (hY _ ⟨rfl, zz_rel hR⟩)
end
