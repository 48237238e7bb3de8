section
/-! rows pasted from the kit (PURE-ROWS, BITS) and the counting rows of the example large-2 -/
theorem pk_us {f : Nat → Int32} {k : Nat} {x : Int32} : upd f k x k = x := if_pos rfl
theorem pk_un {f : Nat → Int32} {k j : Nat} {x : Int32} (h : j ≠ k) : upd f k x j = f j := if_neg h
theorem pk_sub {a b : Nat} (h : b ≤ a) : nI a - nI b = nI (a - b) := by
  obtain ⟨c, rfl⟩ : ∃ c, a = c + b := ⟨a - b, by omega⟩
  rw [← nI_add, Int32.add_sub_cancel, Nat.add_sub_cancel]
theorem pk_m1 (n : Nat) : nI (n + 1) + (-1) = nI n := by
  rw [← nI_1, Int32.add_assoc, show (1 : Int32) + (-1) = 0 from rfl, Int32.add_zero]
theorem pk_mul (a b : Nat) : nI a * nI b = nI (a * b) := (Int32.ofNat_mul a b).symm
theorem pk_sub_toInt {a b : Nat} (ha : a < 2 ^ 30) (hb : b < 2 ^ 30) : (nI a - nI b).toInt = (a : Int) - b := by
  rw [Int32.toInt_sub, nI_toInt (by omega), nI_toInt (by omega)]
  exact Int.bmod_eq_of_le (by omega) (by omega)
theorem pk_sneg {a b : Nat} (hb : b < 2 ^ 30) (h : a < b) : nI a - nI b < 0 := by
  rw [Int32.lt_iff_toInt_lt, pk_sub_toInt (by omega) hb, show (0 : Int32).toInt = 0 from by decide]
  omega
theorem pk_ix (x : Int32) {n : Nat} (hn : n < 2 ^ 31) : x < 0 ∨ nI n ≤ x ∨ ∃ j : Nat, j < n ∧ x = nI j := by
  by_cases h : x < 0
  · exact Or.inl h
  · obtain ⟨j, hj, rfl⟩ := nI_of h
    by_cases h2 : j < n
    · exact Or.inr (Or.inr ⟨j, h2, rfl⟩)
    · exact Or.inr (Or.inl (nI_le (by omega) hj))
theorem pk_le {x y : Int32} {A B : Prop} (a b : Nat) (f : a ≤ b → A) (g : b < a → B) (hx : x = nI a := by rfl) (hy : y = nI b := by rfl) (ha : a < 2 ^ 31 := by omega) (hb : b < 2 ^ 31 := by omega) : (x ≤ y → A) ∧ (¬ x ≤ y → B) := by
  subst hx hy
  rw [nI_leI ha hb]
  exact ⟨f, fun z => g (by omega)⟩
theorem pk_lt {x y : Int32} {A B : Prop} (a b : Nat) (f : a < b → A) (g : b ≤ a → B) (hx : x = nI a := by rfl) (hy : y = nI b := by rfl) (ha : a < 2 ^ 31 := by omega) (hb : b < 2 ^ 31 := by omega) : (x < y → A) ∧ (¬ x < y → B) := by
  subst hx hy
  rw [nI_ltI ha hb]
  exact ⟨f, fun z => g (by omega)⟩
theorem pk_eq {x y : Int32} {A B : Prop} (a b : Nat) (f : a = b → A) (g : a ≠ b → B) (hx : x = nI a := by rfl) (hy : y = nI b := by rfl) (ha : a < 2 ^ 31 := by omega) (hb : b < 2 ^ 31 := by omega) : (x = y → A) ∧ (¬ x = y → B) := by
  subst hx hy
  rw [nI_eq ha hb]
  exact ⟨f, g⟩
theorem pk_in {x : Int32} (n N : Nat) (h : n < N) (hx : x = nI n := by rfl) (hN : N < 2 ^ 31 := by omega) : vp_in x N := by
  subst hx
  exact vp_in_nI h hN
theorem pk_cl {x : Int32} (n : Nat) (hx : x = nI n := by rfl) (h : n < 2 ^ 31 := by omega) : x.toNatClampNeg = n := by
  subst hx
  exact nI_clamp h
theorem pk_tn {n : Nat} (h : n < 2 ^ 32) : (nI n).toBitVec.toNat = n := Nat.mod_eq_of_lt h
theorem pk_shr (a s : Int32) (k : Nat) (hs : (s.toBitVec.smod 32).toNat = k) : (a >>> s).toInt = a.toInt >>> k := by
  show (a.toBitVec.sshiftRight (s.toBitVec.smod 32).toNat).toInt = _
  rw [hs, BitVec.toInt_sshiftRight]
  rfl
theorem pk_shrN {n : Nat} (h : n < 2 ^ 31) (s : Int32) (k : Nat) (hs : (s.toBitVec.smod 32).toNat = k) : nI n >>> s = nI (n / 2 ^ k) := by
  apply Int32.toInt_inj.mp
  have h2 : n / 2 ^ k ≤ n := Nat.div_le_self _ _
  rw [pk_shr _ _ k hs, nI_toInt h, nI_toInt (by omega), Int.shiftRight_eq_div_pow]
  rfl
def bt (x : Int32) (i : Nat) : Bool := x.toBitVec.getLsbD i
theorem b_ext {x y : Int32} (h : ∀ i, i < 32 → bt x i = bt y i) : x = y := Int32.toBitVec_inj.mp (BitVec.eq_of_getLsbD_eq (fun i hi => h i hi))
theorem b_or (x y : Int32) (i : Nat) : bt (x ||| y) i = (bt x i || bt y i) := by unfold bt; rw [Int32.toBitVec_or, BitVec.getLsbD_or]
theorem b_and (x y : Int32) (i : Nat) : bt (x &&& y) i = (bt x i && bt y i) := by unfold bt; rw [Int32.toBitVec_and, BitVec.getLsbD_and]
theorem b_big {x : Int32} {i : Nat} (h : 32 ≤ i) : bt x i = false := BitVec.getLsbD_of_ge _ _ h
theorem b_0 (i : Nat) : bt 0 i = false := BitVec.getLsbD_zero
theorem s_l : ∀ n, n < 32 → ((nI n &&& 31).toBitVec.smod 32).toNat = n := by decide +kernel
theorem b_shl (n : Nat) (hn : n < 32) (x : Int32) {i : Nat} (hi : i < 32) : bt (x <<< (nI n &&& 31)) i = (decide (n ≤ i) && bt x (i - n)) := by
  unfold bt
  rw [Int32.toBitVec_shiftLeft]
  show (x.toBitVec <<< ((nI n &&& 31).toBitVec.smod 32).toNat).getLsbD i = _
  rw [s_l n hn, BitVec.getLsbD_shiftLeft]
  rcases Nat.lt_or_ge i n with h | h
  · simp [h, Nat.not_le.mpr h]
  · simp [hi, h, Nat.not_lt.mpr h]
noncomputable def b01 (P : Prop) : Nat := @ite Nat P (Classical.propDecidable P) 1 0
theorem b01_t {P : Prop} (h : P) : b01 P = 1 := by unfold b01; rw [if_pos h]
theorem b01_f {P : Prop} (h : ¬ P) : b01 P = 0 := by unfold b01; rw [if_neg h]
theorem b01_le (P : Prop) : b01 P ≤ 1 := by
  rcases Classical.em P with h | h
  · rw [b01_t h]; omega
  · rw [b01_f h]; omega
theorem b01_mono {P Q : Prop} (h : P → Q) : b01 P ≤ b01 Q := by
  rcases Classical.em P with hp | hp
  · rw [b01_t hp, b01_t (h hp)]; omega
  · rw [b01_f hp]; omega
noncomputable def cn (P : Nat → Prop) : Nat → Nat
  | 0 => 0
  | k + 1 => cn P k + b01 (P k)
theorem cn_mono {P Q : Nat → Prop} : ∀ {N : Nat}, (∀ k, k < N → P k → Q k) → cn P N ≤ cn Q N
  | 0, _ => Nat.le_refl _
  | N + 1, h => by
    have a := cn_mono (P := P) (Q := Q) (N := N) (fun k hk => h k (by omega))
    have b := b01_mono (h N (by omega))
    simp only [cn]; omega
theorem cn_lt {P Q : Nat → Prop} {a : Nat} (hp : ¬ P a) (hq : Q a) : ∀ {N : Nat}, (∀ k, k < N → P k → Q k) → a < N → cn P N < cn Q N
  | 0, _, h => by omega
  | N + 1, h, ha => by
    simp only [cn]
    rcases Nat.lt_or_ge a N with z | z
    · have x := cn_lt hp hq (N := N) (fun k hk => h k (by omega)) z
      have b := b01_mono (h N (by omega))
      omega
    · have e : a = N := by omega
      subst e
      have x := cn_mono (P := P) (Q := Q) (N := a) (fun k hk => h k (by omega))
      rw [b01_t hq, b01_f hp]; omega
theorem cn_le (P : Nat → Prop) : ∀ N, cn P N ≤ N
  | 0 => Nat.le_refl _
  | N + 1 => by have := cn_le P N; have := b01_le (P N); simp only [cn]; omega
theorem cn_eq {P Q : Nat → Prop} {N : Nat} (h : ∀ k, k < N → (P k ↔ Q k)) : cn P N = cn Q N :=
  Nat.le_antisymm (cn_mono fun k hk => (h k hk).mp) (cn_mono fun k hk => (h k hk).mpr)
theorem cn_add {P : Nat → Prop} {a : Nat} (hp : ¬ P a) : ∀ {N : Nat}, a < N → cn (fun k => P k ∨ k = a) N = cn P N + 1
  | 0, h => by omega
  | N + 1, h => by
    simp only [cn]
    rcases Nat.lt_or_ge a N with z | z
    · rw [cn_add hp z]
      have : b01 (P N ∨ N = a) = b01 (P N) := Nat.le_antisymm (b01_mono fun q => q.elim id (fun e => by omega)) (b01_mono Or.inl)
      omega
    · have e : a = N := by omega
      subst e
      rw [cn_eq (P := fun k => P k ∨ k = a) (Q := P) (fun k hk => ⟨fun q => q.elim id (fun e => by omega), Or.inl⟩), b01_t (Or.inr rfl), b01_f hp]
end
section
/-! embeddings of naturals and optional slots; stores -/
def ee_o : Option Nat → Int32
  | none => -1
  | some n => nI n
def ee_N (f : Nat → Nat) : Nat → Int32 := fun s => nI (f s)
def ee_O (f : Nat → Option Nat) : Nat → Int32 := fun s => ee_o (f s)
def ee_u {α : Type} (f : Nat → α) (i : Nat) (v : α) : Nat → α := fun j => if j = i then v else f j
theorem ee_us {α : Type} {f : Nat → α} {i : Nat} {v : α} : ee_u f i v i = v := if_pos rfl
theorem ee_un {α : Type} {f : Nat → α} {i j : Nat} {v : α} (h : j ≠ i) : ee_u f i v j = f j := if_neg h
theorem ee_ux {α : Type} (f : Nat → α) (i j : Nat) (v : α) : ee_u f i v j = if j = i then v else f j := rfl
theorem ee_uid {α : Type} (f : Nat → α) (i : Nat) : ee_u f i (f i) = f := by
  funext j
  by_cases e : j = i
  · rw [e, ee_us]
  · rw [ee_un e]
theorem ee_rN {f : Nat → Nat} {i : Nat} (h : i < 2 ^ 31) : ee_N f (nI i).toNatClampNeg = nI (f i) := by rw [nI_clamp h]; rfl
theorem ee_rO {f : Nat → Option Nat} {i : Nat} (h : i < 2 ^ 31) : ee_O f (nI i).toNatClampNeg = ee_o (f i) := by rw [nI_clamp h]; rfl
theorem ee_r {f : Nat → Int32} {i : Nat} (h : i < 2 ^ 31) : f (nI i).toNatClampNeg = f i := by rw [nI_clamp h]
theorem ee_wN {f : Nat → Nat} {i v : Nat} (h : i < 2 ^ 31) : upd (ee_N f) (nI i).toNatClampNeg (nI v) = ee_N (ee_u f i v) := by
  rw [nI_clamp h]; funext j; unfold upd ee_N ee_u
  by_cases e : j = i
  · rw [if_pos e, if_pos e]
  · rw [if_neg e, if_neg e]
theorem ee_wO {f : Nat → Option Nat} {i : Nat} {v : Option Nat} (h : i < 2 ^ 31) : upd (ee_O f) (nI i).toNatClampNeg (ee_o v) = ee_O (ee_u f i v) := by
  rw [nI_clamp h]; funext j; unfold upd ee_O ee_u
  by_cases e : j = i
  · rw [if_pos e, if_pos e]
  · rw [if_neg e, if_neg e]
theorem ee_w {f : Nat → Int32} {i : Nat} {v : Int32} (h : i < 2 ^ 31) : upd f (nI i).toNatClampNeg v = ee_u f i v := by rw [nI_clamp h]; rfl
theorem ee_o0 : ¬ (0 : Int32) ≤ ee_o none := by decide
theorem ee_o1 : ee_o none < 0 := by decide
theorem ee_s0 {n : Nat} (h : n < 2 ^ 31) : (0 : Int32) ≤ ee_o (some n) := nI_pos' h
theorem ee_s1 {n : Nat} (h : n < 2 ^ 31) : ¬ ee_o (some n) < 0 := nI_pos h

/-! the predicates -/
def qq_unf (m : Nat) : Prop := m ≠ 0 ∧ m ≠ 7 ∧ m ≠ 8
def qq_act (m : Nat) : Prop := m = 1 ∨ m = 2 ∨ m = 3 ∨ m = 4 ∨ 16 ≤ m
def qq_ov (fi en : Nat → Nat) (a b : Nat) : Prop := fi a < en b ∧ fi b < en a
def qq_dir (k : Nat) : Nat := if k = 0 then 0 else 1
def qq_dur (k : Nat) : Nat := if k = 3 ∨ k = 4 then 1 else 0
def qq_hs (m : Nat) : Nat := if m = 4 then 3 else m
def qq_E0 : Nat → Prop := fun _ => False
/-- the ready requests: within, not empty, disjoint -/
def qq_Dj (st fi en : Nat → Nat) : Prop := (∀ s, st s = 4 → s < 16 ∧ fi s < en s ∧ en s ≤ 256) ∧ (∀ s q, st s = 4 → st q = 4 → s ≠ q → en s ≤ fi q ∨ en q ≤ fi s)
/-- the table of runs l 0 .. l (c - 1) of direction d; neighbours that could join only at E -/
def qq_Tab (E : Nat → Prop) (d : Nat) (st kd fi en : Nat → Nat) (nx : Nat → Option Nat) (lm re l : Nat → Nat) (c : Nat) : Prop :=
  c ≤ 16 ∧
  (∀ i, i < c → (st (l i) = 4 ∧ qq_dir (kd (l i)) = d) ∧ fi (l i) < re (l i) ∧ (st (lm (l i)) = 4 ∧ qq_dir (kd (lm (l i))) = d) ∧ en (lm (l i)) = re (l i)) ∧
  (∀ i j, i < j → j < c → re (l i) ≤ fi (l j)) ∧
  (∀ s, st s = 4 → qq_dir (kd s) = d → ∃ i, i < c ∧ fi (l i) ≤ fi s ∧ en s ≤ re (l i) ∧ qq_dur (kd s) = qq_dur (kd (l i)) ∧ ((en s = re (l i) ∧ nx s = none) ∨ (en s < re (l i) ∧ ∃ q, nx s = some q ∧ st q = 4 ∧ qq_dir (kd q) = d ∧ fi q = en s))) ∧
  (∀ i, i < c → ∀ x, fi (l i) ≤ x → x < re (l i) → ∃ s, st s = 4 ∧ qq_dir (kd s) = d ∧ fi s ≤ x ∧ x < en s) ∧
  (∀ i, i + 1 < c → ¬ E i → re (l i) = fi (l (i + 1)) → qq_dur (kd (l i)) ≠ qq_dur (kd (l (i + 1))))
/-- the greatest of P below o, the least of P from o on, by od -/
def qq_lo (P : Nat → Prop) (od : Nat → Nat) (o : Nat) : Option Nat → Prop
  | none => ∀ q, P q → o ≤ od q
  | some b => P b ∧ od b < o ∧ ∀ q, P q → od q ≤ od b ∨ o ≤ od q
def qq_hi (P : Nat → Prop) (od : Nat → Nat) (o : Nat) : Option Nat → Prop
  | none => ∀ q, P q → od q < o
  | some a => P a ∧ o ≤ od a ∧ ∀ q, P q → od q < o ∨ od a ≤ od q
def qq_AgeP (P : Nat → Prop) (od : Nat → Nat) (ol yo : Nat → Option Nat) (o1 n1 : Option Nat) : Prop :=
  (∀ s, P s → qq_lo P od (od s) (ol s) ∧ qq_hi P od (od s + 1) (yo s)) ∧ qq_hi P od 0 o1 ∧ qq_lo P od 100000 n1
def qq_R (st kd : Nat → Nat) (d s : Nat) : Prop := st s = 4 ∧ qq_dir (kd s) = d
def qq_Dev (st kd fi en : Nat → Nat) (nx tg : Nat → Option Nat) : Prop := ∀ t, t < 4 →
  (tg t = none → ∀ s, st s ≠ 16 + t) ∧ (∀ l, tg t = some l → st l = 16 + t ∧ ∀ q, st q = 16 + t → fi l ≤ fi q) ∧
  (∀ q, st q = 16 + t → (nx q = none ∧ ∀ r, st r = 16 + t → fi r ≤ fi q) ∨ (∃ r, nx q = some r ∧ st r = 16 + t ∧ fi r = en q)) ∧
  (∀ q r, st q = 16 + t → st r = 16 + t → qq_dir (kd q) = qq_dir (kd r))
def qq_Lst (lo hi : Nat) (f : Nat → Nat) (P : Nat → Prop) : Prop := (∀ j, lo ≤ j → j < hi → P (f j)) ∧ (∀ i j, lo ≤ i → i < j → j < hi → f i ≠ f j) ∧ (∀ q, P q → ∃ j, lo ≤ j ∧ j < hi ∧ f j = q)
def qq_Shp (N T : Nat) (st kd fi en ln : Nat → Nat) : Prop := N ≤ 16 ∧ T ≤ 4 ∧ ∀ s, (st s ≤ 8 ∨ (16 ≤ st s ∧ st s < 16 + T)) ∧ (N ≤ s → st s = 0) ∧ en s = fi s + ln s ∧ ln s ≤ 8 ∧ en s ≤ 256 ∧ kd s ≤ 5 ∧ (qq_act (st s) → 1 ≤ ln s)
def qq_Ord (sb : Nat) (st od : Nat → Nat) : Prop := sb < 4096 ∧ (∀ s, od s ≤ sb) ∧ (∀ s, qq_unf (st s) → od s < sb) ∧ (∀ s q, qq_unf (st s) → qq_unf (st q) → od s = od q → s = q)
def qq_go (m : Nat) : Prop := (4 ≤ m ∧ m ≤ 6) ∨ 16 ≤ m
def qq_Rdn (st fi en od : Nat → Nat) : Prop := ∀ s, qq_go (st s) → ∀ q, qq_unf (st q) → od q < od s → ¬ qq_ov fi en q s
def qq_TAD (st kd fi en od : Nat → Nat) (nx : Nat → Option Nat) (lm re rn ct : Nat → Nat) (ol yo os nw tg : Nat → Option Nat) : Prop :=
  (∀ d, d < 2 → qq_Tab qq_E0 d st kd fi en nx lm re (fun i => rn (16 * d + i)) (ct d)) ∧ (∀ d, d < 2 → qq_AgeP (qq_R st kd d) od ol yo (os d) (nw d)) ∧ qq_Dev st kd fi en nx tg
/-- the blockers counted, but for e more; the followers' bits -/
def qq_Blk (e : Nat → Nat) (st fi en od bl : Nat → Nat) (fo : Nat → Int32) : Prop :=
  (∀ s, qq_unf (st s) → bl s = cn (fun q => qq_unf (st q) ∧ od q < od s ∧ qq_ov fi en q s) 16 + e s) ∧
  (∀ q, qq_unf (st q) → ∀ s, s < 16 → (bt (fo q) s = true ↔ qq_unf (st s) ∧ od q < od s ∧ qq_ov fi en q s)) ∧
  (∀ s, st s = 3 → bl s ≠ 0)
def qq_W (st : Nat → Nat) (q : Nat) : Prop := st q = 1 ∨ st q = 5
def qq_V (st : Nat → Nat) (q : Nat) : Prop := st q = 2 ∨ st q = 6
def qq_B3 (N T : Nat) (st kd fi en ln od : Nat → Nat) (sb : Nat) : Prop := qq_Shp N T st kd fi en ln ∧ qq_Ord sb st od ∧ qq_Rdn st fi en od
def qq_XI (N T : Nat) (st kd fi en ln od : Nat → Nat) (sb : Nat) (nx : Nat → Option Nat) (lm re rn ct : Nat → Nat) (ol yo os nw tg : Nat → Option Nat) (wc : Nat) (wf : Nat → Nat) (lo hi : Nat) (rf : Nat → Nat) : Prop :=
  qq_B3 N T st kd fi en ln od sb ∧ qq_TAD st kd fi en od nx lm re rn ct ol yo os nw tg ∧ qq_Lst 0 wc wf (qq_W st) ∧ qq_Lst lo hi rf (qq_V st)
/-- v is what a reader of order o finds at sector x: the latest pending write below o, or the cache -/
def qq_SerV (st kd fi en od : Nat → Nat) (vl ca : Nat → Int32) (o x : Nat) (v : Int32) : Prop :=
  (∃ w, (qq_act (st w) ∧ kd w ≠ 0 ∧ fi w ≤ x ∧ x < en w) ∧ od w < o ∧ (∀ w', (qq_act (st w') ∧ kd w' ≠ 0 ∧ fi w' ≤ x ∧ x < en w') → od w' < o → od w' ≤ od w) ∧ v = vl w + nI (x - fi w)) ∨
  ((∀ w, (qq_act (st w) ∧ kd w ≠ 0 ∧ fi w ≤ x ∧ x < en w) → ¬ od w < o) ∧ v = ca x)
def qq_Ser (st kd fi en ln od : Nat → Nat) (sb : Nat) (vl ca im va : Nat → Int32) : Prop :=
  (∀ x, x < 256 → qq_SerV st kd fi en od vl ca sb x (im x)) ∧
  (∀ r, qq_act (st r) → kd r = 0 → ∀ i, i < ln r → qq_SerV st kd fi en od vl ca (od r) (fi r + i) (va (r * 8 + i)))
def qq_Rdd (st kd ln : Nat → Nat) (rd va : Nat → Int32) : Prop := (∀ r, st r = 7 → kd r = 0 → ∀ i, i < ln r → rd (r * 8 + i) = va (r * 8 + i)) ∧ (∀ r, st r = 5 ∨ st r = 6 → kd r ≠ 0)
def qq_Bas (N T B F hea lf dr ps : Nat) : Prop := 8 ≤ N ∧ N ≤ 16 ∧ 1 ≤ T ∧ T ≤ 4 ∧ 1 ≤ B ∧ B ≤ 7 ∧ F ≤ 1 ∧ hea ≤ 256 ∧ lf ≤ 7 ∧ dr ≤ 1 ∧ ps ≤ 2
end
section
/-! the table of runs: pure laws -/
section
variable {E : Nat → Prop} {d c : Nat} {st kd fi en lm re l : Nat → Nat} {nx : Nat → Option Nat}
theorem pp_u4 {s q : Nat} : ee_u st s 4 q = 4 ↔ (st q = 4 ∨ q = s) := by
  by_cases e : q = s
  · rw [e, ee_us]; exact ⟨fun _ => Or.inr rfl, fun _ => rfl⟩
  · rw [ee_un e]; exact ⟨Or.inl, fun z => z.elim id (fun z => absurd z e)⟩
theorem pp_run_uniq (h : qq_Tab E d st kd fi en nx lm re l c) {i j s : Nat} (hi : i < c) (hj : j < c) (h1 : fi (l i) ≤ fi s) (h2 : fi s < en s) (h3 : en s ≤ re (l i)) (h4 : fi (l j) ≤ fi s) (h5 : en s ≤ re (l j)) : i = j := by
  obtain ⟨_, _, hs, _⟩ := h
  rcases Nat.lt_trichotomy i j with z | z | z
  · have := hs i j z hj; omega
  · exact z
  · have := hs j i z hi; omega
theorem pp_lead_in (h : qq_Tab E d st kd fi en nx lm re l c) (hD : qq_Dj st fi en) {i : Nat} (hi : i < c) : en (l i) ≤ re (l i) := by
  obtain ⟨_, h2, h3, h4, _⟩ := h
  obtain ⟨⟨a, b⟩, e, _⟩ := h2 i hi
  obtain ⟨j, hj, k1, k2, _⟩ := h4 _ a b
  have z := (hD.1 _ a).2.1
  rcases Nat.lt_trichotomy i j with w | w | w
  · have := h3 i j w hj; omega
  · rw [w] at k2 ⊢; exact k2
  · have := h3 j i w hi; omega
theorem pp_last_in (h : qq_Tab E d st kd fi en nx lm re l c) (hD : qq_Dj st fi en) {i : Nat} (hi : i < c) : fi (l i) ≤ fi (lm (l i)) := by
  obtain ⟨_, h2, h3, h4, _⟩ := h
  obtain ⟨_, e, ⟨a, b⟩, f⟩ := h2 i hi
  obtain ⟨j, hj, k1, k2, _⟩ := h4 _ a b
  have z := (hD.1 _ a).2.1
  rcases Nat.lt_trichotomy i j with w | w | w
  · have := h3 i j w hj; omega
  · rw [← w] at k1; exact k1
  · have := h3 j i w hi; omega
theorem pp_tab_congr {st' kd' fi' en' lm' re' l' : Nat → Nat} {nx' : Nat → Option Nat} (h : qq_Tab E d st kd fi en nx lm re l c)
    (hR : ∀ q, (st' q = 4 ∧ qq_dir (kd' q) = d) ↔ (st q = 4 ∧ qq_dir (kd q) = d))
    (hv : ∀ q, st q = 4 → qq_dir (kd q) = d → fi' q = fi q ∧ en' q = en q ∧ nx' q = nx q ∧ lm' q = lm q ∧ re' q = re q ∧ qq_dur (kd' q) = qq_dur (kd q))
    (hl : ∀ i, i < c → l' i = l i) : qq_Tab E d st' kd' fi' en' nx' lm' re' l' c := by
  obtain ⟨h1, h2, h3, h4, h5, h6⟩ := h
  have hL : ∀ i, i < c → fi' (l' i) = fi (l i) ∧ re' (l' i) = re (l i) ∧ lm' (l' i) = lm (l i) ∧ qq_dur (kd' (l' i)) = qq_dur (kd (l i)) := by
    intro i hi
    obtain ⟨⟨a, b⟩, _⟩ := h2 i hi
    obtain ⟨c1, c2, c3, c4, c5, c6⟩ := hv _ a b
    rw [hl i hi]; exact ⟨c1, c5, c4, c6⟩
  refine ⟨h1, ?_, ?_, ?_, ?_, ?_⟩
  · intro i hi
    obtain ⟨a, b, c0, e⟩ := h2 i hi
    obtain ⟨e1, e2, e3, e4⟩ := hL i hi
    rw [e1, e2, e3]
    refine ⟨?_, b, (hR _).mpr c0, ?_⟩
    · rw [hl i hi]; exact (hR _).mpr a
    · rw [(hv _ c0.1 c0.2).2.1]; exact e
  · intro i j hij hj
    rw [(hL i (by omega)).2.1, (hL j hj).1]; exact h3 i j hij hj
  · intro s hs hd
    obtain ⟨a, b⟩ := (hR s).mp ⟨hs, hd⟩
    obtain ⟨i, hi, k1, k2, k3, k4⟩ := h4 s a b
    obtain ⟨e1, e2, e3, e4⟩ := hL i hi
    obtain ⟨v1, v2, v3, v4, v5, v6⟩ := hv s a b
    refine ⟨i, hi, ?_, ?_, ?_, ?_⟩
    · rw [e1, v1]; exact k1
    · rw [e2, v2]; exact k2
    · rw [v6, e4]; exact k3
    · rw [v2, e2, v3]
      rcases k4 with k | ⟨k, q, q1, q2, q3, q4⟩
      · exact Or.inl k
      · exact Or.inr ⟨k, q, q1, ((hR q).mpr ⟨q2, q3⟩).1, ((hR q).mpr ⟨q2, q3⟩).2, by rw [(hv q q2 q3).1]; exact q4⟩
  · intro i hi x x1 x2
    obtain ⟨e1, e2, e3, e4⟩ := hL i hi
    rw [e1] at x1; rw [e2] at x2
    obtain ⟨s, s1, s2, s3, s4⟩ := h5 i hi x x1 x2
    obtain ⟨v1, v2, _⟩ := hv s s1 s2
    exact ⟨s, ((hR s).mpr ⟨s1, s2⟩).1, ((hR s).mpr ⟨s1, s2⟩).2, by rw [v1]; exact s3, by rw [v2]; exact s4⟩
  · intro i hi hE
    rw [(hL i (by omega)).2.1, (hL (i + 1) hi).1, (hL i (by omega)).2.2.2, (hL (i + 1) hi).2.2.2]
    exact h6 i hi hE
/-- a new request as a run of its own, at its place -/
theorem pp_tab_ins {s pos : Nat} {l' : Nat → Nat} (h : qq_Tab qq_E0 d st kd fi en nx lm re l c) (hD : qq_Dj (ee_u st s 4) fi en) (hs : st s ≠ 4) (hd : qq_dir (kd s) = d) (hc : c < 16) (hp : pos ≤ c)
    (hp1 : ∀ i, i < pos → fi (l i) < fi s) (hp2 : ∀ i, pos ≤ i → i < c → fi s ≤ fi (l i)) (l1 : ∀ i, i < pos → l' i = l i) (l2 : l' pos = s) (l3 : ∀ i, pos ≤ i → i < c → l' (i + 1) = l i) :
    qq_Tab (fun i => i = pos ∨ i + 1 = pos) d (ee_u st s 4) kd fi en (ee_u nx s none) (ee_u lm s s) (ee_u re s (en s)) l' (c + 1) := by
  obtain ⟨h1, h2, h3, h4, h5, h6⟩ := h
  have S : ∀ q, st q = 4 → q ≠ s := fun q hq e => hs (e ▸ hq)
  have S4 : ee_u st s 4 s = 4 := ee_us
  have U4 : ∀ q, st q = 4 → ee_u st s 4 q = 4 := fun q hq => by rw [ee_un (S q hq)]; exact hq
  have lR : ∀ i, i < c → l i ≠ s := fun i hi => S _ (h2 i hi).1.1
  have ss : fi s < en s := (hD.1 s S4).2.1
  have pz : ∀ q, st q = 4 → fi q < en q := fun q hq => (hD.1 q (U4 q hq)).2.1
  have sep : ∀ q, st q = 4 → en q ≤ fi s ∨ en s ≤ fi q := fun q hq => hD.2 q s (U4 q hq) S4 (S q hq)
  have below : ∀ i, i < pos → re (l i) ≤ fi s := by
    intro i hi
    rcases Nat.lt_or_ge (fi s) (re (l i)) with z | z
    · obtain ⟨q, q1, q2, q3, q4⟩ := h5 i (by omega) (fi s) (Nat.le_of_lt (hp1 i hi)) z
      have := sep q q1; omega
    · exact z
  have above : ∀ i, pos ≤ i → i < c → en s ≤ fi (l i) := by
    intro i hi hi2
    have a := sep _ (h2 i hi2).1.1
    have b := pz _ (h2 i hi2).1.1
    have := hp2 i hi hi2
    omega
  have L : ∀ j, j < c + 1 → (∃ i, i < c ∧ l' j = l i ∧ ((j < pos ∧ i = j) ∨ (pos < j ∧ j = i + 1))) ∨ (j = pos ∧ l' j = s) := by
    intro j hj
    rcases Nat.lt_trichotomy j pos with z | z | z
    · exact Or.inl ⟨j, by omega, l1 j z, Or.inl ⟨z, rfl⟩⟩
    · exact Or.inr ⟨z, by rw [z]; exact l2⟩
    · obtain ⟨i, rfl⟩ : ∃ i, j = i + 1 := ⟨j - 1, by omega⟩
      exact Or.inl ⟨i, by omega, l3 i (by omega) (by omega), Or.inr ⟨z, rfl⟩⟩
  have re1 : ∀ i, i < c → ee_u re s (en s) (l i) = re (l i) := fun i hi => ee_un (lR i hi)
  have lm1 : ∀ i, i < c → ee_u lm s s (l i) = lm (l i) := fun i hi => ee_un (lR i hi)
  have re2 : ee_u re s (en s) s = en s := ee_us
  have lm2 : ee_u lm s s s = s := ee_us
  refine ⟨by omega, ?_, ?_, ?_, ?_, ?_⟩
  · intro j hj
    rcases L j hj with ⟨i, hi, e, _⟩ | ⟨_, e⟩
    · rw [e, re1 i hi, lm1 i hi]
      obtain ⟨⟨a1, a2⟩, b, ⟨c1, c2⟩, f⟩ := h2 i hi
      exact ⟨⟨U4 _ a1, a2⟩, b, ⟨U4 _ c1, c2⟩, f⟩
    · rw [e, re2, lm2]
      exact ⟨⟨S4, hd⟩, ss, ⟨S4, hd⟩, rfl⟩
  · intro i j hij hj
    rcases L i (by omega) with ⟨a, ha, ea, oa⟩ | ⟨oa, ea⟩ <;> rcases L j hj with ⟨b, hb, eb, ob⟩ | ⟨ob, eb⟩
    · rw [ea, eb, re1 a ha]; exact h3 a b (by omega) hb
    · rw [ea, eb, re1 a ha]; exact below a (by omega)
    · rw [ea, eb, re2]; exact above b (by omega) hb
    · omega
  · intro q hq hdq
    rcases pp_u4.mp hq with hq | hq
    · obtain ⟨i, hi, k1, k2, k3, k4⟩ := h4 q hq hdq
      have key : ∃ j, j < c + 1 ∧ l' j = l i := by
        rcases Nat.lt_or_ge i pos with z | z
        · exact ⟨i, by omega, l1 i z⟩
        · exact ⟨i + 1, by omega, l3 i z hi⟩
      obtain ⟨j, hj, e⟩ := key
      refine ⟨j, hj, ?_⟩
      rw [e, re1 i hi, ee_un (S q hq)]
      refine ⟨k1, k2, k3, ?_⟩
      rcases k4 with k | ⟨k, r, r1, r2, r3, r4⟩
      · exact Or.inl k
      · exact Or.inr ⟨k, r, r1, U4 r r2, r3, r4⟩
    · subst hq
      refine ⟨pos, by omega, ?_⟩
      rw [l2, re2]
      exact ⟨Nat.le_refl _, Nat.le_refl _, rfl, Or.inl ⟨rfl, ee_us⟩⟩
  · intro j hj x x1 x2
    rcases L j hj with ⟨i, hi, e, _⟩ | ⟨_, e⟩
    · rw [e] at x1 x2
      rw [re1 i hi] at x2
      obtain ⟨q, q1, q2, q3, q4⟩ := h5 i hi x x1 x2
      exact ⟨q, U4 q q1, q2, q3, q4⟩
    · rw [e] at x1 x2
      rw [re2] at x2
      exact ⟨s, S4, hd, x1, x2⟩
  · intro i hi hE
    rcases L i (by omega) with ⟨a, ha, ea, oa⟩ | ⟨oa, ea⟩ <;> rcases L (i + 1) hi with ⟨b, hb, eb, ob⟩ | ⟨ob, eb⟩
    · have e : b = a + 1 := by
        have : ¬ i + 1 = pos := fun z => hE (Or.inr z)
        omega
      subst e
      rw [ea, eb, re1 a ha]
      exact h6 a hb (fun z => z)
    · exact absurd (Or.inr ob) hE
    · exact absurd (Or.inl oa) hE
    · exact absurd (Or.inl oa) hE
/-- two neighbours joined -/
theorem pp_tab_join {p : Nat} {l' : Nat → Nat} (h : qq_Tab E d st kd fi en nx lm re l c) (hD : qq_Dj st fi en) (hp : p + 1 < c) (hE : ∀ i, E i → i ≤ p) (he : re (l p) = fi (l (p + 1))) (hu : qq_dur (kd (l p)) = qq_dur (kd (l (p + 1))))
    (l1 : ∀ i, i ≤ p → l' i = l i) (l2 : ∀ i, p < i → i + 1 < c → l' i = l (i + 1)) :
    qq_Tab (fun i => E i ∧ i ≠ p) d st kd fi en (ee_u nx (lm (l p)) (some (l (p + 1)))) (ee_u lm (l p) (lm (l (p + 1)))) (ee_u re (l p) (re (l (p + 1)))) l' (c - 1) := by
  have hT := h
  obtain ⟨h1, h2, h3, h4, h5, h6⟩ := h
  have ne : ∀ i j, i < c → j < c → i ≠ j → l i ≠ l j := by
    intro i j hi hj hij e
    have a := (h2 i hi).2.1
    have b := (h2 j hj).2.1
    rcases Nat.lt_or_gt_of_ne hij with z | z
    · have := h3 i j z hj; rw [e] at this a; omega
    · have := h3 j i z hi; rw [e] at this a; omega
  have L : ∀ j, j < c - 1 → ∃ i, i < c ∧ i ≠ p + 1 ∧ l' j = l i ∧ ((j ≤ p ∧ i = j) ∨ (p < j ∧ i = j + 1)) := by
    intro j hj
    rcases Nat.lt_or_ge p j with z | z
    · exact ⟨j + 1, by omega, by omega, l2 j z (by omega), Or.inr ⟨z, rfl⟩⟩
    · exact ⟨j, by omega, by omega, l1 j z, Or.inl ⟨z, rfl⟩⟩
  have Li : ∀ i, i < c → i ≠ p + 1 → ∃ j, j < c - 1 ∧ l' j = l i := by
    intro i hi hne
    rcases Nat.lt_or_ge p i with z | z
    · obtain ⟨k, rfl⟩ : ∃ k, i = k + 1 := ⟨i - 1, by omega⟩
      exact ⟨k, by omega, l2 k (by omega) hi⟩
    · exact ⟨i, by omega, l1 i z⟩
  have re1 : ∀ i, i < c → i ≠ p → ee_u re (l p) (re (l (p + 1))) (l i) = re (l i) := fun i hi z => ee_un (ne i p hi (by omega) z)
  have lm1 : ∀ i, i < c → i ≠ p → ee_u lm (l p) (lm (l (p + 1))) (l i) = lm (l i) := fun i hi z => ee_un (ne i p hi (by omega) z)
  have re2 : ee_u re (l p) (re (l (p + 1))) (l p) = re (l (p + 1)) := ee_us
  have lm2 : ee_u lm (l p) (lm (l (p + 1))) (l p) = lm (l (p + 1)) := ee_us
  obtain ⟨⟨p1, p2⟩, p3, ⟨p4, p5⟩, p6⟩ := h2 p (by omega)
  obtain ⟨⟨q1, q2⟩, q3, ⟨q4, q5⟩, q6⟩ := h2 (p + 1) hp
  have pm := pp_last_in hT hD (i := p) (by omega)
  have mz := (hD.1 _ p4).2.1
  refine ⟨by omega, ?_, ?_, ?_, ?_, ?_⟩
  · intro j hj
    obtain ⟨i, hi, hn, e, _⟩ := L j hj
    rw [e]
    by_cases z : i = p
    · subst z
      rw [re2, lm2]
      exact ⟨⟨p1, p2⟩, by omega, ⟨q4, q5⟩, q6⟩
    · rw [re1 i hi z, lm1 i hi z]; exact h2 i hi
  · intro i j hij hj
    obtain ⟨a, ha, na, ea, oa⟩ := L i (by omega)
    obtain ⟨b, hb, nb, eb, ob⟩ := L j hj
    rw [ea, eb]
    by_cases z : a = p
    · subst z
      rw [re2]
      exact h3 (a + 1) b (by omega) hb
    · rw [re1 a ha z]; exact h3 a b (by omega) hb
  · intro q hq hdq
    obtain ⟨i, hi, k1, k2, k3, k4⟩ := h4 q hq hdq
    have qz := (hD.1 _ hq).2.1
    by_cases zp : i = p
    · subst zp
      obtain ⟨j, hj, e⟩ := Li i hi (by omega)
      refine ⟨j, hj, ?_⟩
      rw [e, re2]
      refine ⟨k1, by omega, k3, Or.inr ?_⟩
      by_cases zm : q = lm (l i)
      · subst zm
        rw [ee_us]
        exact ⟨by omega, _, rfl, q1, q2, by omega⟩
      · rw [ee_un zm]
        have := hD.2 q _ hq p4 zm
        rcases k4 with k | ⟨k, r, r1, r2, r3, r4⟩
        · omega
        · exact ⟨by omega, r, r1, r2, r3, r4⟩
    · have zm : q ≠ lm (l p) := by
        intro z
        have a1 : en q = re (l p) := by rw [z]; exact p6
        have a2 : fi (l p) ≤ fi q := by rw [z]; exact pm
        exact zp (pp_run_uniq hT hi (by omega) k1 qz k2 a2 (by omega))
      by_cases zq : i = p + 1
      · subst zq
        obtain ⟨j, hj, e⟩ := Li p (by omega) (by omega)
        refine ⟨j, hj, ?_⟩
        rw [e, re2, ee_un zm]
        exact ⟨by omega, k2, by rw [k3, hu], k4⟩
      · obtain ⟨j, hj, e⟩ := Li i hi zq
        refine ⟨j, hj, ?_⟩
        rw [e, re1 i hi zp, ee_un zm]
        exact ⟨k1, k2, k3, k4⟩
  · intro j hj x x1 x2
    obtain ⟨i, hi, hn, e, _⟩ := L j hj
    rw [e] at x1 x2
    by_cases z : i = p
    · subst z
      rw [re2] at x2
      rcases Nat.lt_or_ge x (re (l i)) with w | w
      · exact h5 i hi x x1 w
      · exact h5 (i + 1) hp x (by omega) x2
    · rw [re1 i hi z] at x2; exact h5 i hi x x1 x2
  · intro i hi hEi
    obtain ⟨a, ha, na, ea, oa⟩ := L i (by omega)
    obtain ⟨b, hb, nb, eb, ob⟩ := L (i + 1) (by omega)
    rw [ea, eb]
    by_cases z : a = p
    · subst z
      have e : b = a + 2 := by omega
      subst e
      rw [re2, hu]
      exact h6 (a + 1) hb (fun w => by have := hE _ w; omega)
    · rw [re1 a ha z]
      have e : b = a + 1 := by omega
      subst e
      refine h6 a hb (fun w => hEi ?_)
      have := hE _ w
      have e2 : i = a := by omega
      subst e2
      exact ⟨w, z⟩
/-- a run leaves the table with its members -/
theorem pp_tab_drop {p : Nat} {l' st' : Nat → Nat} (h : qq_Tab qq_E0 d st kd fi en nx lm re l c) (hD : qq_Dj st fi en) (hp : p < c)
    (hst : ∀ q, st' q = 4 ↔ st q = 4 ∧ ¬ (qq_dir (kd q) = d ∧ fi (l p) ≤ fi q ∧ en q ≤ re (l p)))
    (l1 : ∀ i, i < p → l' i = l i) (l2 : ∀ i, p ≤ i → i + 1 < c → l' i = l (i + 1)) :
    qq_Tab qq_E0 d st' kd fi en nx lm re l' (c - 1) := by
  have hT := h
  obtain ⟨h1, h2, h3, h4, h5, h6⟩ := h
  have L : ∀ j, j < c - 1 → ∃ i, i < c ∧ i ≠ p ∧ l' j = l i ∧ ((j < p ∧ i = j) ∨ (p ≤ j ∧ i = j + 1)) := by
    intro j hj
    rcases Nat.lt_or_ge j p with z | z
    · exact ⟨j, by omega, by omega, l1 j z, Or.inl ⟨z, rfl⟩⟩
    · exact ⟨j + 1, by omega, by omega, l2 j z (by omega), Or.inr ⟨z, rfl⟩⟩
  have Li : ∀ i, i < c → i ≠ p → ∃ j, j < c - 1 ∧ l' j = l i := by
    intro i hi hne
    rcases Nat.lt_or_ge i p with z | z
    · exact ⟨i, by omega, l1 i z⟩
    · obtain ⟨k, rfl⟩ : ∃ k, i = k + 1 := ⟨i - 1, by omega⟩
      exact ⟨k, by omega, l2 k (by omega) hi⟩
  have out : ∀ i, i < c → i ≠ p → ∀ q, st q = 4 → fi (l i) ≤ fi q → en q ≤ re (l i) → st' q = 4 := by
    intro i hi hne q hq a b
    refine (hst q).mpr ⟨hq, fun z => hne ?_⟩
    exact pp_run_uniq hT hi hp a (hD.1 q hq).2.1 b z.2.1 z.2.2
  refine ⟨by omega, ?_, ?_, ?_, ?_, ?_⟩
  · intro j hj
    obtain ⟨i, hi, hn, e, _⟩ := L j hj
    rw [e]
    obtain ⟨⟨a1, a2⟩, b, ⟨c1, c2⟩, f⟩ := h2 i hi
    exact ⟨⟨out i hi hn _ a1 (Nat.le_refl _) (pp_lead_in hT hD hi), a2⟩, b, ⟨out i hi hn _ c1 (pp_last_in hT hD hi) (by omega), c2⟩, f⟩
  · intro i j hij hj
    obtain ⟨a, ha, na, ea, oa⟩ := L i (by omega)
    obtain ⟨b, hb, nb, eb, ob⟩ := L j hj
    rw [ea, eb]; exact h3 a b (by omega) hb
  · intro q hq hdq
    obtain ⟨hq4, hno⟩ := (hst q).mp hq
    obtain ⟨i, hi, k1, k2, k3, k4⟩ := h4 q hq4 hdq
    have hn : i ≠ p := fun z => hno ⟨hdq, by rw [← z]; exact k1, by rw [← z]; exact k2⟩
    obtain ⟨j, hj, e⟩ := Li i hi hn
    refine ⟨j, hj, ?_⟩
    rw [e]
    refine ⟨k1, k2, k3, ?_⟩
    rcases k4 with k | ⟨k, r, r1, r2, r3, r4⟩
    · exact Or.inl k
    · refine Or.inr ⟨k, r, r1, ?_, r3, r4⟩
      have rz := (hD.1 r r2).2.1
      have qz := (hD.1 q hq4).2.1
      refine (hst r).mpr ⟨r2, fun z => hn ?_⟩
      rcases Nat.lt_trichotomy i p with w | w | w
      · have := h3 i p w hp; omega
      · exact w
      · have := h3 p i w hi; omega
  · intro j hj x x1 x2
    obtain ⟨i, hi, hn, e, _⟩ := L j hj
    rw [e] at x1 x2
    obtain ⟨s, s1, s2, s3, s4⟩ := h5 i hi x x1 x2
    refine ⟨s, (hst s).mpr ⟨s1, fun z => hn ?_⟩, s2, s3, s4⟩
    rcases Nat.lt_trichotomy i p with w | w | w
    · have := h3 i p w hp; omega
    · exact w
    · have := h3 p i w hi; omega
  · intro i hi _
    obtain ⟨a, ha, na, ea, oa⟩ := L i (by omega)
    obtain ⟨b, hb, nb, eb, ob⟩ := L (i + 1) (by omega)
    rw [ea, eb]
    by_cases z : b = a + 1
    · subst z
      exact h6 a hb (fun z => z)
    · intro w
      have x1 := h3 a p (by omega) hp
      have x2 := h3 p b (by omega) hb
      have x3 := (h2 p hp).2.1
      omega
/-- what could join a member of a run is a member -/
theorem pp_sound (h : qq_Tab qq_E0 d st kd fi en nx lm re l c) (hD : qq_Dj st fi en) {i p q : Nat} (hi : i < c) (hp : st p = 4) (hpd : qq_dir (kd p) = d) (p1 : fi (l i) ≤ fi p) (p2 : en p ≤ re (l i)) (hq : st q = 4) (hqd : qq_dir (kd q) = d)
    (hu : qq_dur (kd p) = qq_dur (kd q)) (hj : en p = fi q ∨ en q = fi p) : fi (l i) ≤ fi q ∧ en q ≤ re (l i) := by
  have hT := h
  obtain ⟨h1, h2, h3, h4, h5, h6⟩ := h
  obtain ⟨j, hj2, q1, q2, q3, q4⟩ := h4 q hq hqd
  obtain ⟨i', hi', a1, a2, a3, a4⟩ := h4 p hp hpd
  have pz := (hD.1 p hp).2.1
  have qz := (hD.1 q hq).2.1
  have e := pp_run_uniq hT hi' hi a1 pz a2 p1 p2
  subst e
  by_cases z : j = i'
  · subst z; exact ⟨q1, q2⟩
  exfalso
  have key : ∀ a b x y, a < c → b < c → a ≠ b → st x = 4 → qq_dir (kd x) = d → st y = 4 → fi (l a) ≤ fi x → en x ≤ re (l a) → fi (l b) ≤ fi y → en y ≤ re (l b) → qq_dur (kd x) = qq_dur (kd (l a)) → qq_dur (kd y) = qq_dur (kd (l b)) → qq_dur (kd x) = qq_dur (kd y) → en x = fi y → False := by
    intro a b x y ha hb hab hx hxd hy x1 x2 y1 y2 ux uy uxy exy
    have xz := (hD.1 x hx).2.1
    have yz := (hD.1 y hy).2.1
    rcases Nat.lt_or_gt_of_ne hab with w | w
    · have s1 := h3 a b w hb
      by_cases n1 : b = a + 1
      · subst n1
        exact h6 a hb (fun z => z) (by omega) (by rw [← ux, ← uy]; exact uxy)
      · have s2 := h3 a (a + 1) (by omega) (by omega)
        have s3 := h3 (a + 1) b (by omega) hb
        have s4 := (h2 (a + 1) (by omega)).2.1
        omega
    · have s1 := h3 b a w ha
      omega
  rcases hj with w | w
  · exact key i' j p q hi' hj2 (fun k => z k.symm) hp hpd hq a1 a2 q1 q2 a3 q3 hu w
  · exact key j i' q p hj2 hi' z hq hqd hp q1 q2 a1 a2 q3 a3 hu.symm w
end
end
section
/-! the age queues: pure laws -/
section
variable {P P' : Nat → Prop} {od : Nat → Nat} {ol yo ol' yo' : Nat → Option Nat} {o1 n1 o1' n1' b a : Option Nat} {s o : Nat}
theorem pp_lo_none : qq_lo P od o none ↔ ∀ q, P q → o ≤ od q := Iff.rfl
theorem pp_lo_some {x : Nat} : qq_lo P od o (some x) ↔ (P x ∧ od x < o ∧ ∀ q, P q → od q ≤ od x ∨ o ≤ od q) := Iff.rfl
theorem pp_hi_none : qq_hi P od o none ↔ ∀ q, P q → od q < o := Iff.rfl
theorem pp_hi_some {x : Nat} : qq_hi P od o (some x) ↔ (P x ∧ o ≤ od x ∧ ∀ q, P q → od q < o ∨ od x ≤ od q) := Iff.rfl
theorem pp_lo_congr {od' : Nat → Nat} (h : qq_lo P od o b) (hP : ∀ q, P' q ↔ P q) (hv : ∀ q, P q → od' q = od q) : qq_lo P' od' o b := by
  rcases b with _ | x
  · rw [pp_lo_none] at h ⊢
    intro q hq
    rw [hv q ((hP q).mp hq)]; exact h q ((hP q).mp hq)
  · rw [pp_lo_some] at h ⊢
    refine ⟨(hP x).mpr h.1, by rw [hv x h.1]; exact h.2.1, fun q hq => ?_⟩
    rw [hv q ((hP q).mp hq), hv x h.1]; exact h.2.2 q ((hP q).mp hq)
theorem pp_hi_congr {od' : Nat → Nat} (h : qq_hi P od o b) (hP : ∀ q, P' q ↔ P q) (hv : ∀ q, P q → od' q = od q) : qq_hi P' od' o b := by
  rcases b with _ | x
  · rw [pp_hi_none] at h ⊢
    intro q hq
    rw [hv q ((hP q).mp hq)]; exact h q ((hP q).mp hq)
  · rw [pp_hi_some] at h ⊢
    refine ⟨(hP x).mpr h.1, by rw [hv x h.1]; exact h.2.1, fun q hq => ?_⟩
    rw [hv q ((hP q).mp hq), hv x h.1]; exact h.2.2 q ((hP q).mp hq)
theorem pp_age_congr {od' : Nat → Nat} (h : qq_AgeP P od ol yo o1 n1) (hP : ∀ q, P' q ↔ P q) (hv : ∀ q, P q → od' q = od q) (hw : ∀ q, P q → ol' q = ol q ∧ yo' q = yo q) : qq_AgeP P' od' ol' yo' o1 n1 := by
  obtain ⟨h1, h2, h3⟩ := h
  refine ⟨fun q hq => ?_, pp_hi_congr h2 hP hv, pp_lo_congr h3 hP hv⟩
  have k := (hP q).mp hq
  rw [hv q k, (hw q k).1, (hw q k).2]
  exact ⟨pp_lo_congr (h1 q k).1 hP hv, pp_hi_congr (h1 q k).2 hP hv⟩
theorem pp_age_after (h : qq_AgeP P od ol yo o1 n1) (hod : ∀ q, P q → od q ≠ od s) (hb : qq_lo P od (od s) b) (ha0 : b = none → a = o1) (ha1 : ∀ x, b = some x → a = yo x) : qq_hi P od (od s + 1) a := by
  obtain ⟨h1, h2, h3⟩ := h
  rcases b with _ | x
  · rw [ha0 rfl]
    rw [pp_lo_none] at hb
    rcases o1 with _ | y
    · rw [pp_hi_none] at h2 ⊢
      intro q hq; have := h2 q hq; omega
    · rw [pp_hi_some] at h2 ⊢
      refine ⟨h2.1, ?_, fun q hq => ?_⟩
      · have := hb y h2.1; have := hod y h2.1; omega
      · have := h2.2.2 q hq; omega
  · rw [ha1 x rfl]
    rw [pp_lo_some] at hb
    have k := (h1 x hb.1).2
    rcases hy : yo x with _ | y
    · rw [hy, pp_hi_none] at k
      rw [pp_hi_none]
      intro q hq; have := k q hq; have := hb.2.1; omega
    · rw [hy, pp_hi_some] at k
      rw [pp_hi_some]
      refine ⟨k.1, ?_, fun q hq => ?_⟩
      · have := k.2.1; have := hb.2.2 y k.1; have := hod y k.1; omega
      · have := k.2.2 q hq; have := hb.2.1; omega
theorem pp_age_ins (h : qq_AgeP P od ol yo o1 n1) (hP : ∀ q, P' q ↔ P q ∨ q = s) (hod : ∀ q, P q → od q ≠ od s) (hinj : ∀ q r, P q → P r → od q = od r → q = r) (hmx : ∀ q, P q → od q < 100000) (hms : od s < 100000)
    (hb : qq_lo P od (od s) b) (ha0 : b = none → a = o1) (ha1 : ∀ x, b = some x → a = yo x)
    (e1 : ∀ q, ol' q = if a = some q then some s else if q = s then b else ol q) (e2 : ∀ q, yo' q = if q = s then a else if b = some q then some s else yo q)
    (e3 : o1' = if b = none then some s else o1) (e4 : n1' = if a = none then some s else n1) : qq_AgeP P' od ol' yo' o1' n1' := by
  have hA := pp_age_after h hod hb ha0 ha1
  obtain ⟨h1, h2, h3⟩ := h
  have Ps : P' s := (hP s).mpr (Or.inr rfl)
  have PP : ∀ q, P q → P' q := fun q hq => (hP q).mpr (Or.inl hq)
  have CA : ∀ q, P q → a ≠ some q → od s < od q → ∃ y, P y ∧ od s < od y ∧ od y < od q := by
    intro q hq z w
    rcases a with _ | y
    · rw [pp_hi_none] at hA; have := hA q hq; omega
    · rw [pp_hi_some] at hA
      refine ⟨y, hA.1, hA.2.1, ?_⟩
      have k := hA.2.2 q hq
      have : od y ≠ od q := fun e => z (by rw [hinj y q hA.1 hq e])
      omega
  have CB : ∀ q, P q → b ≠ some q → od q < od s → ∃ y, P y ∧ od q < od y ∧ od y < od s := by
    intro q hq z w
    rcases b with _ | y
    · rw [pp_lo_none] at hb; have := hb q hq; omega
    · rw [pp_lo_some] at hb
      refine ⟨y, hb.1, ?_, hb.2.1⟩
      have k := hb.2.2 q hq
      have : od y ≠ od q := fun e => z (by rw [hinj y q hb.1 hq e])
      omega
  refine ⟨fun q hq => ⟨?_, ?_⟩, ?_, ?_⟩
  · rw [e1]
    by_cases z : a = some q
    · rw [if_pos z, pp_lo_some]
      rw [z, pp_hi_some] at hA
      refine ⟨Ps, hA.2.1, fun r hr => ?_⟩
      rcases (hP r).mp hr with hr | hr
      · have := hA.2.2 r hr; omega
      · rw [hr]; exact Or.inl (Nat.le_refl _)
    · rw [if_neg z]
      by_cases zs : q = s
      · rw [if_pos zs, zs]
        rcases b with _ | x
        · rw [pp_lo_none] at hb ⊢
          intro r hr
          rcases (hP r).mp hr with hr | hr
          · exact hb r hr
          · rw [hr]; exact Nat.le_refl _
        · rw [pp_lo_some] at hb ⊢
          refine ⟨PP x hb.1, hb.2.1, fun r hr => ?_⟩
          rcases (hP r).mp hr with hr | hr
          · exact hb.2.2 r hr
          · rw [hr]; exact Or.inr (Nat.le_refl _)
      · rw [if_neg zs]
        have hq' : P q := ((hP q).mp hq).resolve_right zs
        have k := (h1 q hq').1
        rcases ho : ol q with _ | x
        · rw [ho, pp_lo_none] at k
          rw [pp_lo_none]
          intro r hr
          rcases (hP r).mp hr with hr | hr
          · exact k r hr
          · rw [hr]
            rcases Nat.lt_or_ge (od s) (od q) with w | w
            · obtain ⟨y, y1, y2, y3⟩ := CA q hq' z w
              have := k y y1; omega
            · exact w
        · rw [ho, pp_lo_some] at k
          rw [pp_lo_some]
          refine ⟨PP x k.1, k.2.1, fun r hr => ?_⟩
          rcases (hP r).mp hr with hr | hr
          · exact k.2.2 r hr
          · rw [hr]
            rcases Nat.lt_or_ge (od s) (od q) with w | w
            · obtain ⟨y, y1, y2, y3⟩ := CA q hq' z w
              have := k.2.2 y y1; omega
            · exact Or.inr w
  · rw [e2]
    by_cases zs : q = s
    · rw [if_pos zs, zs]
      rcases a with _ | y
      · rw [pp_hi_none] at hA ⊢
        intro r hr
        rcases (hP r).mp hr with hr | hr
        · exact hA r hr
        · rw [hr]; exact Nat.lt_succ_self _
      · rw [pp_hi_some] at hA ⊢
        refine ⟨PP y hA.1, hA.2.1, fun r hr => ?_⟩
        rcases (hP r).mp hr with hr | hr
        · exact hA.2.2 r hr
        · rw [hr]; exact Or.inl (Nat.lt_succ_self _)
    · rw [if_neg zs]
      have hq' : P q := ((hP q).mp hq).resolve_right zs
      by_cases z : b = some q
      · rw [if_pos z, pp_hi_some]
        rw [z, pp_lo_some] at hb
        refine ⟨Ps, hb.2.1, fun r hr => ?_⟩
        rcases (hP r).mp hr with hr | hr
        · have := hb.2.2 r hr; omega
        · rw [hr]; exact Or.inr (Nat.le_refl _)
      · rw [if_neg z]
        have k := (h1 q hq').2
        rcases ho : yo q with _ | x
        · rw [ho, pp_hi_none] at k
          rw [pp_hi_none]
          intro r hr
          rcases (hP r).mp hr with hr | hr
          · exact k r hr
          · rw [hr]
            rcases Nat.lt_or_ge (od q) (od s) with w | w
            · obtain ⟨y, y1, y2, y3⟩ := CB q hq' z w
              have := k y y1; omega
            · omega
        · rw [ho, pp_hi_some] at k
          rw [pp_hi_some]
          refine ⟨PP x k.1, k.2.1, fun r hr => ?_⟩
          rcases (hP r).mp hr with hr | hr
          · exact k.2.2 r hr
          · rw [hr]
            rcases Nat.lt_or_ge (od q) (od s) with w | w
            · obtain ⟨y, y1, y2, y3⟩ := CB q hq' z w
              have := k.2.2 y y1; omega
            · exact Or.inl (by omega)
  · rw [e3]
    rcases b with _ | x
    · rw [if_pos rfl, pp_hi_some]
      rw [pp_lo_none] at hb
      refine ⟨Ps, Nat.zero_le _, fun r hr => ?_⟩
      rcases (hP r).mp hr with hr | hr
      · exact Or.inr (hb r hr)
      · rw [hr]; exact Or.inr (Nat.le_refl _)
    · rw [if_neg (fun z => nomatch z)]
      rw [pp_lo_some] at hb
      rcases o1 with _ | y
      · rw [pp_hi_none] at h2; have := h2 x hb.1; omega
      · rw [pp_hi_some] at h2 ⊢
        refine ⟨PP y h2.1, h2.2.1, fun r hr => ?_⟩
        rcases (hP r).mp hr with hr | hr
        · exact h2.2.2 r hr
        · rw [hr]; have := h2.2.2 x hb.1; omega
  · rw [e4]
    rcases a with _ | y
    · rw [if_pos rfl, pp_lo_some]
      rw [pp_hi_none] at hA
      refine ⟨Ps, hms, fun r hr => ?_⟩
      rcases (hP r).mp hr with hr | hr
      · have := hA r hr; exact Or.inl (by omega)
      · rw [hr]; exact Or.inl (Nat.le_refl _)
    · rw [if_neg (fun z => nomatch z)]
      rw [pp_hi_some] at hA
      have my := hmx y hA.1
      rcases n1 with _ | x
      · rw [pp_lo_none] at h3; have := h3 y hA.1; omega
      · rw [pp_lo_some] at h3 ⊢
        refine ⟨PP x h3.1, h3.2.1, fun r hr => ?_⟩
        rcases (hP r).mp hr with hr | hr
        · exact h3.2.2 r hr
        · rw [hr]; have := h3.2.2 y hA.1; omega
theorem pp_age_del (h : qq_AgeP P od ol yo o1 n1) (hP : ∀ q, P' q ↔ P q ∧ q ≠ s) (hs : P s) (hinj : ∀ q r, P q → P r → od q = od r → q = r) (hmx : ∀ q, P q → od q < 100000)
    (e1 : ∀ q, ol' q = if yo s = some q then ol s else ol q) (e2 : ∀ q, yo' q = if ol s = some q then yo s else yo q)
    (e3 : o1' = if ol s = none then yo s else o1) (e4 : n1' = if yo s = none then ol s else n1) : qq_AgeP P' od ol' yo' o1' n1' := by
  obtain ⟨h1, h2, h3⟩ := h
  obtain ⟨hB, hA⟩ := h1 s hs
  have nes : ∀ q, P' q → od q ≠ od s := fun q hq e => ((hP q).mp hq).2 (hinj q s ((hP q).mp hq).1 hs e)
  have PP : ∀ q, P' q → P q := fun q hq => ((hP q).mp hq).1
  have mk : ∀ q, P q → od q ≠ od s → P' q := fun q hq e => (hP q).mpr ⟨hq, fun z => e (by rw [z])⟩
  refine ⟨fun q hq => ⟨?_, ?_⟩, ?_, ?_⟩
  · rw [e1]
    by_cases z : yo s = some q
    · rw [if_pos z]
      rw [z, pp_hi_some] at hA
      rcases ho : ol s with _ | x
      · rw [ho, pp_lo_none] at hB
        rw [pp_lo_none]
        intro r hr
        have := hB r (PP r hr); have := nes r hr; have := hA.2.2 r (PP r hr); omega
      · rw [ho, pp_lo_some] at hB
        rw [pp_lo_some]
        refine ⟨mk x hB.1 (by have := hB.2.1; omega), by have := hB.2.1; have := hA.2.1; omega, fun r hr => ?_⟩
        have := hB.2.2 r (PP r hr); have := nes r hr; have := hA.2.2 r (PP r hr); omega
    · rw [if_neg z]
      have k := (h1 q (PP q hq)).1
      rcases ho : ol q with _ | x
      · rw [ho, pp_lo_none] at k
        rw [pp_lo_none]
        exact fun r hr => k r (PP r hr)
      · rw [ho, pp_lo_some] at k
        rw [pp_lo_some]
        refine ⟨mk x k.1 (fun e => ?_), k.2.1, fun r hr => k.2.2 r (PP r hr)⟩
        rcases hy : yo s with _ | y
        · rw [hy, pp_hi_none] at hA; have := hA q (PP q hq); have := k.2.1; omega
        · rw [hy, pp_hi_some] at hA
          have t1 := hA.2.2 q (PP q hq)
          have t2 := k.2.2 y hA.1
          have t3 := k.2.1
          have t4 := hA.2.1
          have : od y = od q := by omega
          exact z (by rw [hy, hinj y q hA.1 (PP q hq) this])
  · rw [e2]
    by_cases z : ol s = some q
    · rw [if_pos z]
      rw [z, pp_lo_some] at hB
      rcases ho : yo s with _ | x
      · rw [ho, pp_hi_none] at hA
        rw [pp_hi_none]
        intro r hr
        have := hA r (PP r hr); have := nes r hr; have := hB.2.2 r (PP r hr); omega
      · rw [ho, pp_hi_some] at hA
        rw [pp_hi_some]
        refine ⟨mk x hA.1 (by have := hA.2.1; omega), by have := hB.2.1; have := hA.2.1; omega, fun r hr => ?_⟩
        have := hA.2.2 r (PP r hr); have := nes r hr; have := hB.2.2 r (PP r hr); omega
    · rw [if_neg z]
      have k := (h1 q (PP q hq)).2
      rcases ho : yo q with _ | x
      · rw [ho, pp_hi_none] at k
        rw [pp_hi_none]
        exact fun r hr => k r (PP r hr)
      · rw [ho, pp_hi_some] at k
        rw [pp_hi_some]
        refine ⟨mk x k.1 (fun e => ?_), k.2.1, fun r hr => k.2.2 r (PP r hr)⟩
        rcases hy : ol s with _ | y
        · rw [hy, pp_lo_none] at hB; have := hB q (PP q hq); have := k.2.1; omega
        · rw [hy, pp_lo_some] at hB
          have t1 := hB.2.2 q (PP q hq)
          have t2 := k.2.2 y hB.1
          have t3 := k.2.1
          have t4 := hB.2.1
          have : od y = od q := by omega
          exact z (by rw [hy, hinj y q hB.1 (PP q hq) this])
  · rw [e3]
    rcases ho : ol s with _ | x
    · rw [if_pos rfl]
      rw [ho, pp_lo_none] at hB
      rcases hy : yo s with _ | y
      · rw [hy, pp_hi_none] at hA
        rw [pp_hi_none]
        intro r hr
        have := hA r (PP r hr); have := hB r (PP r hr); have := nes r hr; omega
      · rw [hy, pp_hi_some] at hA
        rw [pp_hi_some]
        refine ⟨mk y hA.1 (by have := hA.2.1; omega), Nat.zero_le _, fun r hr => ?_⟩
        have := hA.2.2 r (PP r hr); have := hB r (PP r hr); have := nes r hr; omega
    · rw [if_neg (fun z => nomatch z)]
      rw [ho, pp_lo_some] at hB
      rcases o1 with _ | y
      · rw [pp_hi_none] at h2; have := h2 x hB.1; omega
      · rw [pp_hi_some] at h2 ⊢
        refine ⟨mk y h2.1 (by have := h2.2.2 x hB.1; have := hB.2.1; omega), h2.2.1, fun r hr => h2.2.2 r (PP r hr)⟩
  · rw [e4]
    rcases hy : yo s with _ | y
    · rw [if_pos rfl]
      rw [hy, pp_hi_none] at hA
      rcases ho : ol s with _ | x
      · rw [ho, pp_lo_none] at hB
        rw [pp_lo_none]
        intro r hr
        have := hA r (PP r hr); have := hB r (PP r hr); have := nes r hr; omega
      · rw [ho, pp_lo_some] at hB
        rw [pp_lo_some]
        refine ⟨mk x hB.1 (by have := hB.2.1; omega), hmx x hB.1, fun r hr => ?_⟩
        have := hA r (PP r hr); have := hB.2.2 r (PP r hr); have := nes r hr; omega
    · rw [if_neg (fun z => nomatch z)]
      rw [hy, pp_hi_some] at hA
      have my := hmx y hA.1
      rcases n1 with _ | x
      · rw [pp_lo_none] at h3; have := h3 y hA.1; omega
      · rw [pp_lo_some] at h3 ⊢
        refine ⟨mk x h3.1 (by have := h3.2.2 y hA.1; have := hA.2.1; omega), h3.2.1, fun r hr => h3.2.2 r (PP r hr)⟩
end
end
section
/-! X's small methods -/
theorem ee_if {c d A B : Prop} (e : c ↔ d) (f : d → A) (g : ¬ d → B) : (c → A) ∧ (¬ c → B) := ⟨fun h => f (e.mp h), fun h => g (fun z => h (e.mpr z))⟩
theorem ee_eN {f : Nat → Nat} {i : Nat} (k : Nat) (hi : i < 2 ^ 31) (hf : f i < 2 ^ 31) (hk : k < 2 ^ 31) : ee_N f (nI i).toNatClampNeg = nI k ↔ f i = k := by
  rw [ee_rN hi, nI_eq hf hk]
theorem ee_base (d : Nat) : nI d * 16 = nI (16 * d) := by
  rw [Nat.mul_comm]; exact pk_mul d 16
theorem ee_sub0 {a b : Nat} (ha : a < 2 ^ 30) (hb : b < 2 ^ 30) : nI a - nI b ≤ 0 ↔ a ≤ b := by
  rw [Int32.le_iff_toInt_le, pk_sub_toInt ha hb, show (0 : Int32).toInt = 0 from by decide]
  omega
theorem cn_pos {P : Nat → Prop} {a N : Nat} (h : P a) (ha : a < N) : 1 ≤ cn P N := by
  have k := cn_lt (P := fun _ => False) (Q := P) (a := a) (fun z => z) h (N := N) (fun _ _ z => z.elim) ha
  omega
def qq_l1 (f : Nat → Option Nat) (b v : Option Nat) : Nat → Option Nat :=
  match b with
  | none => f
  | some x => ee_u f x v
def qq_l0 (f : Nat → Option Nat) (b : Option Nat) (d : Nat) (v : Option Nat) : Nat → Option Nat :=
  match b with
  | none => ee_u f d v
  | some _ => f
theorem pp_l1 {f : Nat → Option Nat} {b v : Option Nat} {q : Nat} : qq_l1 f b v q = if b = some q then v else f q := by
  rcases b with _ | x
  · rw [if_neg (fun z => nomatch z)]; rfl
  · show ee_u f x v q = _
    by_cases e : q = x
    · rw [e, ee_us, if_pos rfl]
    · rw [ee_un e, if_neg (fun z => e (Option.some.inj z).symm)]
theorem pp_l0 {f : Nat → Option Nat} {b v : Option Nat} {d : Nat} : qq_l0 f b d v d = if b = none then v else f d := by
  rcases b with _ | x
  · rw [if_pos rfl]; exact ee_us
  · rw [if_neg (fun z => nomatch z)]; rfl
theorem pp_l0n {f : Nat → Option Nat} {b v : Option Nat} {d d' : Nat} (h : d' ≠ d) : qq_l0 f b d v d' = f d' := by
  rcases b with _ | x
  · exact ee_un h
  · rfl
def qq_ins (f : Nat → Nat) (b i c : Nat) : Nat → Nat := fun k => if b + i < k ∧ k ≤ b + c then f (k - 1) else f k
def qq_del (f : Nat → Nat) (b i p : Nat) : Nat → Nat := fun k => if b + p ≤ k ∧ k < b + i then f (k + 1) else f k
theorem pp_ins0 {f : Nat → Nat} {b c : Nat} : qq_ins f b c c = f := by
  funext k; unfold qq_ins; rw [if_neg (by omega)]
theorem pp_insS {f : Nat → Nat} {b i c : Nat} (h : i < c) : ee_u (qq_ins f b (i + 1) c) (b + i + 1) (qq_ins f b (i + 1) c (b + i)) = qq_ins f b i c := by
  funext k
  unfold qq_ins
  by_cases e : k = b + i + 1
  · rw [e, ee_us, if_neg (by omega), if_pos (by omega)]; rfl
  · rw [ee_un e]
    by_cases z : b + (i + 1) < k ∧ k ≤ b + c
    · rw [if_pos z, if_pos (by omega)]
    · rw [if_neg z, if_neg (by omega)]
theorem pp_del0 {f : Nat → Nat} {b p : Nat} : qq_del f b p p = f := by
  funext k; unfold qq_del; rw [if_neg (by omega)]
theorem pp_delS {f : Nat → Nat} {b i p : Nat} (h : p ≤ i) : ee_u (qq_del f b i p) (b + i) (qq_del f b i p (b + i + 1)) = qq_del f b (i + 1) p := by
  funext k
  unfold qq_del
  by_cases e : k = b + i
  · rw [e, ee_us, if_neg (by omega), if_pos (by omega)]
  · rw [ee_un e]
    by_cases z : b + p ≤ k ∧ k < b + i
    · rw [if_pos z, if_pos (by omega)]
    · rw [if_neg z, if_neg (by omega)]
section
variable {N T B F wc rc hea lf dr ps sb : Nat} {ck : Int32} {st kd fi en ln od bl lm re rn ct wf rf : Nat → Nat} {vl bo rd fo ca me : Nat → Int32} {nx ol yo os nw tg : Nat → Option Nat}
theorem xw_direction {post : Int32 → Prop} {s : Nat} (hs : s < 16) (hk : kd s < 32) (h : post (nI (qq_dir (kd s)))) : wpX_direction post (nI N, nI T, nI B, nI F, nI wc, nI rc, nI hea, nI lf, nI dr, nI ps, ck, nI sb, ee_N st, ee_N kd, ee_N fi, ee_N en, vl, bo, ee_N od, rd, ee_N bl, fo, ee_O nx, ee_N lm, ee_N re, ee_N rn, ee_N ct, ee_O ol, ee_O yo, ee_O os, ee_O nw, ee_N wf, ee_N rf, ee_O tg, ca, me) (nI s) := by
  refine And.intro (vp_in_nI hs (by omega)) (ee_if (ee_eN 0 (by omega) (by omega) (by omega)) (fun z => ?_) (fun z => ?_))
  · rw [qq_dir, if_pos z] at h; exact h
  · rw [qq_dir, if_neg z] at h; exact h
theorem xw_durable {post : Int32 → Prop} {s : Nat} (hs : s < 16) (hk : kd s < 32) (h : post (nI (qq_dur (kd s)))) : wpX_durable post (nI N, nI T, nI B, nI F, nI wc, nI rc, nI hea, nI lf, nI dr, nI ps, ck, nI sb, ee_N st, ee_N kd, ee_N fi, ee_N en, vl, bo, ee_N od, rd, ee_N bl, fo, ee_O nx, ee_N lm, ee_N re, ee_N rn, ee_N ct, ee_O ol, ee_O yo, ee_O os, ee_O nw, ee_N wf, ee_N rf, ee_O tg, ca, me) (nI s) := by
  refine And.intro (vp_in_nI hs (by omega)) (ee_if (ee_eN 3 (by omega) (by omega) (by omega)) (fun z => ?_) (fun z => And.intro (vp_in_nI hs (by omega)) (ee_if (ee_eN 4 (by omega) (by omega) (by omega)) (fun y => ?_) (fun y => ?_))))
  · rw [qq_dur, if_pos (Or.inl z)] at h; exact h
  · rw [qq_dur, if_pos (Or.inr y)] at h; exact h
  · rw [qq_dur, if_neg (fun w => w.elim z y)] at h; exact h
theorem xw_unfinished {post : Int32 → Prop} {s : Nat} (hs : s < 16) (hm : st s < 32) (h1 : qq_unf (st s) → post 1) (h0 : ¬ qq_unf (st s) → post 0) : wpX_unfinished post (nI N, nI T, nI B, nI F, nI wc, nI rc, nI hea, nI lf, nI dr, nI ps, ck, nI sb, ee_N st, ee_N kd, ee_N fi, ee_N en, vl, bo, ee_N od, rd, ee_N bl, fo, ee_O nx, ee_N lm, ee_N re, ee_N rn, ee_N ct, ee_O ol, ee_O yo, ee_O os, ee_O nw, ee_N wf, ee_N rf, ee_O tg, ca, me) (nI s) :=
  And.intro (vp_in_nI hs (by omega)) (nm_r (ee_rN (by omega)) (pk_eq (st s) 0 (fun z => h0 (fun w => w.1 z)) (fun z0 => pk_eq (st s) 7 (fun z => h0 (fun w => w.2.1 z)) (fun z7 => pk_eq (st s) 8 (fun z => h0 (fun w => w.2.2 z)) (fun z8 => h1 ⟨z0, z7, z8⟩)))))
theorem xw_needFlush {post : SX → Prop} {s m : Nat} (hs : s < 16) (hw : wc < 16) (h : post (nI N, nI T, nI B, nI F, nI (wc + 1), nI rc, nI hea, nI lf, nI dr, nI ps, ck, nI sb, ee_N (ee_u st s m), ee_N kd, ee_N fi, ee_N en, vl, bo, ee_N od, rd, ee_N bl, fo, ee_O nx, ee_N lm, ee_N re, ee_N rn, ee_N ct, ee_O ol, ee_O yo, ee_O os, ee_O nw, ee_N (ee_u wf wc s), ee_N rf, ee_O tg, ca, me)) : wpX_needFlush post (nI N, nI T, nI B, nI F, nI wc, nI rc, nI hea, nI lf, nI dr, nI ps, ck, nI sb, ee_N st, ee_N kd, ee_N fi, ee_N en, vl, bo, ee_N od, rd, ee_N bl, fo, ee_O nx, ee_N lm, ee_N re, ee_N rn, ee_N ct, ee_O ol, ee_O yo, ee_O os, ee_O nw, ee_N wf, ee_N rf, ee_O tg, ca, me) (nI s) (nI m) :=
  And.intro (vp_in_nI hs (by omega)) (nm_r (ee_wN (by omega)) (And.intro (vp_in_nI hw (by omega)) (nm_r (ee_wN (by omega)) (nm_r (nI_1 wc) h))))
theorem xw_link {post : SX → Prop} {b a : Option Nat} {d : Nat} (hd : d < 2) (hb : ∀ x, b = some x → x < 16) (ha : ∀ x, a = some x → x < 16) (h : post (nI N, nI T, nI B, nI F, nI wc, nI rc, nI hea, nI lf, nI dr, nI ps, ck, nI sb, ee_N st, ee_N kd, ee_N fi, ee_N en, vl, bo, ee_N od, rd, ee_N bl, fo, ee_O nx, ee_N lm, ee_N re, ee_N rn, ee_N ct, ee_O (qq_l1 ol a b), ee_O (qq_l1 yo b a), ee_O (qq_l0 os b d a), ee_O (qq_l0 nw a d b), ee_N wf, ee_N rf, ee_O tg, ca, me)) : wpX_link post (nI N, nI T, nI B, nI F, nI wc, nI rc, nI hea, nI lf, nI dr, nI ps, ck, nI sb, ee_N st, ee_N kd, ee_N fi, ee_N en, vl, bo, ee_N od, rd, ee_N bl, fo, ee_O nx, ee_N lm, ee_N re, ee_N rn, ee_N ct, ee_O ol, ee_O yo, ee_O os, ee_O nw, ee_N wf, ee_N rf, ee_O tg, ca, me) (ee_o b) (ee_o a) (nI d) := by
  rcases b with _ | x <;> rcases a with _ | y
  · exact br_f ee_o0 (And.intro (vp_in_nI hd (by omega)) (nm_r (ee_wO (by omega)) (br_f ee_o0 (And.intro (vp_in_nI hd (by omega)) (nm_r (ee_wO (by omega)) h)))))
  · have hy := ha y rfl
    exact br_f ee_o0 (And.intro (vp_in_nI hd (by omega)) (nm_r (ee_wO (by omega)) (br_t (ee_s0 (by omega)) (And.intro (vp_in_nI hy (by omega)) (nm_r (ee_wO (by omega)) h)))))
  · have hx := hb x rfl
    exact br_t (ee_s0 (by omega)) (And.intro (vp_in_nI hx (by omega)) (nm_r (ee_wO (by omega)) (br_f ee_o0 (And.intro (vp_in_nI hd (by omega)) (nm_r (ee_wO (by omega)) h)))))
  · have hx := hb x rfl
    have hy := ha y rfl
    exact br_t (ee_s0 (by omega)) (And.intro (vp_in_nI hx (by omega)) (nm_r (ee_wO (by omega)) (br_t (ee_s0 (by omega)) (And.intro (vp_in_nI hy (by omega)) (nm_r (ee_wO (by omega)) h)))))
theorem xw_ins14 {post : SX → Prop} {d pos s c : Nat} (hd : d < 2) (hct : ct d = c) (hc : c < 16) (h : post (nI N, nI T, nI B, nI F, nI wc, nI rc, nI hea, nI lf, nI dr, nI ps, ck, nI sb, ee_N st, ee_N kd, ee_N fi, ee_N en, vl, bo, ee_N od, rd, ee_N bl, fo, ee_O nx, ee_N lm, ee_N re, ee_N (ee_u (qq_ins rn (16 * d) pos c) (16 * d + pos) s), ee_N (ee_u ct d (c + 1)), ee_O ol, ee_O yo, ee_O os, ee_O nw, ee_N wf, ee_N rf, ee_O tg, ca, me)) :
    ∀ m n : Nat, pos + m ≤ c → m < n → wX_insertRun_14 post (nI d) (nI pos) (nI s) (nI (16 * d)) (nI N) (nI T) (nI B) (nI F) (nI wc) (nI rc) (nI hea) (nI lf) (nI dr) (nI ps) ck (nI sb) n (nI (pos + m)) (ee_N st) (ee_N kd) (ee_N fi) (ee_N en) vl bo (ee_N od) rd (ee_N bl) fo (ee_O nx) (ee_N lm) (ee_N re) (ee_N (qq_ins rn (16 * d) (pos + m) c)) (ee_N ct) (ee_O ol) (ee_O yo) (ee_O os) (ee_O nw) (ee_N wf) (ee_N rf) (ee_O tg) ca me := by
  intro m
  induction m with
  | zero =>
    intro n hm hn
    obtain ⟨n, rfl⟩ : ∃ k, n = k + 1 := ⟨n - 1, by omega⟩
    refine br_t (nI_le (by omega) (by omega)) (And.intro ?_ (nm_r (e' := ee_N (ee_u (qq_ins rn (16 * d) pos c) (16 * d + pos) s)) ?_ (And.intro (vp_in_nI hd (by omega)) (And.intro (vp_in_nI hd (by omega)) (nm_r (e' := ee_N (ee_u ct d (c + 1))) ?_ h)))))
    · rw [nI_add]; exact vp_in_nI (by omega) (by omega)
    · rw [nI_add]; exact ee_wN (by omega)
    · rw [ee_rN (by omega), hct, nI_1]; exact ee_wN (by omega)
  | succ m ih =>
    intro n hm hn
    obtain ⟨n, rfl⟩ : ∃ k, n = k + 1 := ⟨n - 1, by omega⟩
    have e1 : nI (16 * d) + nI (pos + (m + 1)) = nI (16 * d + (pos + m) + 1) := by rw [nI_add]; rfl
    have e2 : nI (16 * d) + nI (pos + (m + 1)) - 1 = nI (16 * d + (pos + m)) := by rw [e1]; exact nI_pred _
    refine br_f (nI_ge (by omega) (by omega)) (And.intro ?_ (And.intro ?_ (nm_r (e' := ee_N (qq_ins rn (16 * d) (pos + m) c)) ?_ (nm_r (e' := nI (pos + m)) (pk_m1 _) (ih n (by omega) (by omega))))))
    · rw [e2]; exact vp_in_nI (by omega) (by omega)
    · rw [e1]; exact vp_in_nI (by omega) (by omega)
    · rw [e2, e1, ee_rN (by omega), ee_wN (by omega)]
      exact congrArg ee_N (pp_insS (i := pos + m) (by omega))
theorem xw_insertRun {post : SX → Prop} {d pos s c : Nat} (hd : d < 2) (hct : ct d = c) (hc : c < 16) (hp : pos ≤ c) (h : post (nI N, nI T, nI B, nI F, nI wc, nI rc, nI hea, nI lf, nI dr, nI ps, ck, nI sb, ee_N st, ee_N kd, ee_N fi, ee_N en, vl, bo, ee_N od, rd, ee_N bl, fo, ee_O nx, ee_N lm, ee_N re, ee_N (ee_u (qq_ins rn (16 * d) pos c) (16 * d + pos) s), ee_N (ee_u ct d (c + 1)), ee_O ol, ee_O yo, ee_O os, ee_O nw, ee_N wf, ee_N rf, ee_O tg, ca, me)) : wpX_insertRun post (nI N, nI T, nI B, nI F, nI wc, nI rc, nI hea, nI lf, nI dr, nI ps, ck, nI sb, ee_N st, ee_N kd, ee_N fi, ee_N en, vl, bo, ee_N od, rd, ee_N bl, fo, ee_O nx, ee_N lm, ee_N re, ee_N rn, ee_N ct, ee_O ol, ee_O yo, ee_O os, ee_O nw, ee_N wf, ee_N rf, ee_O tg, ca, me) (nI d) (nI pos) (nI s) := by
  refine nm_r (e' := nI (16 * d)) (ee_base d) (And.intro (vp_in_nI hd (by omega)) (nm_r (e' := nI c) (by rw [ee_rN (by omega), hct]) ⟨c + 1, ?_⟩))
  have k := xw_ins14 (post := post) hd hct hc h (c - pos) (c + 1) (by omega) (by omega)
  rw [show pos + (c - pos) = c from by omega, pp_ins0] at k
  exact k
theorem xw_del18 {post : SX → Prop} {d p c : Nat} (hd : d < 2) (hct : ct d = c) (hc : c < 16) (h : post (nI N, nI T, nI B, nI F, nI wc, nI rc, nI hea, nI lf, nI dr, nI ps, ck, nI sb, ee_N st, ee_N kd, ee_N fi, ee_N en, vl, bo, ee_N od, rd, ee_N bl, fo, ee_O nx, ee_N lm, ee_N re, ee_N (qq_del rn (16 * d) c p), ee_N ct, ee_O ol, ee_O yo, ee_O os, ee_O nw, ee_N wf, ee_N rf, ee_O tg, ca, me)) :
    ∀ m i n : Nat, i + m = c → p ≤ i → m < n → wX_removeRun_18 post (nI d) (nI (16 * d)) (nI N) (nI T) (nI B) (nI F) (nI wc) (nI rc) (nI hea) (nI lf) (nI dr) (nI ps) ck (nI sb) n (nI i) (ee_N st) (ee_N kd) (ee_N fi) (ee_N en) vl bo (ee_N od) rd (ee_N bl) fo (ee_O nx) (ee_N lm) (ee_N re) (ee_N (qq_del rn (16 * d) i p)) (ee_N ct) (ee_O ol) (ee_O yo) (ee_O os) (ee_O nw) (ee_N wf) (ee_N rf) (ee_O tg) ca me := by
  intro m
  induction m with
  | zero =>
    intro i n hm hp hn
    obtain ⟨n, rfl⟩ : ∃ k, n = k + 1 := ⟨n - 1, by omega⟩
    have e : i = c := by omega
    subst e
    exact And.intro (vp_in_nI hd (by omega)) (br_t (by rw [ee_rN (by omega), hct]; exact nI_le (Nat.le_refl _) (by omega)) h)
  | succ m ih =>
    intro i n hm hp hn
    obtain ⟨n, rfl⟩ : ∃ k, n = k + 1 := ⟨n - 1, by omega⟩
    have e1 : nI (16 * d) + nI i = nI (16 * d + i) := nI_add _ _
    have e2 : nI (16 * d) + nI i + 1 = nI (16 * d + i + 1) := by rw [e1, nI_1]
    refine And.intro (vp_in_nI hd (by omega)) (br_f (by rw [ee_rN (by omega), hct]; exact nI_ge (by omega) (by omega)) (And.intro ?_ (And.intro ?_ (nm_r (e' := ee_N (qq_del rn (16 * d) (i + 1) p)) ?_ (nm_r (e' := nI (i + 1)) (nI_1 i) (ih (i + 1) n (by omega) (by omega) (by omega)))))))
    · rw [e2]; exact vp_in_nI (by omega) (by omega)
    · rw [e1]; exact vp_in_nI (by omega) (by omega)
    · rw [e2, e1, ee_rN (by omega), ee_wN (by omega)]
      exact congrArg ee_N (pp_delS hp)
theorem xw_removeRun {post : SX → Prop} {d p c : Nat} (hd : d < 2) (hct : ct d = c + 1) (hc : c < 16) (hp : p ≤ c) (h : post (nI N, nI T, nI B, nI F, nI wc, nI rc, nI hea, nI lf, nI dr, nI ps, ck, nI sb, ee_N st, ee_N kd, ee_N fi, ee_N en, vl, bo, ee_N od, rd, ee_N bl, fo, ee_O nx, ee_N lm, ee_N re, ee_N (qq_del rn (16 * d) c p), ee_N (ee_u ct d c), ee_O ol, ee_O yo, ee_O os, ee_O nw, ee_N wf, ee_N rf, ee_O tg, ca, me)) : wpX_removeRun post (nI N, nI T, nI B, nI F, nI wc, nI rc, nI hea, nI lf, nI dr, nI ps, ck, nI sb, ee_N st, ee_N kd, ee_N fi, ee_N en, vl, bo, ee_N od, rd, ee_N bl, fo, ee_O nx, ee_N lm, ee_N re, ee_N rn, ee_N ct, ee_O ol, ee_O yo, ee_O os, ee_O nw, ee_N wf, ee_N rf, ee_O tg, ca, me) (nI d) (nI p) := by
  refine nm_r (e' := nI (16 * d)) (ee_base d) (And.intro (vp_in_nI hd (by omega)) (And.intro (vp_in_nI hd (by omega)) (nm_r (e' := ee_N (ee_u ct d c)) ?_ ⟨c + 1, ?_⟩)))
  · rw [ee_rN (by omega), hct, nI_pred]; exact ee_wN (by omega)
  · have k := xw_del18 (post := post) (ct := ee_u ct d c) hd ee_us hc h (c - p) p (c + 1) (by omega) (Nat.le_refl _) (by omega)
    rw [pp_del0] at k
    exact k
theorem xw_lb13 {post : Int32 → Prop} {d x c : Nat} (hd : d < 2) (hc : c ≤ 16) (hx : x < 2 ^ 31) (hr : ∀ i, i < c → rn (16 * d + i) < 16 ∧ fi (rn (16 * d + i)) < 2 ^ 31) (hm : ∀ i j, i < j → j < c → fi (rn (16 * d + i)) ≤ fi (rn (16 * d + j)))
    (K : ∀ pos, pos ≤ c → (∀ i, i < pos → fi (rn (16 * d + i)) < x) → (∀ i, pos ≤ i → i < c → x ≤ fi (rn (16 * d + i))) → post (nI pos)) :
    ∀ r n lo hi : Nat, r < n → r ≤ 5 → hi - lo < 2 ^ r → lo ≤ hi → hi ≤ c → (∀ i, i < lo → fi (rn (16 * d + i)) < x) → (∀ i, hi ≤ i → i < c → x ≤ fi (rn (16 * d + i))) →
    wX_lowerBound_13 post (nI d) (nI x) (nI N) (nI T) (nI B) (nI F) (nI wc) (nI rc) (nI hea) (nI lf) (nI dr) (nI ps) ck (nI sb) (ee_N st) (ee_N kd) (ee_N fi) (ee_N en) vl bo (ee_N od) rd (ee_N bl) fo (ee_O nx) (ee_N lm) (ee_N re) (ee_N rn) (ee_N ct) (ee_O ol) (ee_O yo) (ee_O os) (ee_O nw) (ee_N wf) (ee_N rf) (ee_O tg) ca me n (nI lo) (nI hi) (nI (5 - r)) := by
  intro r
  induction r with
  | zero =>
    intro n lo hi hn h5 hs h1 h2 a b
    obtain ⟨n, rfl⟩ : ∃ k, n = k + 1 := ⟨n - 1, by omega⟩
    exact br_t (nI_le (a := 5) (by omega) (by omega)) (K lo (by omega) a (fun i i1 i2 => b i (by omega) i2))
  | succ r ih =>
    intro n lo hi hn h5 hs h1 h2 a b
    obtain ⟨n, rfl⟩ : ∃ k, n = k + 1 := ⟨n - 1, by omega⟩
    rw [Nat.pow_succ] at hs
    refine br_f (nI_ge (b := 5) (by omega) (by omega)) (pk_le hi lo (fun z => K lo (by omega) a (fun i i1 i2 => b i (by omega) i2)) (fun z => ?_))
    have em : (nI lo + nI hi) >>> ((1 : Int32) &&& 31) = nI ((lo + hi) / 2) := by
      rw [nI_add]; exact pk_shrN (by omega) _ 1 (by decide)
    obtain ⟨mid, hmid⟩ : ∃ mid, mid = (lo + hi) / 2 := ⟨_, rfl⟩
    rw [← hmid] at em
    have ix : nI d * 16 + nI mid = nI (16 * d + mid) := by rw [ee_base, nI_add]
    have h0 := hr mid (by omega)
    have hrd : ee_N rn (nI d * 16 + nI mid).toNatClampNeg = nI (rn (16 * d + mid)) := by rw [ix]; exact ee_rN (by omega)
    have e5 : nI (5 - (r + 1)) + 1 = nI (5 - r) := by rw [nI_1]; exact congrArg nI (by omega)
    refine nm_r em (And.intro (by rw [ix]; exact vp_in_nI (by omega) (by omega)) (And.intro (by rw [hrd]; exact vp_in_nI h0.1 (by omega)) ?_))
    refine ee_if (d := x ≤ fi (rn (16 * d + mid))) (by rw [hrd, ee_rN (by omega), nI_leI hx h0.2]) (fun z => ?_) (fun z => ?_)
    · refine nm_r e5 (ih n lo mid (by omega) (by omega) (by omega) (by omega) (by omega) a (fun i i1 i2 => ?_))
      rcases Nat.lt_or_ge mid i with w | w
      · exact Nat.le_trans z (hm mid i w i2)
      · rw [show i = mid from by omega]; exact z
    · refine nm_r (nI_1 mid) (nm_r e5 (ih n (mid + 1) hi (by omega) (by omega) (by omega) (by omega) (by omega) (fun i i1 => ?_) b))
      rcases Nat.lt_or_ge i mid with w | w
      · exact Nat.lt_of_le_of_lt (hm i mid w (by omega)) (by omega)
      · rw [show i = mid from by omega]; omega
theorem xw_lowerBound {post : Int32 → Prop} {d x c : Nat} (hd : d < 2) (hct : ct d = c) (hc : c ≤ 16) (hx : x < 2 ^ 31) (hr : ∀ i, i < c → rn (16 * d + i) < 16 ∧ fi (rn (16 * d + i)) < 2 ^ 31) (hm : ∀ i j, i < j → j < c → fi (rn (16 * d + i)) ≤ fi (rn (16 * d + j)))
    (K : ∀ pos, pos ≤ c → (∀ i, i < pos → fi (rn (16 * d + i)) < x) → (∀ i, pos ≤ i → i < c → x ≤ fi (rn (16 * d + i))) → post (nI pos)) : wpX_lowerBound post (nI N, nI T, nI B, nI F, nI wc, nI rc, nI hea, nI lf, nI dr, nI ps, ck, nI sb, ee_N st, ee_N kd, ee_N fi, ee_N en, vl, bo, ee_N od, rd, ee_N bl, fo, ee_O nx, ee_N lm, ee_N re, ee_N rn, ee_N ct, ee_O ol, ee_O yo, ee_O os, ee_O nw, ee_N wf, ee_N rf, ee_O tg, ca, me) (nI d) (nI x) := by
  refine And.intro (vp_in_nI hd (by omega)) (nm_r (e' := nI c) (by rw [ee_rN (by omega), hct]) ⟨6, ?_⟩)
  exact xw_lb13 hd hc hx hr hm K 5 6 0 c (by omega) (by omega) (by omega) (by omega) (by omega) (fun i hi => by omega) (fun i h1 h2 => by omega)
theorem xw_enq10 {post : SX → Prop} {P : Nat → Prop} {d s : Nat} (hs : s < 16) (hA : qq_AgeP P od ol yo (os d) (nw d)) (hP : ∀ q, P q → q < 16) (hod : ∀ q, P q → od q ≠ od s) (hmx : ∀ q, P q → od q < 100000) (hms : od s < 100000)
    (K : ∀ b, qq_lo P od (od s) b → wX_enqueueByAge_50 post (nI s) (nI d) (ee_o b) (nI N) (nI T) (nI B) (nI F) (nI wc) (nI rc) (nI hea) (nI lf) (nI dr) (nI ps) ck (nI sb) (ee_N st) (ee_N kd) (ee_N fi) (ee_N en) vl bo (ee_N od) rd (ee_N bl) fo (ee_O nx) (ee_N lm) (ee_N re) (ee_N rn) (ee_N ct) (ee_O ol) (ee_O yo) (ee_O os) (ee_O nw) (ee_N wf) (ee_N rf) (ee_O tg) ca me) :
    ∀ m n o b, m < n → m ≤ 16 → cn (fun r => P r ∧ od r < o) 16 ≤ m → od s ≤ o → qq_lo P od o b → wX_enqueueByAge_10 post (nI s) (nI d) (nI N) (nI T) (nI B) (nI F) (nI wc) (nI rc) (nI hea) (nI lf) (nI dr) (nI ps) ck (nI sb) (ee_N st) (ee_N kd) (ee_N fi) (ee_N en) vl bo (ee_N od) rd (ee_N bl) fo (ee_O nx) (ee_N lm) (ee_N re) (ee_N rn) (ee_N ct) (ee_O ol) (ee_O yo) (ee_O os) (ee_O nw) (ee_N wf) (ee_N rf) (ee_O tg) ca me n (ee_o b) (nI (16 - m)) := by
  intro m
  induction m with
  | zero =>
    intro n o b hn hm hc ho hb
    obtain ⟨n, rfl⟩ : ∃ k, n = k + 1 := ⟨n - 1, by omega⟩
    refine br_t (nI_le (a := 16) (by omega) (by omega)) (K b ?_)
    rcases b with _ | q
    · rw [pp_lo_none] at hb ⊢
      exact fun q hq => Nat.le_trans ho (hb q hq)
    · rw [pp_lo_some] at hb
      have := cn_pos (P := fun r => P r ∧ od r < o) ⟨hb.1, hb.2.1⟩ (hP q hb.1)
      omega
  | succ m ih =>
    intro n o b hn hm hc ho hb
    obtain ⟨n, rfl⟩ : ∃ k, n = k + 1 := ⟨n - 1, by omega⟩
    refine br_f (nI_ge (b := 16) (by omega) (by omega)) ?_
    rcases b with _ | q
    · refine br_t ee_o1 (K none ?_)
      rw [pp_lo_none] at hb ⊢
      exact fun q hq => Nat.le_trans ho (hb q hq)
    · rw [pp_lo_some] at hb
      have hq := hP q hb.1
      have hmq := hmx q hb.1
      refine br_f (ee_s1 (by omega)) (And.intro (vp_in_nI hq (by omega)) (And.intro (vp_in_nI hs (by omega)) (ee_if (d := od q ≤ od s) (by rw [show ee_o (some q) = nI q from rfl, ee_rN (by omega), ee_rN (by omega)]; exact ee_sub0 (by omega) (by omega)) (fun z => ?_) (fun z => ?_))))
      · refine K (some q) ?_
        rw [pp_lo_some]
        refine ⟨hb.1, by have := hod q hb.1; omega, fun r hr => ?_⟩
        have := hb.2.2 r hr; omega
      · refine And.intro (vp_in_nI hq (by omega)) (nm_r (e' := ee_o (ol q)) (ee_rO (by omega)) (nm_r (e' := nI (16 - m)) (by rw [nI_1]; exact congrArg nI (by omega)) (ih n (od q) (ol q) (by omega) (by omega) ?_ (by omega) (hA.1 q hb.1).1)))
        have := cn_lt (P := fun r => P r ∧ od r < od q) (Q := fun r => P r ∧ od r < o) (a := q) (fun w => by have := w.2; omega) ⟨hb.1, hb.2.1⟩ (N := 16) (fun k _ w => ⟨w.1, by have := w.2; have := hb.2.1; omega⟩) hq
        omega
theorem xw_enq {post : SX → Prop} {P P' : Nat → Prop} {d s : Nat} (hd : d < 2) (hs : s < 16) (hA : qq_AgeP P od ol yo (os d) (nw d)) (hP : ∀ q, P q → q < 16) (hPP : ∀ q, P' q ↔ P q ∨ q = s) (hod : ∀ q, P q → od q ≠ od s) (hinj : ∀ q r, P q → P r → od q = od r → q = r) (hmx : ∀ q, P q → od q < 100000) (hms : od s < 100000)
    (K : ∀ ol' yo' os' nw', qq_AgeP P' od ol' yo' (os' d) (nw' d) → (∀ d', d' ≠ d → os' d' = os d' ∧ nw' d' = nw d') → (∀ q, ¬ P q → q ≠ s → ol' q = ol q ∧ yo' q = yo q) → post (nI N, nI T, nI B, nI F, nI wc, nI rc, nI hea, nI lf, nI dr, nI ps, ck, nI sb, ee_N st, ee_N kd, ee_N fi, ee_N en, vl, bo, ee_N od, rd, ee_N bl, fo, ee_O nx, ee_N lm, ee_N re, ee_N rn, ee_N ct, ee_O ol', ee_O yo', ee_O os', ee_O nw', ee_N wf, ee_N rf, ee_O tg, ca, me)) : wpX_enqueueByAge post (nI N, nI T, nI B, nI F, nI wc, nI rc, nI hea, nI lf, nI dr, nI ps, ck, nI sb, ee_N st, ee_N kd, ee_N fi, ee_N en, vl, bo, ee_N od, rd, ee_N bl, fo, ee_O nx, ee_N lm, ee_N re, ee_N rn, ee_N ct, ee_O ol, ee_O yo, ee_O os, ee_O nw, ee_N wf, ee_N rf, ee_O tg, ca, me) (nI s) (nI d) := by
  refine And.intro (vp_in_nI hd (by omega)) (nm_r (e' := ee_o (nw d)) (ee_rO (by omega)) ⟨17, xw_enq10 (P := P) hs hA hP hod hmx hms (fun b hb => ?_) 16 17 100000 (nw d) (by omega) (by omega) (cn_le _ _) (by omega) hA.2.2⟩)
  have key : ∀ a : Option Nat, (b = none → a = os d) → (∀ x, b = some x → a = yo x) → wX_enqueueByAge_69 post (nI s) (nI d) (ee_o b) (ee_o a) (nI N) (nI T) (nI B) (nI F) (nI wc) (nI rc) (nI hea) (nI lf) (nI dr) (nI ps) ck (nI sb) (ee_N st) (ee_N kd) (ee_N fi) (ee_N en) vl bo (ee_N od) rd (ee_N bl) fo (ee_O nx) (ee_N lm) (ee_N re) (ee_N rn) (ee_N ct) (ee_O ol) (ee_O yo) (ee_O os) (ee_O nw) (ee_N wf) (ee_N rf) (ee_O tg) ca me := by
    intro a ha0 ha1
    have hA2 := pp_age_after hA hod hb ha0 ha1
    have bP : ∀ x, b = some x → P x := fun x e => by rw [e, pp_lo_some] at hb; exact hb.1
    have aP : ∀ x, a = some x → P x := fun x e => by rw [e, pp_hi_some] at hA2; exact hA2.1
    refine xw_link (b := b) (a := some s) (d := d) hd (fun x e => hP x (bP x e)) (fun x e => by rw [← Option.some.inj e]; exact hs) ?_
    refine xw_link (b := some s) (a := a) (d := d) hd (fun x e => by rw [← Option.some.inj e]; exact hs) (fun x e => hP x (aP x e)) (K _ _ _ _ ?_ ?_ ?_)
    · refine pp_age_ins (b := b) (a := a) hA hPP hod hinj hmx hms hb ha0 ha1 (fun q => ?_) (fun q => ?_) ?_ ?_
      · rw [pp_l1, pp_l1]
        by_cases e : a = some q
        · rw [if_pos e, if_pos e]
        · rw [if_neg e, if_neg e]
          by_cases e2 : q = s
          · rw [if_pos e2, if_pos (by rw [e2])]
          · rw [if_neg e2, if_neg (fun z => e2 (Option.some.inj z).symm)]
      · rw [pp_l1, pp_l1]
        by_cases e2 : q = s
        · rw [if_pos e2, if_pos (by rw [e2])]
        · rw [if_neg e2, if_neg (fun z => e2 (Option.some.inj z).symm)]
      · rw [pp_l0, if_neg (fun z => nomatch z), pp_l0]
      · rw [pp_l0, pp_l0, if_neg (c := some s = none) (fun z => nomatch z)]
    · intro d' hd'
      exact ⟨by rw [pp_l0n hd', pp_l0n hd'], by rw [pp_l0n hd', pp_l0n hd']⟩
    · intro q hq hne
      have n1 : ¬ some s = some q := fun z => hne (Option.some.inj z).symm
      exact ⟨by rw [pp_l1, if_neg (fun z => hq (aP q z)), pp_l1, if_neg n1], by rw [pp_l1, if_neg n1, pp_l1, if_neg (fun z => hq (bP q z))]⟩
  rcases b with _ | x
  · refine br_f ee_o0 (And.intro (vp_in_nI hd (by omega)) ?_)
    rw [ee_rO (by omega)]
    exact key (os d) (fun _ => rfl) (fun x e => nomatch e)
  · have hx := hP x (by rw [pp_lo_some] at hb; exact hb.1)
    refine br_t (ee_s0 (by omega)) (And.intro (vp_in_nI hx (by omega)) ?_)
    rw [show ee_o (some x) = nI x from rfl, ee_rO (by omega)]
    exact key (yo x) (fun e => nomatch e) (fun y e => by rw [← Option.some.inj e])
theorem xw_deq {post : SX → Prop} {P P' : Nat → Prop} {d s : Nat} (hd : d < 2) (hA : qq_AgeP P od ol yo (os d) (nw d)) (hs : P s) (hP : ∀ q, P q → q < 16) (hPP : ∀ q, P' q ↔ P q ∧ q ≠ s) (hinj : ∀ q r, P q → P r → od q = od r → q = r) (hmx : ∀ q, P q → od q < 100000)
    (K : ∀ ol' yo' os' nw', qq_AgeP P' od ol' yo' (os' d) (nw' d) → (∀ d', d' ≠ d → os' d' = os d' ∧ nw' d' = nw d') → (∀ q, ¬ P q → ol' q = ol q ∧ yo' q = yo q) → post (nI N, nI T, nI B, nI F, nI wc, nI rc, nI hea, nI lf, nI dr, nI ps, ck, nI sb, ee_N st, ee_N kd, ee_N fi, ee_N en, vl, bo, ee_N od, rd, ee_N bl, fo, ee_O nx, ee_N lm, ee_N re, ee_N rn, ee_N ct, ee_O ol', ee_O yo', ee_O os', ee_O nw', ee_N wf, ee_N rf, ee_O tg, ca, me)) : wpX_dequeueByAge post (nI N, nI T, nI B, nI F, nI wc, nI rc, nI hea, nI lf, nI dr, nI ps, ck, nI sb, ee_N st, ee_N kd, ee_N fi, ee_N en, vl, bo, ee_N od, rd, ee_N bl, fo, ee_O nx, ee_N lm, ee_N re, ee_N rn, ee_N ct, ee_O ol, ee_O yo, ee_O os, ee_O nw, ee_N wf, ee_N rf, ee_O tg, ca, me) (nI s) (nI d) := by
  have h16 := hP s hs
  refine And.intro (vp_in_nI h16 (by omega)) (And.intro (vp_in_nI h16 (by omega)) ?_)
  rw [ee_rO (by omega), ee_rO (by omega)]
  have oP : ∀ x, ol s = some x → P x := fun x e => by have k := (hA.1 s hs).1; rw [e, pp_lo_some] at k; exact k.1
  have yP : ∀ x, yo s = some x → P x := fun x e => by have k := (hA.1 s hs).2; rw [e, pp_hi_some] at k; exact k.1
  refine xw_link (b := ol s) (a := yo s) (d := d) hd (fun x e => hP x (oP x e)) (fun x e => hP x (yP x e)) (K _ _ _ _ ?_ ?_ ?_)
  · exact pp_age_del hA hPP hs hinj hmx (fun q => pp_l1) (fun q => pp_l1) pp_l0 pp_l0
  · intro d' hd'
    exact ⟨pp_l0n hd', pp_l0n hd'⟩
  · intro q hq
    exact ⟨by rw [pp_l1, if_neg (fun z => hq (yP q z))], by rw [pp_l1, if_neg (fun z => hq (oP q z))]⟩
end
end
section
/-! joining runs, making a request ready -/
/-- only the runs of direction d are touched -/
def qq_Fr (d : Nat) (st kd : Nat → Nat) (nx : Nat → Option Nat) (lm re rn ct : Nat → Nat) (nx' : Nat → Option Nat) (lm' re' rn' ct' : Nat → Nat) : Prop :=
  (∀ q, ¬ qq_R st kd d q → nx' q = nx q ∧ lm' q = lm q ∧ re' q = re q) ∧ (∀ i, (i < 16 * d ∨ 16 * d + 16 ≤ i) → rn' i = rn i) ∧ (∀ d', d' ≠ d → ct' d' = ct d')
theorem pp_tab_weak {E : Nat → Prop} {d c p : Nat} {st kd fi en lm re l : Nat → Nat} {nx : Nat → Option Nat} (h : qq_Tab E d st kd fi en nx lm re l c) (hw : p + 1 < c → re (l p) = fi (l (p + 1)) → qq_dur (kd (l p)) ≠ qq_dur (kd (l (p + 1)))) : qq_Tab (fun i => E i ∧ i ≠ p) d st kd fi en nx lm re l c := by
  obtain ⟨h1, h2, h3, h4, h5, h6⟩ := h
  refine ⟨h1, h2, h3, h4, h5, fun i hi hE => ?_⟩
  by_cases e : i = p
  · subst e; exact hw hi
  · exact h6 i hi (fun z => hE ⟨z, e⟩)
theorem pp_tab_E {E E' : Nat → Prop} {d c : Nat} {st kd fi en lm re l : Nat → Nat} {nx : Nat → Option Nat} (h : qq_Tab E d st kd fi en nx lm re l c) (hE : ∀ i, E i → E' i) : qq_Tab E' d st kd fi en nx lm re l c := by
  obtain ⟨h1, h2, h3, h4, h5, h6⟩ := h
  exact ⟨h1, h2, h3, h4, h5, fun i hi hn => h6 i hi (fun z => hn (hE i z))⟩
theorem pp_dev_congr {st kd fi en st' kd' fi' en' : Nat → Nat} {nx nx' tg : Nat → Option Nat} (h : qq_Dev st kd fi en nx tg) (hs : ∀ q, 16 ≤ st q ∨ 16 ≤ st' q → st' q = st q) (hv : ∀ q, 16 ≤ st q → nx' q = nx q ∧ fi' q = fi q ∧ en' q = en q ∧ kd' q = kd q) : qq_Dev st' kd' fi' en' nx' tg := by
  intro t ht
  obtain ⟨a, b, c, d⟩ := h t ht
  have e1 : ∀ q, st' q = 16 + t → st q = 16 + t := fun q hq => by rw [← hs q (Or.inr (by omega))]; exact hq
  have e2 : ∀ q, st q = 16 + t → st' q = 16 + t := fun q hq => by rw [hs q (Or.inl (by omega))]; exact hq
  have v : ∀ q, st q = 16 + t → nx' q = nx q ∧ fi' q = fi q ∧ en' q = en q ∧ kd' q = kd q := fun q hq => hv q (by omega)
  refine ⟨fun z q hq => a z q (e1 q hq), fun l hl => ?_, fun q hq => ?_, fun q r hq hr => ?_⟩
  · obtain ⟨b1, b2⟩ := b l hl
    refine ⟨e2 l b1, fun q hq => ?_⟩
    rw [(v l b1).2.1, (v q (e1 q hq)).2.1]; exact b2 q (e1 q hq)
  · rw [(v q (e1 q hq)).1, (v q (e1 q hq)).2.1, (v q (e1 q hq)).2.2.1]
    rcases c q (e1 q hq) with ⟨c1, c2⟩ | ⟨r, c1, c2, c3⟩
    · refine Or.inl ⟨c1, fun r hr => ?_⟩
      rw [(v r (e1 r hr)).2.1]; exact c2 r (e1 r hr)
    · exact Or.inr ⟨r, c1, e2 r c2, by rw [(v r c2).2.1]; exact c3⟩
  · rw [(v q (e1 q hq)).2.2.2, (v r (e1 r hr)).2.2.2]; exact d q r (e1 q hq) (e1 r hr)
theorem pp_dirlt (k : Nat) : qq_dir k < 2 := by
  unfold qq_dir; split <;> omega
theorem pp_durlt (k : Nat) : qq_dur k < 2 := by
  unfold qq_dur; split <;> omega
section
variable {N T B F wc rc hea lf dr ps sb : Nat} {ck : Int32} {st kd fi en ln od bl lm re rn ct wf rf : Nat → Nat} {vl bo rd fo ca me : Nat → Int32} {nx ol yo os nw tg : Nat → Option Nat}
theorem xw_join {post : SX → Prop} {E : Nat → Prop} {d p c : Nat} (hd : d < 2) (hct : ct d = c) (hp : p < 100) (hT : qq_Tab E d st kd fi en nx lm re (fun i => rn (16 * d + i)) c) (hD : qq_Dj st fi en) (hE : ∀ i, E i → i ≤ p) (hk : ∀ q, kd q ≤ 5)
    (K : ∀ nx' lm' re' rn' ct', qq_Tab (fun i => E i ∧ i ≠ p) d st kd fi en nx' lm' re' (fun i => rn' (16 * d + i)) (ct' d) → qq_Fr d st kd nx lm re rn ct nx' lm' re' rn' ct' → post (nI N, nI T, nI B, nI F, nI wc, nI rc, nI hea, nI lf, nI dr, nI ps, ck, nI sb, ee_N st, ee_N kd, ee_N fi, ee_N en, vl, bo, ee_N od, rd, ee_N bl, fo, ee_O nx', ee_N lm', ee_N re', ee_N rn', ee_N ct', ee_O ol, ee_O yo, ee_O os, ee_O nw, ee_N wf, ee_N rf, ee_O tg, ca, me)) : wpX_joinWithNext post (nI N, nI T, nI B, nI F, nI wc, nI rc, nI hea, nI lf, nI dr, nI ps, ck, nI sb, ee_N st, ee_N kd, ee_N fi, ee_N en, vl, bo, ee_N od, rd, ee_N bl, fo, ee_O nx, ee_N lm, ee_N re, ee_N rn, ee_N ct, ee_O ol, ee_O yo, ee_O os, ee_O nw, ee_N wf, ee_N rf, ee_O tg, ca, me) (nI d) (nI p) := by
  have fr0 : qq_Fr d st kd nx lm re rn ct nx lm re rn ct := ⟨fun _ _ => ⟨rfl, rfl, rfl⟩, fun _ _ => rfl, fun _ _ => rfl⟩
  have c16 : c ≤ 16 := hT.1
  refine br_f (nI_pos (by omega)) (And.intro (vp_in_nI hd (by omega)) (pk_lt (p + 1) c (fun hpc => ?_) (fun hpc => K nx lm re rn ct (by rw [hct]; exact pp_tab_weak hT (fun z => by omega)) fr0) (nI_1 p) (by rw [ee_rN (by omega), hct])))
  have ix1 : nI d * 16 + nI p = nI (16 * d + p) := by rw [ee_base, nI_add]
  have ix2 : nI d * 16 + nI p + 1 = nI (16 * d + p + 1) := by rw [ix1, nI_1]
  obtain ⟨⟨p1, p2⟩, p3, ⟨p4, p5⟩, p6⟩ := hT.2.1 p (by omega)
  obtain ⟨⟨q1, q2⟩, q3, ⟨q4, q5⟩, q6⟩ := hT.2.1 (p + 1) hpc
  dsimp only at p1 p2 p3 p4 p5 p6 q1 q2 q3 q4 q5 q6
  obtain ⟨lo, hlo⟩ : ∃ lo, lo = rn (16 * d + p) := ⟨_, rfl⟩
  obtain ⟨hi, hhi⟩ : ∃ hi, hi = rn (16 * d + p + 1) := ⟨_, rfl⟩
  rw [← hlo] at p1 p2 p3 p4 p5 p6
  rw [show 16 * d + (p + 1) = 16 * d + p + 1 from by omega, ← hhi] at q1 q2 q3 q4 q5 q6
  have l16 := (hD.1 _ p1).1
  have h16 := (hD.1 _ q1).1
  have m16 := (hD.1 _ p4).1
  have lz := hD.1 _ p1
  have hz := hD.1 _ q1
  have mz := hD.1 _ p4
  have nz := hD.1 _ q4
  refine And.intro (by rw [ix1]; exact vp_in_nI (by omega) (by omega)) (nm_r (e' := nI lo) (by rw [ix1, ee_rN (by omega), hlo]) (And.intro (by rw [ix2]; exact vp_in_nI (by omega) (by omega)) (nm_r (e' := nI hi) (by rw [ix2, ee_rN (by omega), hhi]) (And.intro (vp_in_nI l16 (by omega)) (And.intro (vp_in_nI h16 (by omega)) ?_)))))
  have hlp : rn (16 * d + p) = lo := hlo.symm
  have hhp : rn (16 * d + (p + 1)) = hi := hhi.symm
  refine pk_eq (re lo) (fi hi) (fun he => ?_) (fun he => K nx lm re rn ct (by rw [hct]; exact pp_tab_weak hT (fun _ z => by rw [hlp, hhp] at z; exact absurd z he)) fr0) (ee_rN (by omega)) (ee_rN (by omega)) (by omega) (by omega)
  refine xw_durable l16 (by have := hk lo; omega) (xw_durable h16 (by have := hk hi; omega) ?_)
  have d1 := pp_durlt (kd lo)
  have d2 := pp_durlt (kd hi)
  refine pk_eq (qq_dur (kd lo)) (qq_dur (kd hi)) (fun hu => ?_) (fun hu => K nx lm re rn ct (by rw [hct]; exact pp_tab_weak hT (fun _ _ => by rw [hlp, hhp]; exact hu)) fr0)
  obtain ⟨c0, rfl⟩ : ∃ k, c = k + 1 := ⟨c - 1, by omega⟩
  have elm : ee_N lm (nI lo).toNatClampNeg = nI (lm lo) := ee_rN (by omega)
  refine And.intro (vp_in_nI l16 (by omega)) (And.intro (by rw [elm]; exact vp_in_nI m16 (by omega)) (nm_r (e' := ee_O (ee_u nx (lm lo) (some hi))) (by rw [elm]; exact ee_wO (v := some hi) (by omega)) (And.intro (vp_in_nI h16 (by omega)) (And.intro (vp_in_nI l16 (by omega)) (nm_r (e' := ee_N (ee_u lm lo (lm hi))) (by rw [ee_rN (f := lm) (i := hi) (by omega)]; exact ee_wN (by omega)) (And.intro (vp_in_nI h16 (by omega)) (And.intro (vp_in_nI l16 (by omega)) (nm_r (e' := ee_N (ee_u re lo (re hi))) (by rw [ee_rN (f := re) (i := hi) (by omega)]; exact ee_wN (by omega)) ?_))))))))
  rw [nI_1 p]
  refine xw_removeRun (c := c0) hd hct (by omega) (by omega) (K _ _ _ _ _ ?_ ?_)
  · rw [ee_us]
    have J := pp_tab_join (l' := fun i => qq_del rn (16 * d) c0 (p + 1) (16 * d + i)) hT hD hpc hE (by rw [hlp, hhp]; exact he) (by rw [hlp, hhp]; exact hu) (fun i hi => if_neg (by omega)) (fun i h1 h2 => if_pos (by omega))
    rw [hlp, hhp] at J
    exact J
  · refine ⟨fun q hq => ?_, fun i hi => if_neg (by omega), fun d' hd' => ee_un hd'⟩
    have e1 : q ≠ lo := fun z => hq (by rw [z]; exact ⟨p1, p2⟩)
    have e2 : q ≠ lm lo := fun z => hq (by rw [z]; exact ⟨p4, p5⟩)
    exact ⟨ee_un e2, ee_un e1, ee_un e1⟩
theorem xw_joinZ {post : SX → Prop} {E : Nat → Prop} {d p c : Nat} (hd : d < 2) (hct : ct d = c) (hp : p < 100) (hT : qq_Tab E d st kd fi en nx lm re (fun i => rn (16 * d + i)) c) (hD : qq_Dj st fi en) (hE : ∀ i, E i → i + 1 = p) (hk : ∀ q, kd q ≤ 5)
    (K : ∀ nx' lm' re' rn' ct', qq_Tab qq_E0 d st kd fi en nx' lm' re' (fun i => rn' (16 * d + i)) (ct' d) → qq_Fr d st kd nx lm re rn ct nx' lm' re' rn' ct' → post (nI N, nI T, nI B, nI F, nI wc, nI rc, nI hea, nI lf, nI dr, nI ps, ck, nI sb, ee_N st, ee_N kd, ee_N fi, ee_N en, vl, bo, ee_N od, rd, ee_N bl, fo, ee_O nx', ee_N lm', ee_N re', ee_N rn', ee_N ct', ee_O ol, ee_O yo, ee_O os, ee_O nw, ee_N wf, ee_N rf, ee_O tg, ca, me)) : wpX_joinWithNext post (nI N, nI T, nI B, nI F, nI wc, nI rc, nI hea, nI lf, nI dr, nI ps, ck, nI sb, ee_N st, ee_N kd, ee_N fi, ee_N en, vl, bo, ee_N od, rd, ee_N bl, fo, ee_O nx, ee_N lm, ee_N re, ee_N rn, ee_N ct, ee_O ol, ee_O yo, ee_O os, ee_O nw, ee_N wf, ee_N rf, ee_O tg, ca, me) (nI d) (nI p - 1) := by
  rcases p with _ | p
  · refine br_t (by decide) (K nx lm re rn ct (by rw [hct]; exact pp_tab_E hT (fun i z => absurd (hE i z) (by omega))) ⟨fun _ _ => ⟨rfl, rfl, rfl⟩, fun _ _ => rfl, fun _ _ => rfl⟩)
  · rw [nI_pred]
    refine xw_join hd hct (by omega) hT hD (fun i z => by have := hE i z; omega) hk (fun nx' lm' re' rn' ct' h1 h2 => K nx' lm' re' rn' ct' (pp_tab_E h1 (fun i z => ?_)) h2)
    have := hE i z.1
    exact z.2 (by omega)
theorem pp_fr_trans {d : Nat} {nx1 nx2 : Nat → Option Nat} {lm1 re1 rn1 ct1 lm2 re2 rn2 ct2 : Nat → Nat} (h1 : qq_Fr d st kd nx lm re rn ct nx1 lm1 re1 rn1 ct1) (h2 : qq_Fr d st kd nx1 lm1 re1 rn1 ct1 nx2 lm2 re2 rn2 ct2) : qq_Fr d st kd nx lm re rn ct nx2 lm2 re2 rn2 ct2 := by
  obtain ⟨a1, a2, a3⟩ := h1
  obtain ⟨b1, b2, b3⟩ := h2
  refine ⟨fun q hq => ?_, fun i hi => (b2 i hi).trans (a2 i hi), fun d' hd' => (b3 d' hd').trans (a3 d' hd')⟩
  obtain ⟨x1, x2, x3⟩ := a1 q hq
  obtain ⟨y1, y2, y3⟩ := b1 q hq
  exact ⟨y1.trans x1, y2.trans x2, y3.trans x3⟩
/-- distinct numbers below N with p are at most as many as p counts -/
theorem cn_inj {P : Nat → Prop} {N : Nat} : ∀ {c : Nat} {l : Nat → Nat}, (∀ i, i < c → P (l i) ∧ l i < N) → (∀ i j, i < j → j < c → l i ≠ l j) → c ≤ cn P N := by
  intro c
  induction c generalizing P with
  | zero => intro l _ _; exact Nat.zero_le _
  | succ c ih =>
    intro l h1 h2
    have k := ih (P := fun q => P q ∧ q ≠ l c) (l := l) (fun i hi => ⟨⟨(h1 i (by omega)).1, h2 i c hi (by omega)⟩, (h1 i (by omega)).2⟩) (fun i j a b => h2 i j a (by omega))
    have z := cn_lt (P := fun q => P q ∧ q ≠ l c) (Q := P) (a := l c) (fun w => w.2 rfl) (h1 c (by omega)).1 (N := N) (fun _ _ w => w.1) (h1 c (by omega)).2
    omega
theorem pp_tab_room {E : Nat → Prop} {d c s : Nat} {l : Nat → Nat} (h : qq_Tab E d st kd fi en nx lm re l c) (hs : s < 16) (h4 : st s ≠ 4) (hlt : ∀ q, st q = 4 → q < 16) : c < 16 := by
  obtain ⟨h1, h2, h3, _⟩ := h
  have k := cn_inj (P := fun q => st q = 4) (N := 16) (c := c) (l := l) (fun i hi => ⟨(h2 i hi).1.1, hlt _ (h2 i hi).1.1⟩) (fun i j a b e => by have := h3 i j a b; have := (h2 i (by omega)).2.1; rw [e] at this; rw [e] at *; omega)
  have z := cn_lt (P := fun q => st q = 4) (Q := fun _ => True) (a := s) h4 trivial (N := 16) (fun _ _ _ => trivial) hs
  have := cn_le (fun _ => True) 16
  omega
theorem xw_makeReady {post : SX → Prop} {s : Nat} {tgG : Nat → Option Nat} (hs : s < 16) (h4 : st s ≠ 4) (h16 : st s < 16) (hA : qq_TAD st kd fi en od nx lm re rn ct ol yo os nw tgG) (hD : qq_Dj (ee_u st s 4) fi en) (hk : ∀ q, kd q ≤ 5) (hinj : ∀ q r, ee_u st s 4 q = 4 → ee_u st s 4 r = 4 → od q = od r → q = r) (hmx : ∀ q, od q < 100000)
    (K : ∀ nx' lm' re' rn' ct' ol' yo' os' nw', qq_TAD (ee_u st s 4) kd fi en od nx' lm' re' rn' ct' ol' yo' os' nw' tgG → post (nI N, nI T, nI B, nI F, nI wc, nI rc, nI hea, nI lf, nI dr, nI ps, ck, nI sb, ee_N (ee_u st s 4), ee_N kd, ee_N fi, ee_N en, vl, bo, ee_N od, rd, ee_N bl, fo, ee_O nx', ee_N lm', ee_N re', ee_N rn', ee_N ct', ee_O ol', ee_O yo', ee_O os', ee_O nw', ee_N wf, ee_N rf, ee_O tg, ca, me)) : wpX_makeReady post (nI N, nI T, nI B, nI F, nI wc, nI rc, nI hea, nI lf, nI dr, nI ps, ck, nI sb, ee_N st, ee_N kd, ee_N fi, ee_N en, vl, bo, ee_N od, rd, ee_N bl, fo, ee_O nx, ee_N lm, ee_N re, ee_N rn, ee_N ct, ee_O ol, ee_O yo, ee_O os, ee_O nw, ee_N wf, ee_N rf, ee_O tg, ca, me) (nI s) := by
  obtain ⟨tT, tA, tD⟩ := hA
  have hd := pp_dirlt (kd s)
  obtain ⟨d, hds⟩ : ∃ d, d = qq_dir (kd s) := ⟨_, rfl⟩
  rw [← hds] at hd
  have S : ∀ q, st q = 4 → q ≠ s := fun q hq e => h4 (e ▸ hq)
  have S4 : ee_u st s 4 s = 4 := ee_us
  have U4 : ∀ q, st q = 4 → ee_u st s 4 q = 4 := fun q hq => by rw [ee_un (S q hq)]; exact hq
  have lt16 : ∀ q, st q = 4 → q < 16 := fun q hq => (hD.1 q (U4 q hq)).1
  have sz := hD.1 s S4
  have hT0 := tT d hd
  have hin : vp_in (nI s) 16 := vp_in_nI hs (by omega)
  unfold wpX_makeReady
  refine xw_direction (kd := kd) hs (by have := hk s; omega) ?_
  rw [← hds]
  refine And.intro hin (nm_r (ee_wN (v := 4) (by omega)) (And.intro hin (nm_r (ee_wO (v := none) (by omega)) (And.intro hin (nm_r (ee_wN (by omega)) (And.intro hin (And.intro hin (nm_r (e' := ee_N (ee_u re s (en s))) (by rw [ee_rN (f := en) (i := s) (by omega)]; exact ee_wN (by omega)) ?_))))))))
  refine xw_enq (P := qq_R st kd d) (P' := qq_R (ee_u st s 4) kd d) hd hs (tA d hd) (fun q hq => lt16 q hq.1) (fun q => ?_) (fun q hq e => S q hq.1 (hinj q s (U4 q hq.1) S4 e)) (fun q r hq hr e => hinj q r (U4 q hq.1) (U4 r hr.1) e) (fun q _ => hmx q) (hmx s) (fun ol' yo' os' nw' hA' hF hF2 => ?_)
  · constructor
    · rintro ⟨a, b⟩
      rcases pp_u4.mp a with a | a
      · exact Or.inl ⟨a, b⟩
      · exact Or.inr a
    · rintro (⟨a, b⟩ | a)
      · exact ⟨U4 q a, b⟩
      · rw [a]; exact ⟨S4, hds.symm⟩
  refine And.intro hin ?_
  rw [ee_rN (f := fi) (i := s) (by omega)]
  have hc := pp_tab_room hT0 hs h4 lt16
  refine xw_lowerBound (c := ct d) hd rfl (by omega) (by omega) (fun i hi => ?_) (fun i j a b => ?_) (fun pos hp hp1 hp2 => ?_)
  · have k := (hT0.2.1 i hi).1.1
    have this := hD.1 _ (U4 _ k)
    dsimp only at this
    exact ⟨this.1, by omega⟩
  · have k1 := hT0.2.2.1 i j a b
    have k2 := (hT0.2.1 i (by omega)).2.1
    dsimp only at k1 k2
    omega
  have hT1 := pp_tab_ins (l' := fun i => ee_u (qq_ins rn (16 * d) pos (ct d)) (16 * d + pos) s (16 * d + i)) hT0 hD h4 hds.symm hc hp hp1 hp2 (fun i hi => by
      rw [ee_un (by omega)]; exact if_neg (by omega)) ee_us (fun i h1 h2 => by
      rw [ee_un (by omega)]; exact if_pos (by omega))
  refine xw_insertRun (c := ct d) hd rfl hc hp ?_
  refine xw_join (c := ct d + 1) hd ee_us (by omega) hT1 hD (fun i z => by omega) hk (fun nx2 lm2 re2 rn2 ct2 hT2 hF3 => ?_)
  refine xw_joinZ (c := ct2 d) hd rfl (by omega) hT2 hD (fun i z => by omega) hk (fun nx3 lm3 re3 rn3 ct3 hT3 hF4 => ?_)
  have hF5 := pp_fr_trans hF3 hF4
  obtain ⟨f1, f2, f3⟩ := hF5
  refine K nx3 lm3 re3 rn3 ct3 ol' yo' os' nw' ⟨fun d' hd' => ?_, fun d' hd' => ?_, ?_⟩
  · by_cases e : d' = d
    · subst e; exact hT3
    · rw [f3 d' e, ee_un e]
      refine pp_tab_congr (tT d' hd') (fun q => ?_) (fun q hq hq2 => ?_) (fun i hi => ?_)
      · constructor
        · rintro ⟨a, b⟩
          rcases pp_u4.mp a with a | a
          · exact ⟨a, b⟩
          · rw [a] at b; exact absurd (b.symm.trans hds.symm) e
        · rintro ⟨a, b⟩; exact ⟨U4 q a, b⟩
      · obtain ⟨x1, x2, x3⟩ := f1 q (fun z => e (hq2.symm.trans z.2))
        rw [x1, x2, x3]
        exact ⟨rfl, rfl, ee_un (S q hq), ee_un (S q hq), ee_un (S q hq), rfl⟩
      · have c16 := (tT d' hd').1
        rw [f2 _ (by omega), ee_un (by omega)]
        exact if_neg (by omega)
  · by_cases e : d' = d
    · subst e; exact hA'
    · rw [(hF d' e).1, (hF d' e).2]
      refine pp_age_congr (tA d' hd') (fun q => ?_) (fun _ _ => rfl) (fun q hq => hF2 q (fun z => e (hq.2.symm.trans z.2)) (S q hq.1))
      constructor
      · rintro ⟨a, b⟩
        rcases pp_u4.mp a with a | a
        · exact ⟨a, b⟩
        · rw [a] at b; exact absurd (b.symm.trans hds.symm) e
      · rintro ⟨a, b⟩; exact ⟨U4 q a, b⟩
  · refine pp_dev_congr tD (fun q hq => ?_) (fun q hq => ?_)
    · by_cases e : q = s
      · rw [e, S4] at hq; rcases hq with w | w <;> omega
      · exact ee_un e
    · have e : q ≠ s := fun z => by rw [z] at hq; omega
      obtain ⟨x1, x2, x3⟩ := f1 q (fun z => by have := z.1; rw [ee_un e] at this; omega)
      exact ⟨x1.trans (ee_un e), rfl, rfl, rfl⟩
end
end
section
/-! the base facts under one store into the states; the flush lists; the device's chains -/
theorem cn_zero {P : Nat → Prop} {N q : Nat} (h : cn P N = 0) (hq : q < N) : ¬ P q := fun z => by
  have := cn_pos z hq; omega
section
variable {N T B F wc rc hea lf dr ps sb : Nat} {ck : Int32} {st kd fi en ln od bl lm re rn ct wf rf : Nat → Nat} {vl bo rd fo ca me : Nat → Int32} {nx ol yo os nw tg : Nat → Option Nat}
theorem pp_unf {m : Nat} : qq_unf m ↔ (m ≠ 0 ∧ m ≠ 7 ∧ m ≠ 8) := Iff.rfl
theorem pp_go_unf {m : Nat} (h : qq_go m) : qq_unf m := by
  unfold qq_go at h; unfold qq_unf; omega
theorem pp_act_unf {m : Nat} (h : qq_act m) : qq_unf m := by
  unfold qq_act at h; unfold qq_unf; omega
theorem pp_b3_lt {s : Nat} (h : qq_B3 N T st kd fi en ln od sb) (hs : st s ≠ 0) : s < 16 ∧ s < N := by
  have k := (h.1.2.2 s).2.1
  have := h.1.1
  omega
theorem pp_b3_set {s m : Nat} (h : qq_B3 N T st kd fi en ln od sb) (hu : qq_unf (st s)) (hm : qq_unf m) (hv : m ≤ 8 ∨ (16 ≤ m ∧ m < 16 + T)) (ha : qq_act m → qq_act (st s)) (hg : qq_go m → ∀ q, qq_unf (st q) → od q < od s → ¬ qq_ov fi en q s) : qq_B3 N T (ee_u st s m) kd fi en ln od sb := by
  obtain ⟨⟨a1, a2, a3⟩, ⟨b0, b1, b2, b3⟩, c⟩ := h
  have U : ∀ q, qq_unf (ee_u st s m q) ↔ qq_unf (st q) := by
    intro q
    by_cases e : q = s
    · rw [e, ee_us]; exact ⟨fun _ => hu, fun _ => hm⟩
    · rw [ee_un e]
  refine ⟨⟨a1, a2, fun q => ?_⟩, ⟨b0, b1, fun q hq => b2 q ((U q).mp hq), fun q r hq hr => b3 q r ((U q).mp hq) ((U r).mp hr)⟩, fun q hq r hr => ?_⟩
  · obtain ⟨k1, k2, k3, k4, k5, k6, k7⟩ := a3 q
    by_cases e : q = s
    · rw [e] at k1 k2 k3 k4 k5 k6 k7
      rw [e, ee_us]
      refine ⟨hv, fun z => ?_, k3, k4, k5, k6, fun z => k7 (ha z)⟩
      exact absurd (k2 z) hu.1
    · rw [ee_un e]; exact ⟨k1, k2, k3, k4, k5, k6, k7⟩
  · have hr' := (U r).mp hr
    by_cases e : q = s
    · rw [e, ee_us] at hq
      rw [e]; exact hg hq r hr'
    · rw [ee_un e] at hq; exact c q hq r hr'
theorem pp_b3_fin {s m : Nat} (h : qq_B3 N T st kd fi en ln od sb) (hs : st s ≠ 0) (hm : ¬ qq_unf m) : qq_B3 N T (ee_u st s m) kd fi en ln od sb := by
  obtain ⟨⟨a1, a2, a3⟩, ⟨b0, b1, b2, b3⟩, c⟩ := h
  have U : ∀ q, qq_unf (ee_u st s m q) → q ≠ s ∧ qq_unf (st q) := by
    intro q hq
    by_cases e : q = s
    · rw [e, ee_us] at hq; exact absurd hq hm
    · rw [ee_un e] at hq; exact ⟨e, hq⟩
  refine ⟨⟨a1, a2, fun q => ?_⟩, ⟨b0, b1, fun q hq => b2 q (U q hq).2, fun q r hq hr => b3 q r (U q hq).2 (U r hr).2⟩, fun q hq r hr => ?_⟩
  · obtain ⟨k1, k2, k3, k4, k5, k6, k7⟩ := a3 q
    by_cases e : q = s
    · rw [e] at k1 k2 k3 k4 k5 k6 k7
      rw [e, ee_us]
      refine ⟨?_, fun z => absurd (k2 z) hs, k3, k4, k5, k6, fun z => absurd (pp_act_unf z) hm⟩
      rw [pp_unf] at hm; omega
    · rw [ee_un e]; exact ⟨k1, k2, k3, k4, k5, k6, k7⟩
  · have z := U q (pp_go_unf hq)
    rw [ee_un z.1] at hq
    exact c q hq r (U r hr).2
theorem pp_go_dj {s q : Nat} (h : qq_B3 N T st kd fi en ln od sb) (hs : qq_go (st s)) (hq : qq_go (st q)) (hn : s ≠ q) : en s ≤ fi q ∨ en q ≤ fi s := by
  have us := pp_go_unf hs
  have uq := pp_go_unf hq
  rcases Nat.lt_trichotomy (od s) (od q) with z | z | z
  · have k := h.2.2 q hq s us z
    unfold qq_ov at k; omega
  · exact absurd (h.2.1.2.2.2 s q us uq z) hn
  · have k := h.2.2 s hs q uq z
    unfold qq_ov at k; omega
theorem pp_dj (h : qq_B3 N T st kd fi en ln od sb) : qq_Dj st fi en := by
  refine ⟨fun s hs => ?_, fun s q hs hq hn => pp_go_dj h (by unfold qq_go; omega) (by unfold qq_go; omega) hn⟩
  obtain ⟨k1, k2, k3, k4, k5, k6, k7⟩ := h.1.2.2 s
  have := k7 (by unfold qq_act; omega)
  exact ⟨(pp_b3_lt h (by omega)).1, by omega, k5⟩
theorem pp_tad_plain {s m : Nat} (h : qq_TAD st kd fi en od nx lm re rn ct ol yo os nw tg) (h4 : st s ≠ 4) (h16 : st s < 16) (m4 : m ≠ 4) (m16 : m < 16) : qq_TAD (ee_u st s m) kd fi en od nx lm re rn ct ol yo os nw tg := by
  obtain ⟨a, b, c⟩ := h
  have U : ∀ q, ee_u st s m q = 4 ↔ st q = 4 := by
    intro q
    by_cases e : q = s
    · rw [e, ee_us]; exact ⟨fun z => absurd z m4, fun z => absurd z h4⟩
    · rw [ee_un e]
  refine ⟨fun d hd => pp_tab_congr (a d hd) (fun q => by rw [U q]) (fun q _ _ => ⟨rfl, rfl, rfl, rfl, rfl, rfl⟩) (fun _ _ => rfl), fun d hd => pp_age_congr (b d hd) (fun q => by unfold qq_R; rw [U q]) (fun _ _ => rfl) (fun _ _ => ⟨rfl, rfl⟩), pp_dev_congr c (fun q hq => ?_) (fun _ _ => ⟨rfl, rfl, rfl, rfl⟩)⟩
  by_cases e : q = s
  · rw [e, ee_us] at hq; omega
  · exact ee_un e
theorem pp_tad_pop {s m t : Nat} (h : qq_TAD st kd fi en od nx lm re rn ct ol yo os nw tg) (hB : qq_B3 N T st kd fi en ln od sb) (ht : t < 4) (htg : tg t = some s) (m4 : m ≠ 4) (m16 : m < 16) : qq_TAD (ee_u st s m) kd fi en od nx lm re rn ct ol yo os nw (ee_u tg t (nx s)) := by
  obtain ⟨a, b, c⟩ := h
  have hs16 : st s = 16 + t := ((c t ht).2.1 s htg).1
  have U : ∀ q, ee_u st s m q = 4 ↔ st q = 4 := by
    intro q
    by_cases e : q = s
    · rw [e, ee_us]; exact ⟨fun z => absurd z m4, fun z => by omega⟩
    · rw [ee_un e]
  refine ⟨fun d hd => pp_tab_congr (a d hd) (fun q => by rw [U q]) (fun q _ _ => ⟨rfl, rfl, rfl, rfl, rfl, rfl⟩) (fun _ _ => rfl), fun d hd => pp_age_congr (b d hd) (fun q => by unfold qq_R; rw [U q]) (fun _ _ => rfl) (fun _ _ => ⟨rfl, rfl⟩), fun t' ht' => ?_⟩
  have V : ∀ q t', ee_u st s m q = 16 + t' → q ≠ s ∧ st q = 16 + t' := by
    intro q t' hq
    by_cases e : q = s
    · rw [e, ee_us] at hq; omega
    · rw [ee_un e] at hq; exact ⟨e, hq⟩
  have V' : ∀ q t', q ≠ s → st q = 16 + t' → ee_u st s m q = 16 + t' := fun q t' e hq => by rw [ee_un e]; exact hq
  have pz : ∀ q t', st q = 16 + t' → fi q < en q := by
    intro q t' hq
    obtain ⟨k1, k2, k3, k4, k5, k6, k7⟩ := hB.1.2.2 q
    have := k7 (by unfold qq_act; omega)
    omega
  obtain ⟨c1, c2, c3, c4⟩ := c t' ht'
  by_cases e : t' = t
  · subst e
    rw [ee_us]
    have low : ∀ q, q ≠ s → st q = 16 + t' → en s ≤ fi q := by
      intro q hn hq
      have k1 := (c2 s htg).2 q hq
      have k2 := pp_go_dj hB (s := s) (q := q) (by unfold qq_go; omega) (by unfold qq_go; omega) hn.symm
      have := pz q t' hq
      omega
    refine ⟨fun z q hq => ?_, fun l hl => ?_, fun q hq => ?_, fun q r hq hr => c4 q r (V q t' hq).2 (V r t' hr).2⟩
    · obtain ⟨hn, hq⟩ := V q t' hq
      rcases c3 s hs16 with ⟨_, k2⟩ | ⟨r, k1, _⟩
      · have := k2 q hq; have := low q hn hq; have := pz s t' hs16; omega
      · rw [k1] at z; exact nomatch z
    · rcases c3 s hs16 with ⟨k1, _⟩ | ⟨r, k1, k2, k3⟩
      · rw [k1] at hl; exact nomatch hl
      · rw [k1] at hl
        have el := Option.some.inj hl
        subst el
        have := pz s t' hs16
        refine ⟨V' r t' (fun z => by rw [z] at k3; omega) k2, fun q hq => ?_⟩
        have := low q (V q t' hq).1 (V q t' hq).2
        omega
    · obtain ⟨hn, hq⟩ := V q t' hq
      rcases c3 q hq with ⟨k1, k2⟩ | ⟨r, k1, k2, k3⟩
      · exact Or.inl ⟨k1, fun r hr => k2 r (V r t' hr).2⟩
      · have := low q hn hq
        have := pz s t' hs16
        have := pz q t' hq
        exact Or.inr ⟨r, k1, V' r t' (fun z => by rw [z] at k3; omega) k2, k3⟩
  · rw [ee_un e]
    refine ⟨fun z q hq => c1 z q (V q t' hq).2, fun l hl => ?_, fun q hq => ?_, fun q r hq hr => c4 q r (V q t' hq).2 (V r t' hr).2⟩
    · obtain ⟨k1, k2⟩ := c2 l hl
      exact ⟨V' l t' (fun z => by rw [z] at k1; omega) k1, fun q hq => k2 q (V q t' hq).2⟩
    · obtain ⟨hn, hq⟩ := V q t' hq
      rcases c3 q hq with ⟨k1, k2⟩ | ⟨r, k1, k2, k3⟩
      · exact Or.inl ⟨k1, fun r hr => k2 r (V r t' hr).2⟩
      · exact Or.inr ⟨r, k1, V' r t' (fun z => by rw [z] at k2; omega) k2, k3⟩
theorem pp_lst_congr {lo hi : Nat} {f : Nat → Nat} {P P' : Nat → Prop} (h : qq_Lst lo hi f P) (hP : ∀ q, P' q ↔ P q) : qq_Lst lo hi f P' :=
  ⟨fun j a b => (hP _).mpr (h.1 j a b), h.2.1, fun q hq => h.2.2 q ((hP q).mp hq)⟩
theorem pp_lst_push {lo hi s : Nat} {f : Nat → Nat} {P P' : Nat → Prop} (h : qq_Lst lo hi f P) (hl : lo ≤ hi) (hs : ¬ P s) (hP : ∀ q, P' q ↔ P q ∨ q = s) : qq_Lst lo (hi + 1) (ee_u f hi s) P' := by
  obtain ⟨a, b, c⟩ := h
  refine ⟨fun j h1 h2 => ?_, fun i j h1 h2 h3 => ?_, fun q hq => ?_⟩
  · by_cases e : j = hi
    · rw [e, ee_us]; exact (hP s).mpr (Or.inr rfl)
    · rw [ee_un e]; exact (hP _).mpr (Or.inl (a j h1 (by omega)))
  · rw [ee_un (show i ≠ hi by omega)]
    by_cases e : j = hi
    · rw [e, ee_us]; exact fun z => hs (by rw [← z]; exact a i h1 (by omega))
    · rw [ee_un e]; exact b i j h1 h2 (by omega)
  · rcases (hP q).mp hq with z | z
    · obtain ⟨j, j1, j2, j3⟩ := c q z
      exact ⟨j, j1, by omega, by rw [ee_un (by omega)]; exact j3⟩
    · exact ⟨hi, hl, by omega, by rw [ee_us, z]⟩
theorem pp_lst_pop {lo hi : Nat} {f : Nat → Nat} {P P' : Nat → Prop} (h : qq_Lst lo hi f P) (hl : lo < hi) (hP : ∀ q, P' q ↔ P q ∧ q ≠ f lo) : qq_Lst (lo + 1) hi f P' := by
  obtain ⟨a, b, c⟩ := h
  refine ⟨fun j h1 h2 => (hP _).mpr ⟨a j (by omega) h2, fun z => b lo j (Nat.le_refl _) (by omega) h2 z.symm⟩, fun i j h1 h2 h3 => b i j (by omega) h2 h3, fun q hq => ?_⟩
  obtain ⟨k1, k2⟩ := (hP q).mp hq
  obtain ⟨j, j1, j2, j3⟩ := c q k1
  have : j ≠ lo := fun z => k2 (by rw [← j3, z])
  exact ⟨j, by omega, j2, j3⟩
theorem pp_lst_cnt {hi : Nat} {f : Nat → Nat} : ∀ {m lo : Nat} {P : Nat → Prop}, qq_Lst lo hi f P → lo + m = hi → (∀ q, P q → q < 16) → cn P 16 = m := by
  intro m
  induction m with
  | zero =>
    intro lo P h e hP
    have z : cn P 16 = cn (fun _ => False) 16 := cn_eq (fun k _ => ⟨fun w => by obtain ⟨j, j1, j2, _⟩ := h.2.2 k w; omega, False.elim⟩)
    rw [z]
    rcases Nat.eq_zero_or_pos (cn (fun _ => False) 16) with w | w
    · exact w
    · simp only [cn] at w
      have : b01 False = 0 := b01_f (fun z => z)
      omega
  | succ m ih =>
    intro lo P h e hP
    have k := ih (lo := lo + 1) (P := fun q => P q ∧ q ≠ f lo) (pp_lst_pop h (by omega) (fun q => Iff.rfl)) (by omega) (fun q hq => hP q hq.1)
    have p0 := h.1 lo (Nat.le_refl _) (by omega)
    have z := cn_add (P := fun q => P q ∧ q ≠ f lo) (a := f lo) (fun w => w.2 rfl) (N := 16) (hP _ p0)
    have z2 : cn (fun q => (P q ∧ q ≠ f lo) ∨ q = f lo) 16 = cn P 16 := cn_eq (fun q _ => ⟨fun w => w.elim (fun w => w.1) (fun w => by rw [w]; exact p0), fun w => by
      by_cases e : q = f lo
      · exact Or.inr e
      · exact Or.inl ⟨w, e⟩⟩)
    omega
theorem pp_lst_room {lo hi s : Nat} {f : Nat → Nat} {P : Nat → Prop} (h : qq_Lst lo hi f P) (hl : lo ≤ hi) (hP : ∀ q, P q → q < 16) (hs : ¬ P s) (h16 : s < 16) : hi - lo < 16 := by
  have k := pp_lst_cnt (m := hi - lo) h (by omega) hP
  have z := cn_lt (P := P) (Q := fun _ => True) (a := s) hs trivial (N := 16) (fun _ _ _ => trivial) h16
  have := cn_le (fun _ => True) 16
  omega
theorem pp_blk_st {e st' : Nat → Nat} (a : ∀ s, qq_unf (st s) → bl s = cn (fun q => qq_unf (st q) ∧ od q < od s ∧ qq_ov fi en q s) 16 + e s) (b : ∀ q, qq_unf (st q) → ∀ s, s < 16 → (bt (fo q) s = true ↔ qq_unf (st s) ∧ od q < od s ∧ qq_ov fi en q s)) (hu : ∀ q, qq_unf (st' q) ↔ qq_unf (st q)) (h3 : ∀ q, st' q = 3 → bl q ≠ 0) : qq_Blk e st' fi en od bl fo := by
  refine ⟨fun s hs => ?_, fun q hq s hs => ?_, h3⟩
  · rw [a s ((hu s).mp hs)]
    exact congrArg (· + e s) (cn_eq (fun q _ => by rw [hu q]))
  · rw [hu s]; exact b q ((hu q).mp hq) s hs
end
end
section
/-! bits; the end of a request -/
theorem ee_b1 : ∀ k, k < 32 → bt 1 k = decide (k = 0) := by decide +kernel
theorem ee_bs {i j : Nat} (hi : i < 32) (hj : j < 32) : bt ((1 : Int32) <<< (nI i &&& 31)) j = decide (j = i) := by
  rw [b_shl i hi 1 hj, ee_b1 (j - i) (by omega)]
  rcases Nat.lt_trichotomy i j with z | z | z
  · rw [decide_eq_false (p := j - i = 0) (by omega), decide_eq_false (p := j = i) (by omega), Bool.and_false]
  · rw [decide_eq_true (p := i ≤ j) (by omega), decide_eq_true (p := j - i = 0) (by omega), decide_eq_true (p := j = i) (by omega)]; rfl
  · rw [decide_eq_false (p := i ≤ j) (by omega), decide_eq_false (p := j = i) (by omega), Bool.false_and]
theorem ee_bit (x : Int32) {i : Nat} (hi : i < 32) : x &&& ((1 : Int32) <<< (nI i &&& 31)) = 0 ↔ ¬ bt x i = true := by
  constructor
  · intro h z
    have k := congrArg (fun y => bt y i) h
    rw [b_and, ee_bs hi hi, z, b_0, decide_eq_true rfl] at k
    exact nomatch k
  · intro h
    refine b_ext (fun j hj => ?_)
    rw [b_and, ee_bs hi hj, b_0]
    by_cases e : j = i
    · rw [e, Bool.eq_false_iff.mpr h, Bool.false_and]
    · rw [decide_eq_false e, Bool.and_false]
theorem ee_bor (x : Int32) {i j : Nat} (hi : i < 32) (hj : j < 32) : bt (x ||| ((1 : Int32) <<< (nI i &&& 31))) j = true ↔ (bt x j = true ∨ j = i) := by
  rw [b_or, ee_bs hi hj, Bool.or_eq_true, decide_eq_true_iff]
section
variable {N T B F wc rc hea lf dr ps sb : Nat} {ck : Int32} {st kd fi en ln od bl lm re rn ct wf rf : Nat → Nat} {vl bo rd fo ca me : Nat → Int32} {nx ol yo os nw tg : Nat → Option Nat}
theorem xw_await {post : SX → Prop} {s : Nat} {tgG : Nat → Option Nat} (hs : s < 16) (h4 : st s ≠ 4) (h16 : st s < 16) (hb : bl s < 2 ^ 31) (hA : qq_TAD st kd fi en od nx lm re rn ct ol yo os nw tgG) (hD : bl s = 0 → qq_Dj (ee_u st s 4) fi en) (hk : ∀ q, kd q ≤ 5) (hinj : bl s = 0 → ∀ q r, ee_u st s 4 q = 4 → ee_u st s 4 r = 4 → od q = od r → q = r) (hmx : ∀ q, od q < 100000)
    (K : bl s = 0 → ∀ nx' lm' re' rn' ct' ol' yo' os' nw', qq_TAD (ee_u st s 4) kd fi en od nx' lm' re' rn' ct' ol' yo' os' nw' tgG → post (nI N, nI T, nI B, nI F, nI wc, nI rc, nI hea, nI lf, nI dr, nI ps, ck, nI sb, ee_N (ee_u st s 4), ee_N kd, ee_N fi, ee_N en, vl, bo, ee_N od, rd, ee_N bl, fo, ee_O nx', ee_N lm', ee_N re', ee_N rn', ee_N ct', ee_O ol', ee_O yo', ee_O os', ee_O nw', ee_N wf, ee_N rf, ee_O tg, ca, me))
    (K1 : bl s ≠ 0 → post (nI N, nI T, nI B, nI F, nI wc, nI rc, nI hea, nI lf, nI dr, nI ps, ck, nI sb, ee_N (ee_u st s 3), ee_N kd, ee_N fi, ee_N en, vl, bo, ee_N od, rd, ee_N bl, fo, ee_O nx, ee_N lm, ee_N re, ee_N rn, ee_N ct, ee_O ol, ee_O yo, ee_O os, ee_O nw, ee_N wf, ee_N rf, ee_O tg, ca, me)) : wpX_awaitDevice post (nI N, nI T, nI B, nI F, nI wc, nI rc, nI hea, nI lf, nI dr, nI ps, ck, nI sb, ee_N st, ee_N kd, ee_N fi, ee_N en, vl, bo, ee_N od, rd, ee_N bl, fo, ee_O nx, ee_N lm, ee_N re, ee_N rn, ee_N ct, ee_O ol, ee_O yo, ee_O os, ee_O nw, ee_N wf, ee_N rf, ee_O tg, ca, me) (nI s) :=
  And.intro (vp_in_nI hs (by omega)) (ee_if (ee_eN 0 (by omega) hb (by omega)) (fun z => xw_makeReady hs h4 h16 hA (hD z) hk (hinj z) hmx (K z)) (fun z => And.intro (vp_in_nI hs (by omega)) (nm_r (ee_wN (v := 3) (by omega)) (K1 z))))
def qq_ei (w : Int32) (i q : Nat) : Nat := if i ≤ q ∧ bt w q = true then 1 else 0
def qq_z (_ : Nat) : Nat := 0
theorem pp_blk_e {e e' : Nat → Nat} (h : qq_Blk e st fi en od bl fo) (he : ∀ s, qq_unf (st s) → e' s = e s) : qq_Blk e' st fi en od bl fo :=
  ⟨fun s hs => by rw [he s hs]; exact h.1 s hs, h.2.1, h.2.2⟩
theorem xw_fin24 {post : SX → Prop} {w : Int32} {st0 : Nat → Nat} {tgG : Nat → Option Nat} {lo hi : Nat}
    (K : ∀ st bl nx lm re rn ct ol yo os nw, qq_XI N T st kd fi en ln od sb nx lm re rn ct ol yo os nw tgG wc wf lo hi rf → qq_Blk qq_z st fi en od bl fo → (∀ q, st q = st0 q ∨ (st0 q = 3 ∧ st q = 4)) → post (nI N, nI T, nI B, nI F, nI wc, nI rc, nI hea, nI lf, nI dr, nI ps, ck, nI sb, ee_N st, ee_N kd, ee_N fi, ee_N en, vl, bo, ee_N od, rd, ee_N bl, fo, ee_O nx, ee_N lm, ee_N re, ee_N rn, ee_N ct, ee_O ol, ee_O yo, ee_O os, ee_O nw, ee_N wf, ee_N rf, ee_O tg, ca, me)) :
    ∀ m i n st bl nx lm re rn ct ol yo os nw, i + m = N → m < n → qq_XI N T st kd fi en ln od sb nx lm re rn ct ol yo os nw tgG wc wf lo hi rf → qq_Blk (qq_ei w i) st fi en od bl fo → (∀ q, q < 16 → bt w q = true → qq_unf (st q)) → (∀ q, st q = st0 q ∨ (st0 q = 3 ∧ st q = 4)) → wX_finish_24 post w n (nI i) (nI N) (nI T) (nI B) (nI F) (nI wc) (nI rc) (nI hea) (nI lf) (nI dr) (nI ps) ck (nI sb) (ee_N st) (ee_N kd) (ee_N fi) (ee_N en) vl bo (ee_N od) rd (ee_N bl) fo (ee_O nx) (ee_N lm) (ee_N re) (ee_N rn) (ee_N ct) (ee_O ol) (ee_O yo) (ee_O os) (ee_O nw) (ee_N wf) (ee_N rf) (ee_O tg) ca me := by
  intro m
  induction m with
  | zero =>
    intro i n st bl nx lm re rn ct ol yo os nw hm hn hX hB hw h0
    obtain ⟨n, rfl⟩ : ∃ k, n = k + 1 := ⟨n - 1, by omega⟩
    have hN := hX.1.1.1
    refine br_t (nI_le (by omega) (by omega)) (K st bl nx lm re rn ct ol yo os nw hX (pp_blk_e hB (fun s hs => ?_)) h0)
    have := (pp_b3_lt hX.1 hs.1).2
    unfold qq_z qq_ei
    rw [if_neg (by omega)]
  | succ m ih =>
    intro i n st bl nx lm re rn ct ol yo os nw hm hn hX hB hw h0
    obtain ⟨n, rfl⟩ : ∃ k, n = k + 1 := ⟨n - 1, by omega⟩
    have hN := hX.1.1.1
    have hi16 : i < 16 := by omega
    have hin : vp_in (nI i) 16 := vp_in_nI hi16 (by omega)
    refine br_f (nI_ge (by omega) (by omega)) (ee_if (ee_bit w (by omega)) (fun hb => ?_) (fun hb => ?_))
    · refine nm_r (nI_1 i) (ih (i + 1) n st bl nx lm re rn ct ol yo os nw (by omega) (by omega) hX (pp_blk_e hB (fun s hs => ?_)) hw h0)
      unfold qq_ei
      by_cases e : s = i
      · rw [e, if_neg (fun z => by omega), if_neg (fun z => hb z.2)]
      · by_cases z : i ≤ s ∧ bt w s = true
        · rw [if_pos z, if_pos ⟨by omega, z.2⟩]
        · rw [if_neg z, if_neg (fun y => z ⟨by omega, y.2⟩)]
    have hb : bt w i = true := Classical.byContradiction hb
    have hu := hw i hi16 hb
    have hbl := hB.1 i hu
    have e1 : qq_ei w i i = 1 := if_pos ⟨Nat.le_refl _, hb⟩
    rw [e1] at hbl
    have hc := cn_le (fun q => qq_unf (st q) ∧ od q < od i ∧ qq_ov fi en q i) 16
    have hblk : ∀ s, qq_unf (st s) → ee_u bl i (bl i - 1) s = cn (fun q => qq_unf (st q) ∧ od q < od s ∧ qq_ov fi en q s) 16 + qq_ei w (i + 1) s := by
      intro s hs
      by_cases e : s = i
      · rw [e, ee_us]
        have : qq_ei w (i + 1) i = 0 := if_neg (by omega)
        omega
      · rw [ee_un e, hB.1 s hs]
        refine congrArg _ ?_
        unfold qq_ei
        by_cases z : i ≤ s ∧ bt w s = true
        · rw [if_pos z, if_pos ⟨by omega, z.2⟩]
        · rw [if_neg z, if_neg (fun y => z ⟨by omega, y.2⟩)]
    refine And.intro hin (And.intro hin (nm_r (e' := ee_N (ee_u bl i (bl i - 1))) ?_ (And.intro hin ?_)))
    · rw [ee_rN (by omega), show bl i = (bl i - 1) + 1 by omega, nI_pred, Nat.add_sub_cancel]; exact ee_wN (by omega)
    have hus : ee_u bl i (bl i - 1) i = bl i - 1 := ee_us
    refine ee_if (ee_eN 0 (by omega) (by omega) (by omega)) (fun hz => And.intro hin ?_) (fun hz => ?_)
    · rw [hus] at hz
      have hst := (hX.1.1.2.2 i).1
      have hT4 := hX.1.1.2.1
      refine ee_if (ee_eN 3 (by omega) (by omega) (by omega)) (fun h3 => ?_) (fun h3 => ?_)
      · have hfree : ∀ q, qq_unf (st q) → od q < od i → ¬ qq_ov fi en q i := fun q hq ho hv => cn_zero (P := fun q => qq_unf (st q) ∧ od q < od i ∧ qq_ov fi en q i) (N := 16) (by omega) (pp_b3_lt hX.1 hq.1).1 ⟨hq, ho, hv⟩
        have hB3 := pp_b3_set (s := i) (m := 4) hX.1 hu (by unfold qq_unf; omega) (by omega) (fun _ => by unfold qq_act; omega) (fun _ => hfree)
        refine xw_makeReady hi16 (by omega) (by omega) hX.2.1 (pp_dj hB3) (fun q => (hX.1.1.2.2 q).2.2.2.2.2.1) (fun q r hq hr => hB3.2.1.2.2.2 q r (by rw [hq]; unfold qq_unf; omega) (by rw [hr]; unfold qq_unf; omega)) (fun q => by have := hX.1.2.1.2.1 q; have := hX.1.2.1.1; omega) (fun nx' lm' re' rn' ct' ol' yo' os' nw' hTAD => ?_)
        have hU : ∀ q, qq_unf (ee_u st i 4 q) ↔ qq_unf (st q) := by
          intro q
          by_cases e : q = i
          · rw [e, ee_us]; exact ⟨fun _ => hu, fun _ => by unfold qq_unf; omega⟩
          · rw [ee_un e]
        refine nm_r (nI_1 i) (ih (i + 1) n (ee_u st i 4) (ee_u bl i (bl i - 1)) nx' lm' re' rn' ct' ol' yo' os' nw' (by omega) (by omega) ⟨hB3, hTAD, pp_lst_congr hX.2.2.1 (fun q => ?_), pp_lst_congr hX.2.2.2 (fun q => ?_)⟩ (pp_blk_st hblk hB.2.1 hU (fun q hq => ?_)) (fun q h1 h2 => (hU q).mpr (hw q h1 h2)) (fun q => ?_))
        · unfold qq_W
          by_cases e : q = i
          · rw [e, ee_us]; omega
          · rw [ee_un e]
        · unfold qq_V
          by_cases e : q = i
          · rw [e, ee_us]; omega
          · rw [ee_un e]
        · by_cases e : q = i
          · rw [e, ee_us] at hq; omega
          · rw [ee_un e] at hq ⊢; exact hB.2.2 q hq
        · by_cases e : q = i
          · rw [e, ee_us]
            rcases h0 i with z | z
            · exact Or.inr ⟨by omega, rfl⟩
            · omega
          · rw [ee_un e]; exact h0 q
      · refine nm_r (nI_1 i) (ih (i + 1) n st (ee_u bl i (bl i - 1)) nx lm re rn ct ol yo os nw (by omega) (by omega) hX ⟨hblk, hB.2.1, fun s hs => ?_⟩ hw h0)
        rw [ee_un (fun z => h3 (by rw [← z]; exact hs))]; exact hB.2.2 s hs
    · rw [hus] at hz
      refine nm_r (nI_1 i) (ih (i + 1) n st (ee_u bl i (bl i - 1)) nx lm re rn ct ol yo os nw (by omega) (by omega) hX ⟨hblk, hB.2.1, fun s hs => ?_⟩ hw h0)
      by_cases e : s = i
      · rw [e, hus]; exact hz
      · rw [ee_un e]; exact hB.2.2 s hs
theorem xw_finish {post : SX → Prop} {s lo hi : Nat} {tgG : Nat → Option Nat} (hu : qq_unf (st s)) (hfree : ∀ q, qq_unf (st q) → od q < od s → ¬ qq_ov fi en q s) (hX : qq_XI N T (ee_u st s 7) kd fi en ln od sb nx lm re rn ct ol yo os nw tgG wc wf lo hi rf) (hB : qq_Blk qq_z st fi en od bl fo)
    (K : ∀ st' bl nx lm re rn ct ol yo os nw, qq_XI N T st' kd fi en ln od sb nx lm re rn ct ol yo os nw tgG wc wf lo hi rf → qq_Blk qq_z st' fi en od bl (ee_u fo s 0) → (∀ q, st' q = ee_u st s 7 q ∨ (ee_u st s 7 q = 3 ∧ st' q = 4)) → post (nI N, nI T, nI B, nI F, nI wc, nI rc, nI hea, nI lf, nI dr, nI ps, ck, nI sb, ee_N st', ee_N kd, ee_N fi, ee_N en, vl, bo, ee_N od, rd, ee_N bl, ee_u fo s 0, ee_O nx, ee_N lm, ee_N re, ee_N rn, ee_N ct, ee_O ol, ee_O yo, ee_O os, ee_O nw, ee_N wf, ee_N rf, ee_O tg, ca, me)) : wpX_finish post (nI N, nI T, nI B, nI F, nI wc, nI rc, nI hea, nI lf, nI dr, nI ps, ck, nI sb, ee_N st, ee_N kd, ee_N fi, ee_N en, vl, bo, ee_N od, rd, ee_N bl, fo, ee_O nx, ee_N lm, ee_N re, ee_N rn, ee_N ct, ee_O ol, ee_O yo, ee_O os, ee_O nw, ee_N wf, ee_N rf, ee_O tg, ca, me) (nI s) := by
  have hs : s < 16 := (pp_b3_lt hX.1 (s := s) (by rw [ee_us]; omega)).1
  have hin : vp_in (nI s) 16 := vp_in_nI hs (by omega)
  have U : ∀ q, qq_unf (ee_u st s 7 q) ↔ q ≠ s ∧ qq_unf (st q) := by
    intro q
    by_cases e : q = s
    · rw [e, ee_us]; unfold qq_unf; exact ⟨fun z => absurd rfl z.2.1, fun z => absurd rfl z.1⟩
    · rw [ee_un e]; exact ⟨fun z => ⟨e, z⟩, fun z => z.2⟩
  refine And.intro hin (nm_r (ee_wN (v := 7) (by omega)) (And.intro hin (nm_r (ee_r (by omega)) (And.intro hin (nm_r (ee_w (by omega)) ⟨N + 1, xw_fin24 (st0 := ee_u st s 7) (tgG := tgG) (lo := lo) (hi := hi) K N 0 (N + 1) _ _ _ _ _ _ _ _ _ _ _ (by omega) (by omega) hX ⟨fun q hq => ?_, fun q hq r hr => ?_, fun q hq => ?_⟩ (fun q hq hb => ?_) (fun q => Or.inl rfl)⟩)))))
  · obtain ⟨hn, hq'⟩ := (U q).mp hq
    have hq16 := (pp_b3_lt hX.1 hq.1).1
    have k := hB.1 q hq'
    have kb := hB.2.1 s hu q hq16
    rw [k]
    by_cases hb : bt (fo s) q = true
    · have kA := kb.mp hb
      have e1 : qq_ei (fo s) 0 q = 1 := if_pos ⟨Nat.zero_le _, hb⟩
      rw [e1]
      have z := cn_add (P := fun r => qq_unf (ee_u st s 7 r) ∧ od r < od q ∧ qq_ov fi en r q) (a := s) (fun w => ((U s).mp w.1).1 rfl) (N := 16) hs
      have z2 : cn (fun r => (qq_unf (ee_u st s 7 r) ∧ od r < od q ∧ qq_ov fi en r q) ∨ r = s) 16 = cn (fun r => qq_unf (st r) ∧ od r < od q ∧ qq_ov fi en r q) 16 := cn_eq (fun r _ => ⟨fun w => w.elim (fun w => ⟨((U r).mp w.1).2, w.2⟩) (fun w => by rw [w]; exact ⟨hu, kA.2.1, kA.2.2⟩), fun w => by
        by_cases e : r = s
        · exact Or.inr e
        · exact Or.inl ⟨(U r).mpr ⟨e, w.1⟩, w.2⟩⟩)
      unfold qq_z; omega
    · have e1 : qq_ei (fo s) 0 q = 0 := if_neg (fun z => hb z.2)
      rw [e1]
      refine congrArg (· + 0) (cn_eq (fun r _ => ⟨fun w => ⟨(U r).mpr ⟨fun e => hb (kb.mpr ⟨hq', ?_, ?_⟩), w.1⟩, w.2⟩, fun w => ⟨((U r).mp w.1).2, w.2⟩⟩))
      · rw [← e]; exact w.2.1
      · rw [← e]; exact w.2.2
  · obtain ⟨hn, hq'⟩ := (U q).mp hq
    rw [ee_un hn, hB.2.1 q hq' r hr]
    exact ⟨fun w => ⟨(U r).mpr ⟨fun e => hfree q hq' (by rw [← e]; exact w.2.1) (by rw [← e]; exact w.2.2), w.1⟩, w.2⟩, fun w => ⟨((U r).mp w.1).2, w.2⟩⟩
  · have e : q ≠ s := fun z => by rw [z, ee_us] at hq; omega
    rw [ee_un e] at hq; exact hB.2.2 q hq
  · have k := (hB.2.1 s hu q hq).mp hb
    exact (U q).mpr ⟨fun e => by rw [e] at k; have := k.2.1; omega, k.1⟩
end
end
section
/-! the device's transfers -/
def qq_wr (c : Nat → Int32) (a n : Nat) (v : Int32) : Nat → Int32 := fun x => if a ≤ x ∧ x < a + n then v + nI (x - a) else c x
def qq_rd (r c : Nat → Int32) (b a n : Nat) : Nat → Int32 := fun x => if b ≤ x ∧ x < b + n then c (a + (x - b)) else r x
theorem pp_wr0 {c : Nat → Int32} {a : Nat} {v : Int32} : qq_wr c a 0 v = c := by
  funext x; unfold qq_wr; rw [if_neg (by omega)]
theorem pp_wrS {c : Nat → Int32} {a n : Nat} {v : Int32} : ee_u (qq_wr c a n v) (a + n) (v + nI n) = qq_wr c a (n + 1) v := by
  funext x
  unfold qq_wr
  by_cases e : x = a + n
  · rw [e, ee_us, if_pos (by omega), Nat.add_sub_cancel_left]
  · rw [ee_un e]
    by_cases z : a ≤ x ∧ x < a + n
    · rw [if_pos z, if_pos (by omega)]
    · rw [if_neg z, if_neg (by omega)]
theorem pp_rd0 {r c : Nat → Int32} {b a : Nat} : qq_rd r c b a 0 = r := by
  funext x; unfold qq_rd; rw [if_neg (by omega)]
theorem pp_rdS {r c : Nat → Int32} {b a n : Nat} : ee_u (qq_rd r c b a n) (b + n) (c (a + n)) = qq_rd r c b a (n + 1) := by
  funext x
  unfold qq_rd
  by_cases e : x = b + n
  · rw [e, ee_us, if_pos (by omega), Nat.add_sub_cancel_left]
  · rw [ee_un e]
    by_cases z : b ≤ x ∧ x < b + n
    · rw [if_pos z, if_pos (by omega)]
    · rw [if_neg z, if_neg (by omega)]
def qq_fin (F : Nat) (kd : Nat → Nat) (s : Nat) : Nat := if qq_dur (kd s) = 1 ∧ F = 0 then 5 else 7
section
variable {N T B F wc rc hea lf dr ps sb : Nat} {ck : Int32} {st kd fi en ln od bl lm re rn ct wf rf : Nat → Nat} {vl bo rd fo ca me : Nat → Int32} {nx ol yo os nw tg : Nat → Option Nat}
theorem xw_rc16 {post : SX → Prop} {s L : Nat} (hs : s < 16) (hL : L ≤ 8) (he : fi s + L ≤ 256) (h : post (nI N, nI T, nI B, nI F, nI wc, nI rc, nI hea, nI lf, nI dr, nI ps, ck, nI sb, ee_N st, ee_N kd, ee_N fi, ee_N en, vl, bo, ee_N od, qq_rd rd ca (s * 8) (fi s) L, ee_N bl, fo, ee_O nx, ee_N lm, ee_N re, ee_N rn, ee_N ct, ee_O ol, ee_O yo, ee_O os, ee_O nw, ee_N wf, ee_N rf, ee_O tg, ca, me)) :
    ∀ m i n, i + m = L → m < n → wX_readCache_16 post (nI s) (nI L) (nI N) (nI T) (nI B) (nI F) (nI wc) (nI rc) (nI hea) (nI lf) (nI dr) (nI ps) ck (nI sb) n (nI i) (ee_N st) (ee_N kd) (ee_N fi) (ee_N en) vl bo (ee_N od) (qq_rd rd ca (s * 8) (fi s) i) (ee_N bl) fo (ee_O nx) (ee_N lm) (ee_N re) (ee_N rn) (ee_N ct) (ee_O ol) (ee_O yo) (ee_O os) (ee_O nw) (ee_N wf) (ee_N rf) (ee_O tg) ca me := by
  intro m
  induction m with
  | zero =>
    intro i n hm hn
    obtain ⟨n, rfl⟩ : ∃ k, n = k + 1 := ⟨n - 1, by omega⟩
    have e : i = L := by omega
    subst e
    exact br_t (nI_le (Nat.le_refl _) (by omega)) h
  | succ m ih =>
    intro i n hm hn
    obtain ⟨n, rfl⟩ : ∃ k, n = k + 1 := ⟨n - 1, by omega⟩
    have e1 : ee_N fi (nI s).toNatClampNeg + nI i = nI (fi s + i) := by rw [ee_rN (by omega), nI_add]
    have e2 : nI s * 8 + nI i = nI (s * 8 + i) := by rw [show nI s * 8 = nI (s * 8) from pk_mul s 8, nI_add]
    refine br_f (nI_ge (by omega) (by omega)) (And.intro (vp_in_nI hs (by omega)) (And.intro (by rw [e1]; exact vp_in_nI (by omega) (by omega)) (And.intro (by rw [e2]; exact vp_in_nI (by omega) (by omega)) (nm_r (e' := qq_rd rd ca (s * 8) (fi s) (i + 1)) ?_ (nm_r (nI_1 i) (ih (i + 1) n (by omega) (by omega)))))))
    rw [e1, e2, ee_r (f := ca) (by omega), ee_w (by omega)]
    exact pp_rdS
theorem xw_readCache {post : SX → Prop} {s : Nat} (hs : s < 16) (h1 : en s = fi s + ln s) (hL : ln s ≤ 8) (he : en s ≤ 256) (h : post (nI N, nI T, nI B, nI F, nI wc, nI rc, nI hea, nI lf, nI dr, nI ps, ck, nI sb, ee_N st, ee_N kd, ee_N fi, ee_N en, vl, bo, ee_N od, qq_rd rd ca (s * 8) (fi s) (ln s), ee_N bl, fo, ee_O nx, ee_N lm, ee_N re, ee_N rn, ee_N ct, ee_O ol, ee_O yo, ee_O os, ee_O nw, ee_N wf, ee_N rf, ee_O tg, ca, me)) : wpX_readCache post (nI N, nI T, nI B, nI F, nI wc, nI rc, nI hea, nI lf, nI dr, nI ps, ck, nI sb, ee_N st, ee_N kd, ee_N fi, ee_N en, vl, bo, ee_N od, rd, ee_N bl, fo, ee_O nx, ee_N lm, ee_N re, ee_N rn, ee_N ct, ee_O ol, ee_O yo, ee_O os, ee_O nw, ee_N wf, ee_N rf, ee_O tg, ca, me) (nI s) := by
  refine And.intro (vp_in_nI hs (by omega)) (And.intro (vp_in_nI hs (by omega)) (nm_r (e' := nI (ln s)) ?_ ⟨9, ?_⟩))
  · rw [ee_rN (by omega), ee_rN (by omega), pk_sub (by omega)]; exact congrArg nI (by omega)
  · have k := xw_rc16 (post := post) (L := ln s) hs hL (by omega) h (ln s) 0 9 (by omega) (by omega)
    rw [pp_rd0] at k; exact k
theorem xw_wc16 {post : SX → Prop} {s L : Nat} (hs : s < 16) (hL : L ≤ 8) (he : fi s + L ≤ 256) (h : post (nI N, nI T, nI B, nI F, nI wc, nI rc, nI hea, nI lf, nI dr, nI ps, ck, nI sb, ee_N st, ee_N kd, ee_N fi, ee_N en, vl, bo, ee_N od, rd, ee_N bl, fo, ee_O nx, ee_N lm, ee_N re, ee_N rn, ee_N ct, ee_O ol, ee_O yo, ee_O os, ee_O nw, ee_N wf, ee_N rf, ee_O tg, qq_wr ca (fi s) L (vl s), me)) :
    ∀ m i n, i + m = L → m < n → wX_writeCache_16 post (nI s) (nI L) (nI N) (nI T) (nI B) (nI F) (nI wc) (nI rc) (nI hea) (nI lf) (nI dr) (nI ps) ck (nI sb) n (nI i) (ee_N st) (ee_N kd) (ee_N fi) (ee_N en) vl bo (ee_N od) rd (ee_N bl) fo (ee_O nx) (ee_N lm) (ee_N re) (ee_N rn) (ee_N ct) (ee_O ol) (ee_O yo) (ee_O os) (ee_O nw) (ee_N wf) (ee_N rf) (ee_O tg) (qq_wr ca (fi s) i (vl s)) me := by
  intro m
  induction m with
  | zero =>
    intro i n hm hn
    obtain ⟨n, rfl⟩ : ∃ k, n = k + 1 := ⟨n - 1, by omega⟩
    have e : i = L := by omega
    subst e
    exact br_t (nI_le (Nat.le_refl _) (by omega)) h
  | succ m ih =>
    intro i n hm hn
    obtain ⟨n, rfl⟩ : ∃ k, n = k + 1 := ⟨n - 1, by omega⟩
    have e1 : ee_N fi (nI s).toNatClampNeg + nI i = nI (fi s + i) := by rw [ee_rN (by omega), nI_add]
    refine br_f (nI_ge (by omega) (by omega)) (And.intro (vp_in_nI hs (by omega)) (And.intro (vp_in_nI hs (by omega)) (And.intro (by rw [e1]; exact vp_in_nI (by omega) (by omega)) (nm_r (e' := qq_wr ca (fi s) (i + 1) (vl s)) ?_ (nm_r (nI_1 i) (ih (i + 1) n (by omega) (by omega)))))))
    rw [e1, ee_r (f := vl) (by omega), ee_w (by omega)]
    exact pp_wrS
theorem xw_writeCache {post : SX → Prop} {s : Nat} (hs : s < 16) (h1 : en s = fi s + ln s) (hL : ln s ≤ 8) (he : en s ≤ 256) (h : post (nI N, nI T, nI B, nI F, nI wc, nI rc, nI hea, nI lf, nI dr, nI ps, ck, nI sb, ee_N st, ee_N kd, ee_N fi, ee_N en, vl, bo, ee_N od, rd, ee_N bl, fo, ee_O nx, ee_N lm, ee_N re, ee_N rn, ee_N ct, ee_O ol, ee_O yo, ee_O os, ee_O nw, ee_N wf, ee_N rf, ee_O tg, qq_wr ca (fi s) (ln s) (vl s), me)) : wpX_writeCache post (nI N, nI T, nI B, nI F, nI wc, nI rc, nI hea, nI lf, nI dr, nI ps, ck, nI sb, ee_N st, ee_N kd, ee_N fi, ee_N en, vl, bo, ee_N od, rd, ee_N bl, fo, ee_O nx, ee_N lm, ee_N re, ee_N rn, ee_N ct, ee_O ol, ee_O yo, ee_O os, ee_O nw, ee_N wf, ee_N rf, ee_O tg, ca, me) (nI s) := by
  refine And.intro (vp_in_nI hs (by omega)) (And.intro (vp_in_nI hs (by omega)) (nm_r (e' := nI (ln s)) ?_ ⟨9, ?_⟩))
  · rw [ee_rN (by omega), ee_rN (by omega), pk_sub (by omega)]; exact congrArg nI (by omega)
  · have k := xw_wc16 (post := post) (L := ln s) hs hL (by omega) h (ln s) 0 9 (by omega) (by omega)
    rw [pp_wr0] at k; exact k
theorem xw_wm17 {post : SX → Prop} {s L M : Nat} (hs : s < 16) (hL : L ≤ 8) (hM : M < 2 ^ 31) (he : fi s + L ≤ 256) (h : post (nI N, nI T, nI B, nI F, nI wc, nI rc, nI hea, nI lf, nI dr, nI ps, ck, nI sb, ee_N st, ee_N kd, ee_N fi, ee_N en, vl, bo, ee_N od, rd, ee_N bl, fo, ee_O nx, ee_N lm, ee_N re, ee_N rn, ee_N ct, ee_O ol, ee_O yo, ee_O os, ee_O nw, ee_N wf, ee_N rf, ee_O tg, ca, qq_wr me (fi s) (min L M) (vl s))) :
    ∀ m i n, i + m = min L M → m < n → wX_writeMedium_17 post (nI s) (nI M) (nI L) (nI N) (nI T) (nI B) (nI F) (nI wc) (nI rc) (nI hea) (nI lf) (nI dr) (nI ps) ck (nI sb) n (nI i) (ee_N st) (ee_N kd) (ee_N fi) (ee_N en) vl bo (ee_N od) rd (ee_N bl) fo (ee_O nx) (ee_N lm) (ee_N re) (ee_N rn) (ee_N ct) (ee_O ol) (ee_O yo) (ee_O os) (ee_O nw) (ee_N wf) (ee_N rf) (ee_O tg) ca (qq_wr me (fi s) i (vl s)) := by
  intro m
  induction m with
  | zero =>
    intro i n hm hn
    obtain ⟨n, rfl⟩ : ∃ k, n = k + 1 := ⟨n - 1, by omega⟩
    have e : i = min L M := by omega
    subst e
    exact pk_le L (min L M) (fun _ => h) (fun z => pk_le M (min L M) (fun _ => h) (fun z2 => by omega))
  | succ m ih =>
    intro i n hm hn
    obtain ⟨n, rfl⟩ : ∃ k, n = k + 1 := ⟨n - 1, by omega⟩
    have e1 : ee_N fi (nI s).toNatClampNeg + nI i = nI (fi s + i) := by rw [ee_rN (by omega), nI_add]
    refine br_f (nI_ge (by omega) (by omega)) (br_f (nI_ge (by omega) (by omega)) (And.intro (vp_in_nI hs (by omega)) (And.intro (vp_in_nI hs (by omega)) (And.intro (by rw [e1]; exact vp_in_nI (by omega) (by omega)) (nm_r (e' := qq_wr me (fi s) (i + 1) (vl s)) ?_ (nm_r (nI_1 i) (ih (i + 1) n (by omega) (by omega))))))))
    rw [e1, ee_r (f := vl) (by omega), ee_w (by omega)]
    exact pp_wrS
theorem xw_writeMedium {post : SX → Prop} {s M : Nat} (hs : s < 16) (h1 : en s = fi s + ln s) (hL : ln s ≤ 8) (he : en s ≤ 256) (hM : M < 2 ^ 31) (h : post (nI N, nI T, nI B, nI F, nI wc, nI rc, nI hea, nI lf, nI dr, nI ps, ck, nI sb, ee_N st, ee_N kd, ee_N fi, ee_N en, vl, bo, ee_N od, rd, ee_N bl, fo, ee_O nx, ee_N lm, ee_N re, ee_N rn, ee_N ct, ee_O ol, ee_O yo, ee_O os, ee_O nw, ee_N wf, ee_N rf, ee_O tg, ca, qq_wr me (fi s) (min (ln s) M) (vl s))) : wpX_writeMedium post (nI N, nI T, nI B, nI F, nI wc, nI rc, nI hea, nI lf, nI dr, nI ps, ck, nI sb, ee_N st, ee_N kd, ee_N fi, ee_N en, vl, bo, ee_N od, rd, ee_N bl, fo, ee_O nx, ee_N lm, ee_N re, ee_N rn, ee_N ct, ee_O ol, ee_O yo, ee_O os, ee_O nw, ee_N wf, ee_N rf, ee_O tg, ca, me) (nI s) (nI M) := by
  refine And.intro (vp_in_nI hs (by omega)) (And.intro (vp_in_nI hs (by omega)) (nm_r (e' := nI (ln s)) ?_ ⟨9, ?_⟩))
  · rw [ee_rN (by omega), ee_rN (by omega), pk_sub (by omega)]; exact congrArg nI (by omega)
  · have k := xw_wm17 (post := post) (L := ln s) hs hL hM (by omega) h (min (ln s) M) 0 9 (by omega) (by omega)
    rw [pp_wr0] at k; exact k
theorem pp_lst_set {s m : Nat} (h16 : 16 ≤ st s) (hm : m = 7) : (∀ q, qq_W (ee_u st s m) q ↔ qq_W st q) ∧ (∀ q, qq_V (ee_u st s m) q ↔ qq_V st q) := by
  refine ⟨fun q => ?_, fun q => ?_⟩
  · unfold qq_W
    by_cases e : q = s
    · rw [e, ee_us]; omega
    · rw [ee_un e]
  · unfold qq_V
    by_cases e : q = s
    · rw [e, ee_us]; omega
    · rw [ee_un e]
/-- the end of the transfer of the first request of a chain -/
theorem xw_endTransfer {post : SX → Prop} {s t lo hi : Nat} {tgG : Nat → Option Nat} (ht : t < 4) (htg : tgG t = some s) (hX : qq_XI N T st kd fi en ln od sb nx lm re rn ct ol yo os nw tgG wc wf lo hi rf) (hB : qq_Blk qq_z st fi en od bl fo) (hF : F ≤ 1)
    (K : ∀ st' bl' fo' nx' lm' re' rn' ct' ol' yo' os' nw' wc' wf' rd' ca' me', qq_XI N T st' kd fi en ln od sb nx' lm' re' rn' ct' ol' yo' os' nw' (ee_u tgG t (nx s)) wc' wf' lo hi rf → qq_Blk qq_z st' fi en od bl' fo' → st' s = qq_fin F kd s → (∀ q, q ≠ s → st' q = st q ∨ (st q = 3 ∧ st' q = 4)) →
      rd' = qq_rd rd ca (s * 8) (fi s) (if kd s = 0 then ln s else 0) → ca' = qq_wr ca (fi s) (if kd s = 0 then 0 else ln s) (vl s) → me' = qq_wr me (fi s) (if qq_dur (kd s) = 1 ∧ F = 1 then ln s else 0) (vl s) →
      post (nI N, nI T, nI B, nI F, nI wc', nI rc, nI hea, nI lf, nI dr, nI ps, ck, nI sb, ee_N st', ee_N kd, ee_N fi, ee_N en, vl, bo, ee_N od, rd', ee_N bl', fo', ee_O nx', ee_N lm', ee_N re', ee_N rn', ee_N ct', ee_O ol', ee_O yo', ee_O os', ee_O nw', ee_N wf', ee_N rf, ee_O tg, ca', me')) : wpX_endTransfer post (nI N, nI T, nI B, nI F, nI wc, nI rc, nI hea, nI lf, nI dr, nI ps, ck, nI sb, ee_N st, ee_N kd, ee_N fi, ee_N en, vl, bo, ee_N od, rd, ee_N bl, fo, ee_O nx, ee_N lm, ee_N re, ee_N rn, ee_N ct, ee_O ol, ee_O yo, ee_O os, ee_O nw, ee_N wf, ee_N rf, ee_O tg, ca, me) (nI s) := by
  obtain ⟨hB3, hTAD, hW, hV⟩ := hX
  have hst : st s = 16 + t := ((hTAD.2.2 t ht).2.1 s htg).1
  have hgo : qq_go (st s) := by unfold qq_go; omega
  have hu : qq_unf (st s) := pp_go_unf hgo
  have hfree := hB3.2.2 s hgo
  have hs : s < 16 := (pp_b3_lt hB3 hu.1).1
  obtain ⟨k1, k2, k3, k4, k5, k6, k7⟩ := hB3.1.2.2 s
  have hin : vp_in (nI s) 16 := vp_in_nI hs (by omega)
  have X7 : qq_XI N T (ee_u st s 7) kd fi en ln od sb nx lm re rn ct ol yo os nw (ee_u tgG t (nx s)) wc wf lo hi rf := ⟨pp_b3_fin hB3 hu.1 (by unfold qq_unf; omega), pp_tad_pop hTAD hB3 ht htg (by omega) (by omega), pp_lst_congr hW (pp_lst_set (by omega) rfl).1, pp_lst_congr hV (pp_lst_set (by omega) rfl).2⟩
  have fin7 : ∀ st' : Nat → Nat, (∀ q, st' q = ee_u st s 7 q ∨ (ee_u st s 7 q = 3 ∧ st' q = 4)) → st' s = 7 ∧ ∀ q, q ≠ s → st' q = st q ∨ (st q = 3 ∧ st' q = 4) := by
    intro st' h
    refine ⟨?_, fun q hn => ?_⟩
    · have := h s
      rw [ee_us] at this; omega
    · have := h q
      rw [ee_un hn] at this; exact this
  have d2 := pp_durlt (kd s)
  refine And.intro hin (ee_if (ee_eN 0 (by omega) (by omega) (by omega)) (fun hk => ?_) (fun hk => ?_))
  · refine xw_readCache hs k3 k4 k5 (xw_finish (tgG := ee_u tgG t (nx s)) hu hfree X7 hB (fun st' bl' nx' lm' re' rn' ct' ol' yo' os' nw' x1 x2 x3 => ?_))
    have hd : qq_dur (kd s) = 0 := by rw [hk]; rfl
    refine K st' bl' _ nx' lm' re' rn' ct' ol' yo' os' nw' wc wf _ _ _ x1 x2 ?_ (fin7 st' x3).2 ?_ ?_ ?_
    · rw [(fin7 st' x3).1, qq_fin, if_neg (by omega)]
    · rw [if_pos hk]
    · rw [if_pos hk, pp_wr0]
    · rw [if_neg (by omega), pp_wr0]
  · refine xw_writeCache hs k3 k4 k5 (xw_durable hs (by omega) ?_)
    have eca : qq_wr ca (fi s) (ln s) (vl s) = qq_wr ca (fi s) (if kd s = 0 then 0 else ln s) (vl s) := by rw [if_neg hk]
    have erd : rd = qq_rd rd ca (s * 8) (fi s) (if kd s = 0 then ln s else 0) := by rw [if_neg hk, pp_rd0]
    refine pk_eq (qq_dur (kd s)) 0 (fun hz => ?_) (fun hz => ?_)
    · unfold wX_endTransfer_47
      refine xw_durable hs (by omega) (pk_eq (qq_dur (kd s)) 0 (fun _ => ?_) (fun z => absurd hz z))
      unfold wX_endTransfer_62
      refine xw_finish (tgG := ee_u tgG t (nx s)) hu hfree X7 hB (fun st' bl' nx' lm' re' rn' ct' ol' yo' os' nw' x1 x2 x3 => ?_)
      refine K st' bl' _ nx' lm' re' rn' ct' ol' yo' os' nw' wc wf _ _ _ x1 x2 ?_ (fin7 st' x3).2 erd eca ?_
      · rw [(fin7 st' x3).1, qq_fin, if_neg (by omega)]
      · rw [if_neg (by omega), pp_wr0]
    · refine pk_eq F 0 (fun hf => ?_) (fun hf => ?_)
      · have hsW : ¬ qq_W st s := by unfold qq_W; omega
        have hW16 : ∀ q, qq_W st q → q < 16 := fun q hq => (pp_b3_lt hB3 (s := q) (by unfold qq_W at hq; omega)).1
        have hr := pp_lst_room hW (Nat.zero_le _) hW16 hsW hs
        have hU : ∀ q, qq_unf (ee_u st s 5 q) ↔ qq_unf (st q) := by
          intro q
          by_cases e : q = s
          · rw [e, ee_us]; exact ⟨fun _ => hu, fun _ => by unfold qq_unf; omega⟩
          · rw [ee_un e]
        refine xw_needFlush (m := 5) hs (by omega) (K (ee_u st s 5) bl fo nx lm re rn ct ol yo os nw (wc + 1) (ee_u wf wc s) rd _ me ⟨pp_b3_set hB3 hu (by unfold qq_unf; omega) (by omega) (fun z => by unfold qq_act at z; omega) (fun _ => hfree), pp_tad_pop hTAD hB3 ht htg (by omega) (by omega), pp_lst_push hW (Nat.zero_le _) hsW (fun q => ?_), pp_lst_congr hV (fun q => ?_)⟩ (pp_blk_st hB.1 hB.2.1 hU (fun q hq => ?_)) ?_ (fun q hn => Or.inl (ee_un hn)) erd eca ?_)
        · unfold qq_W
          by_cases e : q = s
          · rw [e, ee_us]; omega
          · rw [ee_un e]; omega
        · unfold qq_V
          by_cases e : q = s
          · rw [e, ee_us]; omega
          · rw [ee_un e]
        · by_cases e : q = s
          · rw [e, ee_us] at hq; omega
          · rw [ee_un e] at hq; exact hB.2.2 q hq
        · rw [ee_us, qq_fin, if_pos (by omega)]
        · rw [if_neg (by omega), pp_wr0]
      · unfold wX_endTransfer_47
        refine xw_durable hs (by omega) (pk_eq (qq_dur (kd s)) 0 (fun z => absurd z hz) (fun _ => ?_))
        refine xw_writeMedium (M := 8) hs k3 k4 k5 (by omega) ?_
        unfold wX_endTransfer_62
        refine xw_finish (tgG := ee_u tgG t (nx s)) hu hfree X7 hB (fun st' bl' nx' lm' re' rn' ct' ol' yo' os' nw' x1 x2 x3 => ?_)
        refine K st' bl' _ nx' lm' re' rn' ct' ol' yo' os' nw' wc wf _ _ _ x1 x2 ?_ (fin7 st' x3).2 erd eca ?_
        · rw [(fin7 st' x3).1, qq_fin, if_neg (by omega)]
        · rw [if_pos (by omega), Nat.min_eq_left (by omega)]
end
end
section
/-! X's complete -/
theorem ee_uu {α : Type} {f : Nat → α} {i : Nat} {a b : α} : ee_u (ee_u f i a) i b = ee_u f i b := by
  funext j
  by_cases e : j = i
  · rw [e, ee_us, ee_us]
  · rw [ee_un e, ee_un e, ee_un e]
/-- c' is c with the sectors below L of all of P written -/
def qq_Wr (P : Nat → Prop) (fi en : Nat → Nat) (vl : Nat → Int32) (L : Nat) (c c' : Nat → Int32) : Prop := ∀ x, (∀ s, P s → fi s ≤ x → x < en s → x < L → c' x = vl s + nI (x - fi s)) ∧ ((∀ s, P s → fi s ≤ x → x < en s → ¬ x < L) → c' x = c x)
theorem pp_Wr_0 {P : Nat → Prop} {fi en : Nat → Nat} {vl c : Nat → Int32} {L : Nat} (h : ∀ s, ¬ P s) : qq_Wr P fi en vl L c c := fun _ => ⟨fun s hs => absurd hs (h s), fun _ => rfl⟩
theorem pp_Wr_congr {P P' : Nat → Prop} {fi en : Nat → Nat} {vl c c' : Nat → Int32} {L : Nat} (h : qq_Wr P fi en vl L c c') (hP : ∀ s, P' s ↔ P s) : qq_Wr P' fi en vl L c c' := fun x => ⟨fun s hs => (h x).1 s ((hP s).mp hs), fun z => (h x).2 (fun s hs => z s ((hP s).mpr hs))⟩
theorem pp_Wr_step {P P' : Nat → Prop} {fi en : Nat → Nat} {vl c c' : Nat → Int32} {L s n : Nat} (h : qq_Wr P fi en vl L c c') (hP : ∀ q, P' q ↔ P q ∨ q = s) (hd : ∀ q, P q → q ≠ s → en q ≤ fi s ∨ en s ≤ fi q) (hn : ∀ x, (fi s ≤ x ∧ x < fi s + n) ↔ (fi s ≤ x ∧ x < en s ∧ x < L)) : qq_Wr P' fi en vl L c (qq_wr c' (fi s) n (vl s)) := by
  intro x
  unfold qq_wr
  by_cases z : fi s ≤ x ∧ x < fi s + n
  · rw [if_pos z]
    have z2 := (hn x).mp z
    refine ⟨fun q hq a b c => ?_, fun w => absurd z2.2.2 (w s ((hP s).mpr (Or.inr rfl)) z2.1 z2.2.1)⟩
    by_cases e : q = s
    · rw [e]
    · rcases (hP q).mp hq with k | k
      · have := hd q k e; omega
      · exact absurd k e
  · rw [if_neg z]
    refine ⟨fun q hq a b c => ?_, fun w => (h x).2 (fun q hq => w q ((hP q).mpr (Or.inl hq)))⟩
    rcases (hP q).mp hq with k | k
    · exact (h x).1 q k a b c
    · rw [k] at a b
      exact absurd ((hn x).mpr ⟨a, b, c⟩) z
theorem pp_Wr_stepc {P P' : Nat → Prop} {C : Prop} {fi en ln : Nat → Nat} {vl c c' : Nat → Int32} {s n : Nat} (h : qq_Wr P fi en vl 1000 c c') (hP : ∀ q, P' q ↔ P q ∨ (q = s ∧ C)) (hd : ∀ q, P q → q ≠ s → en q ≤ fi s ∨ en s ≤ fi q) (he : en s = fi s + ln s) (h2 : en s ≤ 256) (hn1 : C → n = ln s) (hn0 : ¬ C → n = 0) : qq_Wr P' fi en vl 1000 c (qq_wr c' (fi s) n (vl s)) := by
  rcases Classical.em C with z | z
  · refine pp_Wr_step h (fun q => (hP q).trans ⟨fun w => w.elim Or.inl (fun w => Or.inr w.1), fun w => w.elim Or.inl (fun w => Or.inr ⟨w, z⟩)⟩) hd (fun x => ?_)
    rw [hn1 z]; omega
  · rw [hn0 z, pp_wr0]
    exact pp_Wr_congr h (fun q => (hP q).trans ⟨fun w => w.elim id (fun w => absurd w.2 z), Or.inl⟩)
theorem pp_Wr_uniq {P : Nat → Prop} {fi en : Nat → Nat} {vl c c1 c2 : Nat → Int32} {L : Nat} (h1 : qq_Wr P fi en vl L c c1) (h2 : qq_Wr P fi en vl L c c2) : c1 = c2 := by
  funext x
  rcases Classical.em (∃ s, P s ∧ fi s ≤ x ∧ x < en s ∧ x < L) with ⟨s, a, b, d, e⟩ | z
  · rw [(h1 x).1 s a b d e, (h2 x).1 s a b d e]
  · rw [(h1 x).2 (fun s a b d e => z ⟨s, a, b, d, e⟩), (h2 x).2 (fun s a b d e => z ⟨s, a, b, d, e⟩)]
/-- how far complete has come: st0 at its start, st now -/
def qq_Cx (F t : Nat) (st0 st kd fi en ln : Nat → Nat) (vl rd0 ca0 me0 rd ca me : Nat → Int32) : Prop :=
  (∀ q, (st0 q = 16 + t → (st q = 16 + t ∨ st q = qq_fin F kd q)) ∧ (st0 q ≠ 16 + t → st q = st0 q ∨ (st0 q = 3 ∧ st q = 4))) ∧
  qq_Wr (fun q => (st0 q = 16 + t ∧ st q ≠ 16 + t) ∧ kd q ≠ 0) fi en vl 1000 ca0 ca ∧
  qq_Wr (fun q => (st0 q = 16 + t ∧ st q ≠ 16 + t) ∧ (qq_dur (kd q) = 1 ∧ F = 1)) fi en vl 1000 me0 me ∧
  (∀ q i, i < 8 → ((st0 q = 16 + t ∧ st q ≠ 16 + t ∧ kd q = 0) → i < ln q → rd (q * 8 + i) = ca0 (fi q + i)) ∧ (¬ (st0 q = 16 + t ∧ st q ≠ 16 + t ∧ kd q = 0) → rd (q * 8 + i) = rd0 (q * 8 + i)))
theorem pp_fin_lt {F : Nat} {kd : Nat → Nat} {s : Nat} : qq_fin F kd s = 5 ∨ qq_fin F kd s = 7 := by
  unfold qq_fin; split <;> omega
section
variable {N T B F wc rc hea lf dr ps sb : Nat} {ck : Int32} {st kd fi en ln od bl lm re rn ct wf rf : Nat → Nat} {vl bo rd fo ca me : Nat → Int32} {nx ol yo os nw tg : Nat → Option Nat}
theorem pp_Cx_step {t s : Nat} {st0 st' : Nat → Nat} {rd0 ca0 me0 rd' ca' me' : Nat → Int32} (h : qq_Cx F t st0 st kd fi en ln vl rd0 ca0 me0 rd ca me) (hs : st s = 16 + t) (hfin : st' s = qq_fin F kd s) (hq : ∀ q, q ≠ s → st' q = st q ∨ (st q = 3 ∧ st' q = 4))
    (hdj : ∀ q r, st0 q = 16 + t → st0 r = 16 + t → q ≠ r → en q ≤ fi r ∨ en r ≤ fi q) (he : en s = fi s + ln s) (h2 : en s ≤ 256) (hl : ln s ≤ 8)
    (e1 : rd' = qq_rd rd ca (s * 8) (fi s) (if kd s = 0 then ln s else 0)) (e2 : ca' = qq_wr ca (fi s) (if kd s = 0 then 0 else ln s) (vl s)) (e3 : me' = qq_wr me (fi s) (if qq_dur (kd s) = 1 ∧ F = 1 then ln s else 0) (vl s)) : qq_Cx F t st0 st' kd fi en ln vl rd0 ca0 me0 rd' ca' me' := by
  obtain ⟨a, b, c, d⟩ := h
  have f57 := pp_fin_lt (F := F) (kd := kd) (s := s)
  have s0 : st0 s = 16 + t := by
    rcases Classical.em (st0 s = 16 + t) with z | z
    · exact z
    · have := (a s).2 z; omega
  have hP : ∀ q, (st0 q = 16 + t ∧ st' q ≠ 16 + t) ↔ ((st0 q = 16 + t ∧ st q ≠ 16 + t) ∨ q = s) := by
    intro q
    by_cases e : q = s
    · rw [e]; exact ⟨fun _ => Or.inr rfl, fun _ => ⟨s0, by omega⟩⟩
    · have := hq q e
      constructor
      · intro w; exact Or.inl ⟨w.1, by omega⟩
      · rintro (w | w)
        · have a1 := (a q).1 w.1
          have := pp_fin_lt (F := F) (kd := kd) (s := q)
          exact ⟨w.1, by omega⟩
        · exact absurd w e
  refine ⟨fun q => ?_, ?_, ?_, fun q i hi => ?_⟩
  · by_cases e : q = s
    · rw [e]; exact ⟨fun _ => Or.inr hfin, fun z => absurd s0 z⟩
    · have k := hq q e
      have f := pp_fin_lt (F := F) (kd := kd) (s := q)
      obtain ⟨a1, a2⟩ := a q
      refine ⟨fun z => ?_, fun z => ?_⟩
      · have := a1 z; omega
      · have := a2 z; omega
  · rw [e2]
    refine pp_Wr_stepc (C := kd s ≠ 0) (ln := ln) b (fun q => ?_) (fun q w e => hdj q s w.1.1 s0 e) he h2 (fun w => if_neg w) (fun w => if_pos (Classical.byContradiction w))
    rw [hP q]
    constructor
    · rintro ⟨w | w, w2⟩
      · exact Or.inl ⟨w, w2⟩
      · exact Or.inr ⟨w, by rw [← w]; exact w2⟩
    · rintro (w | w)
      · exact ⟨Or.inl w.1, w.2⟩
      · exact ⟨Or.inr w.1, by rw [w.1]; exact w.2⟩
  · rw [e3]
    refine pp_Wr_stepc (C := qq_dur (kd s) = 1 ∧ F = 1) (ln := ln) c (fun q => ?_) (fun q w e => hdj q s w.1.1 s0 e) he h2 (fun w => if_pos w) (fun w => if_neg w)
    rw [hP q]
    constructor
    · rintro ⟨w | w, w2⟩
      · exact Or.inl ⟨w, w2⟩
      · exact Or.inr ⟨w, by rw [← w]; exact w2⟩
    · rintro (w | w)
      · exact ⟨Or.inl w.1, w.2⟩
      · exact ⟨Or.inr w.1, by rw [w.1]; exact w.2⟩
  · rw [e1]
    unfold qq_rd
    by_cases e : q = s
    · subst e
      by_cases k0 : kd q = 0
      · rw [if_pos k0]
        refine ⟨fun _ hi2 => ?_, fun w => absurd ⟨s0, by omega, k0⟩ w⟩
        rw [if_pos (by omega), Nat.add_sub_cancel_left]
        refine (b (fi q + i)).2 (fun r hr r1 r2 => ?_)
        have := hdj r q hr.1.1 s0 (fun z => by have := hr.1.2; rw [z] at this; omega)
        omega
      · rw [if_neg k0, if_neg (by omega)]
        refine ⟨fun w => absurd w.2.2 k0, fun _ => (d q i hi).2 (fun w => k0 w.2.2)⟩
    · have hout : ¬ (s * 8 ≤ q * 8 + i ∧ q * 8 + i < s * 8 + (if kd s = 0 then ln s else 0)) := by
        have : (if kd s = 0 then ln s else 0) ≤ 8 := by split <;> omega
        omega
      rw [if_neg hout]
      have hq2 : (st0 q = 16 + t ∧ st' q ≠ 16 + t ∧ kd q = 0) ↔ (st0 q = 16 + t ∧ st q ≠ 16 + t ∧ kd q = 0) := by
        have := hP q
        constructor
        · intro w; exact ⟨w.1, ((this.mp ⟨w.1, w.2.1⟩).resolve_right e).2, w.2.2⟩
        · intro w; exact ⟨w.1, (this.mpr (Or.inl ⟨w.1, w.2.1⟩)).2, w.2.2⟩
      rw [hq2]
      exact d q i hi
theorem xw_comp40 {post : Int32 → SX → Prop} {t lo hi : Nat} {st0 : Nat → Nat} {rd0 ca0 me0 : Nat → Int32} (ht : t < 4) (hF : F ≤ 1)
    (hdj : ∀ q r, st0 q = 16 + t → st0 r = 16 + t → q ≠ r → en q ≤ fi r ∨ en r ≤ fi q)
    (K : ∀ st bl fo nx lm re rn ct ol yo os nw wc wf rd ca me, qq_XI N T st kd fi en ln od sb nx lm re rn ct ol yo os nw (ee_u tg t none) wc wf lo hi rf → qq_Blk qq_z st fi en od bl fo → qq_Cx F t st0 st kd fi en ln vl rd0 ca0 me0 rd ca me → (∀ q, st q ≠ 16 + t) → post (nI (cn (fun q => st0 q = 16 + t) 16)) (nI N, nI T, nI B, nI F, nI wc, nI rc, nI hea, nI lf, nI dr, nI ps, ck, nI sb, ee_N st, ee_N kd, ee_N fi, ee_N en, vl, bo, ee_N od, rd, ee_N bl, fo, ee_O nx, ee_N lm, ee_N re, ee_N rn, ee_N ct, ee_O ol, ee_O yo, ee_O os, ee_O nw, ee_N wf, ee_N rf, ee_O (ee_u tg t none), ca, me)) :
    ∀ m k n cur st bl fo nx lm re rn ct ol yo os nw wc wf rd ca me, cn (fun q => st q = 16 + t) 16 = m → k + m = cn (fun q => st0 q = 16 + t) 16 → m < n → qq_XI N T st kd fi en ln od sb nx lm re rn ct ol yo os nw (ee_u tg t cur) wc wf lo hi rf → qq_Blk qq_z st fi en od bl fo → qq_Cx F t st0 st kd fi en ln vl rd0 ca0 me0 rd ca me → wX_complete_40 post n (ee_o cur) (nI k) (nI k) (nI N) (nI T) (nI B) (nI F) (nI wc) (nI rc) (nI hea) (nI lf) (nI dr) (nI ps) ck (nI sb) (ee_N st) (ee_N kd) (ee_N fi) (ee_N en) vl bo (ee_N od) rd (ee_N bl) fo (ee_O nx) (ee_N lm) (ee_N re) (ee_N rn) (ee_N ct) (ee_O ol) (ee_O yo) (ee_O os) (ee_O nw) (ee_N wf) (ee_N rf) (ee_O (ee_u tg t none)) ca me := by
  intro m
  induction m with
  | zero =>
    intro k n cur st bl fo nx lm re rn ct ol yo os nw wc wf rd ca me hm hk hn hX hB hC
    obtain ⟨n, rfl⟩ : ∃ k, n = k + 1 := ⟨n - 1, by omega⟩
    have hno : ∀ q, st q ≠ 16 + t := fun q hq => cn_zero hm (pp_b3_lt hX.1 (s := q) (by omega)).1 hq
    rcases cur with _ | s
    · have hk' : k = cn (fun q => st0 q = 16 + t) 16 := by omega
      have P := K st bl fo nx lm re rn ct ol yo os nw wc wf rd ca me hX hB hC hno
      rw [← hk'] at P
      exact br_c (fun _ => P) (fun _ => br_t ee_o1 P)
    · exact absurd (((hX.2.1.2.2 t ht).2.1 s ee_us).1) (hno s)
  | succ m ih =>
    intro k n cur st bl fo nx lm re rn ct ol yo os nw wc wf rd ca me hm hk hn hX hB hC
    obtain ⟨n, rfl⟩ : ∃ k, n = k + 1 := ⟨n - 1, by omega⟩
    have hk16 := cn_le (fun q => st0 q = 16 + t) 16
    rcases cur with _ | s
    · have hno := (hX.2.1.2.2 t ht).1 ee_us
      have : cn (fun q => st q = 16 + t) 16 ≤ cn (fun _ => False) 16 := cn_mono (fun q _ w => hno q w)
      have z : cn (fun _ => False) 16 = 0 := by
        have : b01 False = 0 := b01_f (fun z => z)
        simp only [cn]; omega
      omega
    · have hs := ((hX.2.1.2.2 t ht).2.1 s ee_us).1
      have hs16 := (pp_b3_lt hX.1 (s := s) (by omega)).1
      obtain ⟨k1, k2, k3, k4, k5, k6, k7⟩ := hX.1.1.2.2 s
      refine br_f (nI_ge (b := 16) (by omega) (by omega)) (br_f (ee_s1 (by omega)) (And.intro (vp_in_nI hs16 (by omega)) (nm_r (e' := ee_o (nx s)) (ee_rO (by omega)) ?_)))
      refine xw_endTransfer (tgG := ee_u tg t (some s)) ht ee_us hX hB hF (fun st' bl' fo' nx' lm' re' rn' ct' ol' yo' os' nw' wc' wf' rd' ca' me' x1 x2 x3 x4 x5 x6 x7 => ?_)
      rw [ee_uu] at x1
      have f57 := pp_fin_lt (F := F) (kd := kd) (s := s)
      refine nm_r (nI_1 k) (nm_r (nI_1 k) (ih (k + 1) n (nx s) st' bl' fo' nx' lm' re' rn' ct' ol' yo' os' nw' wc' wf' rd' ca' me' ?_ (by omega) (by omega) x1 x2 (pp_Cx_step hC hs x3 x4 hdj k3 k5 k4 x5 x6 x7)))
      have z := cn_add (P := fun q => st' q = 16 + t) (a := s) (by omega) (N := 16) hs16
      have z2 : cn (fun q => st' q = 16 + t ∨ q = s) 16 = cn (fun q => st q = 16 + t) 16 := cn_eq (fun q _ => by
        by_cases e : q = s
        · rw [e]; exact ⟨fun _ => hs, fun _ => Or.inr rfl⟩
        · have := x4 q e; omega)
      omega
end
end
section
/-! X's complete from its start; the flushes -/
def qq_fl (m : Nat) : Nat := if m = 1 then 2 else if m = 5 then 6 else m
def qq_ff (m : Nat) : Nat := if m = 2 then 3 else if m = 6 then 7 else qq_hs m
def qq_cp (c m : Nat → Int32) (n : Nat) : Nat → Int32 := fun x => if x < n then c x else m x
theorem pp_cp0 {c m : Nat → Int32} : qq_cp c m 0 = m := by
  funext x; unfold qq_cp; rw [if_neg (by omega)]
theorem pp_cpS {c m : Nat → Int32} {n : Nat} : ee_u (qq_cp c m n) n (c n) = qq_cp c m (n + 1) := by
  funext x
  unfold qq_cp
  by_cases e : x = n
  · rw [e, ee_us, if_pos (by omega)]
  · rw [ee_un e]
    by_cases z : x < n
    · rw [if_pos z, if_pos (by omega)]
    · rw [if_neg z, if_neg (by omega)]
section
variable {N T B F wc rc hea lf dr ps sb : Nat} {ck : Int32} {st kd fi en ln od bl lm re rn ct wf rf : Nat → Nat} {vl bo rd fo ca me : Nat → Int32} {nx ol yo os nw tg : Nat → Option Nat}
theorem pp_b3_map {st' : Nat → Nat} (h : qq_B3 N T st kd fi en ln od sb) (hu : ∀ q, qq_unf (st' q) → qq_unf (st q)) (ha : ∀ q, qq_act (st' q) → qq_act (st q)) (hg : ∀ q, qq_go (st' q) → qq_go (st q)) (hv : ∀ q, st' q ≤ 8 ∨ (16 ≤ st' q ∧ st' q < 16 + T)) (h0 : ∀ q, st q = 0 → st' q = 0) : qq_B3 N T st' kd fi en ln od sb := by
  obtain ⟨⟨a1, a2, a3⟩, ⟨b0, b1, b2, b3⟩, c⟩ := h
  refine ⟨⟨a1, a2, fun q => ?_⟩, ⟨b0, b1, fun q hq => b2 q (hu q hq), fun q r hq hr => b3 q r (hu q hq) (hu r hr)⟩, fun q hq r hr => c q (hg q hq) r (hu r hr)⟩
  obtain ⟨k1, k2, k3, k4, k5, k6, k7⟩ := a3 q
  exact ⟨hv q, fun z => h0 q (k2 z), k3, k4, k5, k6, fun z => k7 (ha q z)⟩
theorem pp_tad_map {st' : Nat → Nat} (h : qq_TAD st kd fi en od nx lm re rn ct ol yo os nw tg) (h4 : ∀ q, st' q = 4 ↔ st q = 4) (h16 : ∀ q, 16 ≤ st q ∨ 16 ≤ st' q → st' q = st q) : qq_TAD st' kd fi en od nx lm re rn ct ol yo os nw tg := by
  obtain ⟨a, b, c⟩ := h
  exact ⟨fun d hd => pp_tab_congr (a d hd) (fun q => by rw [h4 q]) (fun q _ _ => ⟨rfl, rfl, rfl, rfl, rfl, rfl⟩) (fun _ _ => rfl), fun d hd => pp_age_congr (b d hd) (fun q => by unfold qq_R; rw [h4 q]) (fun _ _ => rfl) (fun _ _ => ⟨rfl, rfl⟩), pp_dev_congr c h16 (fun _ _ => ⟨rfl, rfl, rfl, rfl⟩)⟩
theorem xw_complete {post : Int32 → SX → Prop} {t lo hi : Nat} (ht : t < T) (hF : F ≤ 1) (hX : qq_XI N T st kd fi en ln od sb nx lm re rn ct ol yo os nw tg wc wf lo hi rf) (hB : qq_Blk qq_z st fi en od bl fo) (K0 : tg t = none → post (-3) (nI N, nI T, nI B, nI F, nI wc, nI rc, nI hea, nI lf, nI dr, nI ps, ck, nI sb, ee_N st, ee_N kd, ee_N fi, ee_N en, vl, bo, ee_N od, rd, ee_N bl, fo, ee_O nx, ee_N lm, ee_N re, ee_N rn, ee_N ct, ee_O ol, ee_O yo, ee_O os, ee_O nw, ee_N wf, ee_N rf, ee_O tg, ca, me))
    (K : tg t ≠ none → ∀ st' bl' fo' nx' lm' re' rn' ct' ol' yo' os' nw' wc' wf' rd' ca' me', qq_XI N T st' kd fi en ln od sb nx' lm' re' rn' ct' ol' yo' os' nw' (ee_u tg t none) wc' wf' lo hi rf → qq_Blk qq_z st' fi en od bl' fo' → qq_Cx F t st st' kd fi en ln vl rd ca me rd' ca' me' → (∀ q, st' q ≠ 16 + t) →
      post (nI (cn (fun q => st q = 16 + t) 16)) (nI N, nI T, nI B, nI F, nI wc', nI rc, nI hea, nI lf, nI dr, nI ps, ck, nI sb, ee_N st', ee_N kd, ee_N fi, ee_N en, vl, bo, ee_N od, rd', ee_N bl', fo', ee_O nx', ee_N lm', ee_N re', ee_N rn', ee_N ct', ee_O ol', ee_O yo', ee_O os', ee_O nw', ee_N wf', ee_N rf, ee_O (ee_u tg t none), ca', me')) : wpX_complete post (nI N, nI T, nI B, nI F, nI wc, nI rc, nI hea, nI lf, nI dr, nI ps, ck, nI sb, ee_N st, ee_N kd, ee_N fi, ee_N en, vl, bo, ee_N od, rd, ee_N bl, fo, ee_O nx, ee_N lm, ee_N re, ee_N rn, ee_N ct, ee_O ol, ee_O yo, ee_O os, ee_O nw, ee_N wf, ee_N rf, ee_O tg, ca, me) (nI t) := by
  have hT := hX.1.1.2.1
  have hin : vp_in (nI t) 4 := vp_in_nI (by omega) (by omega)
  refine br_f (nI_pos (by omega)) (br_t (nI_lt (by omega) (by omega)) (And.intro hin (nm_r (e' := ee_o (tg t)) (ee_rO (by omega)) ?_)))
  rcases htg : tg t with _ | s
  · exact br_f ee_o0 (K0 htg)
  · have hs := ((hX.2.1.2.2 t (by omega)).2.1 s htg).1
    have hs16 := (pp_b3_lt hX.1 (s := s) (by omega)).1
    refine br_t (ee_s0 (by omega)) (And.intro hin (nm_r (e' := ee_O (ee_u tg t none)) (ee_wO (v := none) (by omega)) ⟨17, ?_⟩))
    refine xw_comp40 (st0 := st) (rd0 := rd) (ca0 := ca) (me0 := me) (lo := lo) (hi := hi) (tg := tg) (by omega) hF (fun q r hq hr hn => pp_go_dj hX.1 (by unfold qq_go; omega) (by unfold qq_go; omega) hn) (K (by rw [htg]; exact fun z => nomatch z)) _ 0 17 (some s) st bl fo nx lm re rn ct ol yo os nw wc wf rd ca me rfl (by omega) (by have := cn_le (fun q => st q = 16 + t) 16; omega) ?_ hB ?_
    · rw [← htg, ee_uid]; exact hX
    · exact ⟨fun q => ⟨Or.inl, fun _ => Or.inl rfl⟩, pp_Wr_0 (fun q w => w.1.2 w.1.1), pp_Wr_0 (fun q w => w.1.2 w.1.1), fun q i hi => ⟨fun w => absurd w.1 w.2.1, fun _ => rfl⟩⟩
theorem xw_sf22 {post : Int32 → SX → Prop} (hS : ∀ q, st q < 2 ^ 31) (hL : qq_Lst 0 wc wf (qq_W st)) (hw : wc ≤ 16) (h16 : ∀ q, qq_W st q → q < 16)
    (K : ∀ st' rf', (∀ q, st' q = qq_fl (st q)) → (∀ j, j < wc → rf' j = wf j) → post (nI wc) (nI N, nI T, nI B, nI F, nI 0, nI wc, nI hea, nI lf, nI dr, nI ps, ck, nI sb, ee_N st', ee_N kd, ee_N fi, ee_N en, vl, bo, ee_N od, rd, ee_N bl, fo, ee_O nx, ee_N lm, ee_N re, ee_N rn, ee_N ct, ee_O ol, ee_O yo, ee_O os, ee_O nw, ee_N wf, ee_N rf', ee_O tg, ca, me)) :
    ∀ m i n st1 rf1, i + m = wc → m < n → (∀ j, j < i → st1 (wf j) = qq_fl (st (wf j))) → (∀ q, (∀ j, j < i → wf j ≠ q) → st1 q = st q) → (∀ j, j < i → rf1 j = wf j) → wX_startFlush_22 post (nI N) (nI T) (nI B) (nI F) (nI wc) (nI rc) (nI hea) (nI lf) (nI dr) (nI ps) ck (nI sb) n (nI i) (ee_N st1) (ee_N kd) (ee_N fi) (ee_N en) vl bo (ee_N od) rd (ee_N bl) fo (ee_O nx) (ee_N lm) (ee_N re) (ee_N rn) (ee_N ct) (ee_O ol) (ee_O yo) (ee_O os) (ee_O nw) (ee_N wf) (ee_N rf1) (ee_O tg) ca me := by
  intro m
  induction m with
  | zero =>
    intro i n st1 rf1 hm hn h1 h2 h3
    obtain ⟨n, rfl⟩ : ∃ k, n = k + 1 := ⟨n - 1, by omega⟩
    have e : i = wc := by omega
    subst e
    refine br_t (nI_le (Nat.le_refl _) (by omega)) (K st1 rf1 (fun q => ?_) h3)
    rcases Classical.em (qq_W st q) with z | z
    · obtain ⟨j, j1, j2, j3⟩ := hL.2.2 q z
      rw [← j3]; exact h1 j j2
    · rw [h2 q (fun j hj e => z (by rw [← e]; exact hL.1 j (Nat.zero_le _) hj))]
      unfold qq_W at z
      unfold qq_fl
      rw [if_neg (by omega), if_neg (by omega)]
  | succ m ih =>
    intro i n st1 rf1 hm hn h1 h2 h3
    obtain ⟨n, rfl⟩ : ∃ k, n = k + 1 := ⟨n - 1, by omega⟩
    have hWi := hL.1 i (Nat.zero_le _) (by omega)
    obtain ⟨s, hs⟩ : ∃ s, s = wf i := ⟨_, rfl⟩
    rw [← hs] at hWi
    have hs16 := h16 s hWi
    have hsin : vp_in (nI s) 16 := vp_in_nI hs16 (by omega)
    have hiin : vp_in (nI i) 16 := vp_in_nI (by omega) (by omega)
    have hd : ∀ j, j < i → wf j ≠ s := fun j hj => by rw [hs]; exact hL.2.1 j i (Nat.zero_le _) hj (by omega)
    have hst : st1 s = st s := h2 s hd
    have step : ∀ v, v = qq_fl (st s) → wX_startFlush_22 post (nI N) (nI T) (nI B) (nI F) (nI wc) (nI rc) (nI hea) (nI lf) (nI dr) (nI ps) ck (nI sb) n (nI (i + 1)) (ee_N (ee_u st1 s v)) (ee_N kd) (ee_N fi) (ee_N en) vl bo (ee_N od) rd (ee_N bl) fo (ee_O nx) (ee_N lm) (ee_N re) (ee_N rn) (ee_N ct) (ee_O ol) (ee_O yo) (ee_O os) (ee_O nw) (ee_N wf) (ee_N (ee_u rf1 i s)) (ee_O tg) ca me := by
      intro v hv
      refine ih (i + 1) n _ _ (by omega) (by omega) (fun j hj => ?_) (fun q hq => ?_) (fun j hj => ?_)
      · by_cases e : j = i
        · rw [e, ← hs, ee_us]; exact hv
        · rw [ee_un (hd j (by omega))]; exact h1 j (by omega)
      · rw [ee_un (fun z => hq i (by omega) (by rw [z, hs]))]
        exact h2 q (fun j hj => hq j (by omega))
      · by_cases e : j = i
        · rw [e, ee_us, hs]
        · rw [ee_un e]; exact h3 j (by omega)
    refine br_f (nI_ge (by omega) (by omega)) (And.intro hiin (nm_r (e' := nI s) (by rw [ee_rN (by omega), hs]) (And.intro hsin (ee_if (d := st s = 1) (by rw [← hst]; exact ee_eN 1 (by omega) (by rw [hst]; exact hS s) (by omega)) (fun z => ?_) (fun z => ?_)))))
    · exact And.intro hsin (nm_r (ee_wN (v := 2) (by omega)) (And.intro hiin (nm_r (ee_wN (by omega)) (nm_r (nI_1 i) (step 2 (by rw [z]; rfl))))))
    · have z5 : st s = 5 := by unfold qq_W at hWi; omega
      exact And.intro hsin (nm_r (ee_wN (v := 6) (by omega)) (And.intro hiin (nm_r (ee_wN (by omega)) (nm_r (nI_1 i) (step 6 (by rw [z5]; rfl))))))
theorem pp_wc16 {lo hi : Nat} {f : Nat → Nat} {P : Nat → Prop} (h : qq_Lst lo hi f P) (hl : lo ≤ hi) (hP : ∀ q, P q → q < 16) : hi - lo ≤ 16 := by
  have k := pp_lst_cnt (m := hi - lo) h (by omega) hP
  have := cn_le P 16
  omega
theorem xw_startFlush {post : Int32 → SX → Prop} (hX : qq_XI N T st kd fi en ln od sb nx lm re rn ct ol yo os nw tg wc wf 0 rc rf) (hB : qq_Blk qq_z st fi en od bl fo) (K4 : rc ≠ 0 → post (-4) (nI N, nI T, nI B, nI F, nI wc, nI rc, nI hea, nI lf, nI dr, nI ps, ck, nI sb, ee_N st, ee_N kd, ee_N fi, ee_N en, vl, bo, ee_N od, rd, ee_N bl, fo, ee_O nx, ee_N lm, ee_N re, ee_N rn, ee_N ct, ee_O ol, ee_O yo, ee_O os, ee_O nw, ee_N wf, ee_N rf, ee_O tg, ca, me)) (K3 : rc = 0 → wc = 0 → post (-3) (nI N, nI T, nI B, nI F, nI wc, nI rc, nI hea, nI lf, nI dr, nI ps, ck, nI sb, ee_N st, ee_N kd, ee_N fi, ee_N en, vl, bo, ee_N od, rd, ee_N bl, fo, ee_O nx, ee_N lm, ee_N re, ee_N rn, ee_N ct, ee_O ol, ee_O yo, ee_O os, ee_O nw, ee_N wf, ee_N rf, ee_O tg, ca, me))
    (K : rc = 0 → wc ≠ 0 → ∀ st' rf', (∀ q, st' q = qq_fl (st q)) → qq_XI N T st' kd fi en ln od sb nx lm re rn ct ol yo os nw tg 0 wf 0 wc rf' → qq_Blk qq_z st' fi en od bl fo → post (nI wc) (nI N, nI T, nI B, nI F, nI 0, nI wc, nI hea, nI lf, nI dr, nI ps, ck, nI sb, ee_N st', ee_N kd, ee_N fi, ee_N en, vl, bo, ee_N od, rd, ee_N bl, fo, ee_O nx, ee_N lm, ee_N re, ee_N rn, ee_N ct, ee_O ol, ee_O yo, ee_O os, ee_O nw, ee_N wf, ee_N rf', ee_O tg, ca, me)) : wpX_startFlush post (nI N, nI T, nI B, nI F, nI wc, nI rc, nI hea, nI lf, nI dr, nI ps, ck, nI sb, ee_N st, ee_N kd, ee_N fi, ee_N en, vl, bo, ee_N od, rd, ee_N bl, fo, ee_O nx, ee_N lm, ee_N re, ee_N rn, ee_N ct, ee_O ol, ee_O yo, ee_O os, ee_O nw, ee_N wf, ee_N rf, ee_O tg, ca, me) := by
  obtain ⟨hB3, hTAD, hW, hV⟩ := hX
  have hW16 : ∀ q, qq_W st q → q < 16 := fun q hq => (pp_b3_lt hB3 (s := q) (by unfold qq_W at hq; omega)).1
  have hV16 : ∀ q, qq_V st q → q < 16 := fun q hq => (pp_b3_lt hB3 (s := q) (by unfold qq_V at hq; omega)).1
  have w16 := pp_wc16 hW (Nat.zero_le _) hW16
  have r16 := pp_wc16 hV (Nat.zero_le _) hV16
  refine pk_le rc 0 (fun z => pk_eq wc 0 (fun w => K3 (by omega) w) (fun w => ⟨wc + 1, ?_⟩)) (fun z => K4 (by omega))
  have hT4 := hB3.1.2.1
  have hsv : ∀ q, st q ≤ 8 ∨ (16 ≤ st q ∧ st q < 16 + T) := fun q => (hB3.1.2.2 q).1
  refine xw_sf22 (st := st) (fun q => by have := hsv q; omega) hW (by omega) hW16 (fun st' rf' h1 h2 => ?_) wc 0 (wc + 1) st rf (by omega) (by omega) (fun j hj => by omega) (fun q _ => rfl) (fun j hj => by omega)
  have hf : ∀ q, (st q = 1 ∧ st' q = 2) ∨ (st q = 5 ∧ st' q = 6) ∨ (st q ≠ 1 ∧ st q ≠ 5 ∧ st' q = st q) := by
    intro q
    rw [h1 q]
    unfold qq_fl
    split
    · omega
    · split <;> omega
  refine K (by omega) w st' rf' h1 ⟨pp_b3_map hB3 (fun q => ?_) (fun q => ?_) (fun q => ?_) (fun q => ?_) (fun q => ?_), pp_tad_map hTAD (fun q => ?_) (fun q => ?_), ⟨fun j _ hj => by omega, fun i j _ _ hj => by omega, fun q hq => ?_⟩, ⟨fun j _ hj => ?_, fun i j _ h3 hj => ?_, fun q hq => ?_⟩⟩ (pp_blk_st hB.1 hB.2.1 (fun q => ?_) (fun q hq => ?_))
  · unfold qq_unf; have := hf q; omega
  · unfold qq_act; have := hf q; omega
  · unfold qq_go; have := hf q; omega
  · have := hf q; have := hsv q; omega
  · have := hf q; omega
  · have := hf q; omega
  · have := hf q; omega
  · unfold qq_W at hq; have := hf q; omega
  · rw [h2 j hj]
    have k := hW.1 j (Nat.zero_le _) hj
    have := hf (wf j)
    unfold qq_W at k; unfold qq_V; omega
  · rw [h2 i (by omega), h2 j hj]; exact hW.2.1 i j (Nat.zero_le _) h3 hj
  · have nV : ¬ qq_V st q := fun k => by obtain ⟨j, j1, j2, _⟩ := hV.2.2 q k; omega
    have hWq : qq_W st q := by
      have := hf q
      unfold qq_V at hq nV; unfold qq_W; omega
    obtain ⟨j, j1, j2, j3⟩ := hW.2.2 q hWq
    exact ⟨j, j1, j2, by rw [h2 j j2]; exact j3⟩
  · unfold qq_unf; have := hf q; omega
  · have := hf q
    exact hB.2.2 q (by omega)
theorem xw_ff49 {post : Int32 → SX → Prop} {st0 : Nat → Nat} {r : Nat} (hr : r ≤ 16) 
    (K : ∀ st bl fo nx lm re rn ct ol yo os nw, qq_XI N T st kd fi en ln od sb nx lm re rn ct ol yo os nw tg wc wf r r rf → qq_Blk qq_z st fi en od bl fo → (∀ q, qq_hs (st q) = qq_ff (st0 q)) → post (nI r) (nI N, nI T, nI B, nI F, nI wc, nI 0, nI hea, nI lf, nI dr, nI ps, ck, nI sb, ee_N st, ee_N kd, ee_N fi, ee_N en, vl, bo, ee_N od, rd, ee_N bl, fo, ee_O nx, ee_N lm, ee_N re, ee_N rn, ee_N ct, ee_O ol, ee_O yo, ee_O os, ee_O nw, ee_N wf, ee_N rf, ee_O tg, ca, me)) :
    ∀ m i n st bl fo nx lm re rn ct ol yo os nw, i + m = r → m < n → qq_XI N T st kd fi en ln od sb nx lm re rn ct ol yo os nw tg wc wf i r rf → qq_Blk qq_z st fi en od bl fo → (∀ q, (∃ j, i ≤ j ∧ j < r ∧ rf j = q ∧ st q = st0 q) ∨ qq_hs (st q) = qq_ff (st0 q)) → wX_finishFlush_49 post (nI r) n (nI i) (nI N) (nI T) (nI B) (nI F) (nI wc) (nI 0) (nI hea) (nI lf) (nI dr) (nI ps) ck (nI sb) (ee_N st) (ee_N kd) (ee_N fi) (ee_N en) vl bo (ee_N od) rd (ee_N bl) fo (ee_O nx) (ee_N lm) (ee_N re) (ee_N rn) (ee_N ct) (ee_O ol) (ee_O yo) (ee_O os) (ee_O nw) (ee_N wf) (ee_N rf) (ee_O tg) ca me := by
  intro m
  induction m with
  | zero =>
    intro i n st bl fo nx lm re rn ct ol yo os nw hm hn hX hB h0
    obtain ⟨n, rfl⟩ : ∃ k, n = k + 1 := ⟨n - 1, by omega⟩
    have e : i = r := by omega
    subst e
    refine br_t (nI_le (Nat.le_refl _) (by omega)) (K st bl fo nx lm re rn ct ol yo os nw hX hB (fun q => ?_))
    rcases h0 q with ⟨j, j1, j2, _⟩ | z
    · omega
    · exact z
  | succ m ih =>
    intro i n st bl fo nx lm re rn ct ol yo os nw hm hn hX hB h0
    obtain ⟨n, rfl⟩ : ∃ k, n = k + 1 := ⟨n - 1, by omega⟩
    obtain ⟨hB3, hTAD, hW, hV⟩ := hX
    have hVi := hV.1 i (Nat.le_refl _) (by omega)
    obtain ⟨s, hs⟩ : ∃ s, s = rf i := ⟨_, rfl⟩
    rw [← hs] at hVi
    have hu : qq_unf (st s) := by unfold qq_V at hVi; unfold qq_unf; omega
    have hs16 := (pp_b3_lt hB3 hu.1).1
    have hT4 := hB3.1.2.1
    have hsin : vp_in (nI s) 16 := vp_in_nI hs16 (by omega)
    have hiin : vp_in (nI i) 16 := vp_in_nI (by omega) (by omega)
    have hs0 : st s = st0 s := by
      rcases h0 s with ⟨j, _, _, _, z⟩ | z
      · exact z
      · unfold qq_V at hVi
        unfold qq_ff qq_hs at z
        split at z <;> (try split at z) <;> (try split at z) <;> (try split at z) <;> omega
    have hnext : ∀ st' : Nat → Nat, qq_hs (st' s) = qq_ff (st0 s) → (∀ q, q ≠ s → st' q = st q ∨ (st q = 3 ∧ st' q = 4)) → ∀ q, (∃ j, i + 1 ≤ j ∧ j < r ∧ rf j = q ∧ st' q = st0 q) ∨ qq_hs (st' q) = qq_ff (st0 q) := by
      intro st' k1 k2 q
      by_cases e : q = s
      · rw [e]; exact Or.inr k1
      · have k := k2 q e
        rcases h0 q with ⟨j, j1, j2, j3, j4⟩ | z
        · have hVq := hV.1 j j1 j2
          rw [j3] at hVq
          have ne : j ≠ i := fun z => e (by rw [← j3, z, hs])
          unfold qq_V at hVq
          exact Or.inl ⟨j, by omega, j2, j3, by omega⟩
        · refine Or.inr ?_
          rw [← z]
          rcases k with k | ⟨k, k'⟩
          · rw [k]
          · rw [k, k']; rfl
    have bs : bl s < 2 ^ 31 := by
      rw [hB.1 s hu]
      have := cn_le (fun q => qq_unf (st q) ∧ od q < od s ∧ qq_ov fi en q s) 16
      unfold qq_z; omega
    refine br_f (nI_ge (by omega) (by omega)) (And.intro hiin (nm_r (e' := nI s) (by rw [ee_rN (by omega), hs]) (And.intro hsin (ee_if (ee_eN 2 (by omega) (by unfold qq_V at hVi; omega) (by omega)) (fun z => ?_) (fun z => ?_)))))
    · have hUm : ∀ m, qq_unf m → ∀ q, qq_unf (ee_u st s m q) ↔ qq_unf (st q) := by
        intro m hm q
        by_cases e : q = s
        · rw [e, ee_us]; exact ⟨fun _ => hu, fun _ => hm⟩
        · rw [ee_un e]
      have hLW : ∀ m, m = 3 ∨ m = 4 → qq_Lst 0 wc wf (qq_W (ee_u st s m)) := by
        intro m hm
        refine pp_lst_congr hW (fun q => ?_)
        unfold qq_W
        by_cases e : q = s
        · rw [e, ee_us]; omega
        · rw [ee_un e]
      have hLV : ∀ m, m = 3 ∨ m = 4 → qq_Lst (i + 1) r rf (qq_V (ee_u st s m)) := by
        intro m hm
        refine pp_lst_pop hV (by omega) (fun q => ?_)
        rw [← hs]
        unfold qq_V
        by_cases e : q = s
        · rw [e, ee_us]; omega
        · rw [ee_un e]; exact ⟨fun w => ⟨w, e⟩, fun w => w.1⟩
      have hfree : bl s = 0 → ∀ q, qq_unf (st q) → od q < od s → ¬ qq_ov fi en q s := fun hz q hq ho hv => cn_zero (P := fun q => qq_unf (st q) ∧ od q < od s ∧ qq_ov fi en q s) (N := 16) (by have := hB.1 s hu; unfold qq_z at this; omega) (pp_b3_lt hB3 hq.1).1 ⟨hq, ho, hv⟩
      have hB34 : bl s = 0 → qq_B3 N T (ee_u st s 4) kd fi en ln od sb := fun hz => pp_b3_set (s := s) (m := 4) hB3 hu (by unfold qq_unf; omega) (by omega) (fun _ => by unfold qq_act; omega) (fun _ => hfree hz)
      have h34 : ∀ m, m = 3 ∨ m = 4 → qq_hs (ee_u st s m s) = qq_ff (st0 s) := by
        intro m hm
        rw [ee_us, ← hs0, z]
        rcases hm with hm | hm <;> rw [hm] <;> rfl
      refine xw_await (tgG := tg) hs16 (by omega) (by omega) bs hTAD (fun hz => pp_dj (hB34 hz)) (fun q => (hB3.1.2.2 q).2.2.2.2.2.1) (fun hz q r hq hr => (hB34 hz).2.1.2.2.2 q r (by rw [hq]; unfold qq_unf; omega) (by rw [hr]; unfold qq_unf; omega)) (fun q => by have := hB3.2.1.2.1 q; have := hB3.2.1.1; omega) (fun hz nx' lm' re' rn' ct' ol' yo' os' nw' hTAD' => ?_) (fun hz => ?_)
      · refine nm_r (nI_1 i) (ih (i + 1) n (ee_u st s 4) bl fo nx' lm' re' rn' ct' ol' yo' os' nw' (by omega) (by omega) ⟨hB34 hz, hTAD', hLW 4 (Or.inr rfl), hLV 4 (Or.inr rfl)⟩ (pp_blk_st hB.1 hB.2.1 (hUm 4 (by unfold qq_unf; omega)) (fun q hq => ?_)) (hnext _ (h34 4 (Or.inr rfl)) (fun q e => Or.inl (ee_un e))))
        by_cases e : q = s
        · rw [e, ee_us] at hq; omega
        · rw [ee_un e] at hq; exact hB.2.2 q hq
      · refine nm_r (nI_1 i) (ih (i + 1) n (ee_u st s 3) bl fo nx lm re rn ct ol yo os nw (by omega) (by omega) ⟨pp_b3_set (s := s) (m := 3) hB3 hu (by unfold qq_unf; omega) (by omega) (fun _ => by unfold qq_act; omega) (fun w => by unfold qq_go at w; omega), pp_tad_plain hTAD (by omega) (by omega) (by omega) (by omega), hLW 3 (Or.inl rfl), hLV 3 (Or.inl rfl)⟩ (pp_blk_st hB.1 hB.2.1 (hUm 3 (by unfold qq_unf; omega)) (fun q hq => ?_)) (hnext _ (h34 3 (Or.inl rfl)) (fun q e => Or.inl (ee_un e))))
        by_cases e : q = s
        · rw [e]; exact hz
        · rw [ee_un e] at hq; exact hB.2.2 q hq
    · have z6 : st s = 6 := by unfold qq_V at hVi; omega
      have hfree := hB3.2.2 s (by unfold qq_go; omega)
      refine xw_finish (tgG := tg) (lo := i + 1) (hi := r) hu hfree ⟨pp_b3_fin hB3 hu.1 (by unfold qq_unf; omega), pp_tad_plain hTAD (by omega) (by omega) (by omega) (by omega), pp_lst_congr hW (fun q => ?_), pp_lst_pop hV (by omega) (fun q => ?_)⟩ hB (fun st' bl' nx' lm' re' rn' ct' ol' yo' os' nw' x1 x2 x3 => ?_)
      · unfold qq_W
        by_cases e : q = s
        · rw [e, ee_us]; omega
        · rw [ee_un e]
      · rw [← hs]
        unfold qq_V
        by_cases e : q = s
        · rw [e, ee_us]; omega
        · rw [ee_un e]; exact ⟨fun w => ⟨w, e⟩, fun w => w.1⟩
      · refine nm_r (nI_1 i) (ih (i + 1) n st' bl' _ nx' lm' re' rn' ct' ol' yo' os' nw' (by omega) (by omega) x1 x2 (hnext st' ?_ (fun q e => ?_)))
        · have k := x3 s
          rw [ee_us] at k
          have : st' s = 7 := by omega
          rw [this, ← hs0, z6]; rfl
        · have k := x3 q
          rw [ee_un e] at k; exact k
theorem xw_ff12 {post : Int32 → SX → Prop} (h : ∃ n, wX_finishFlush_49 post (nI rc) n 0 (nI N) (nI T) (nI B) (nI F) (nI wc) (nI 0) (nI hea) (nI lf) (nI dr) (nI ps) ck (nI sb) (ee_N st) (ee_N kd) (ee_N fi) (ee_N en) vl bo (ee_N od) rd (ee_N bl) fo (ee_O nx) (ee_N lm) (ee_N re) (ee_N rn) (ee_N ct) (ee_O ol) (ee_O yo) (ee_O os) (ee_O nw) (ee_N wf) (ee_N rf) (ee_O tg) ca (qq_cp ca me 256)) : ∀ m i n, i + m = 256 → m < n → wX_finishFlush_12 post (nI N) (nI T) (nI B) (nI F) (nI wc) (nI rc) (nI hea) (nI lf) (nI dr) (nI ps) ck (nI sb) n (nI i) (ee_N st) (ee_N kd) (ee_N fi) (ee_N en) vl bo (ee_N od) rd (ee_N bl) fo (ee_O nx) (ee_N lm) (ee_N re) (ee_N rn) (ee_N ct) (ee_O ol) (ee_O yo) (ee_O os) (ee_O nw) (ee_N wf) (ee_N rf) (ee_O tg) ca (qq_cp ca me i) := by
  intro m
  induction m with
  | zero =>
    intro i n hm hn
    obtain ⟨n, rfl⟩ : ∃ k, n = k + 1 := ⟨n - 1, by omega⟩
    have e : i = 256 := by omega
    subst e
    exact br_t (nI_le (a := 256) (Nat.le_refl _) (by omega)) h
  | succ m ih =>
    intro i n hm hn
    obtain ⟨n, rfl⟩ : ∃ k, n = k + 1 := ⟨n - 1, by omega⟩
    have hin : vp_in (nI i) 256 := vp_in_nI (by omega) (by omega)
    refine br_f (nI_ge (b := 256) (by omega) (by omega)) (And.intro hin (And.intro hin (nm_r (e' := qq_cp ca me (i + 1)) ?_ (nm_r (nI_1 i) (ih (i + 1) n (by omega) (by omega))))))
    rw [ee_r (f := ca) (by omega), ee_w (by omega)]; exact pp_cpS
theorem xw_finishFlush {post : Int32 → SX → Prop} (hX : qq_XI N T st kd fi en ln od sb nx lm re rn ct ol yo os nw tg wc wf 0 rc rf) (hB : qq_Blk qq_z st fi en od bl fo) (K3 : rc = 0 → post (-3) (nI N, nI T, nI B, nI F, nI wc, nI rc, nI hea, nI lf, nI dr, nI ps, ck, nI sb, ee_N st, ee_N kd, ee_N fi, ee_N en, vl, bo, ee_N od, rd, ee_N bl, fo, ee_O nx, ee_N lm, ee_N re, ee_N rn, ee_N ct, ee_O ol, ee_O yo, ee_O os, ee_O nw, ee_N wf, ee_N rf, ee_O tg, ca, me))
    (K : rc ≠ 0 → ∀ st' bl' fo' nx' lm' re' rn' ct' ol' yo' os' nw', qq_XI N T st' kd fi en ln od sb nx' lm' re' rn' ct' ol' yo' os' nw' tg wc wf 0 0 rf → qq_Blk qq_z st' fi en od bl' fo' → (∀ q, qq_hs (st' q) = qq_ff (st q)) →
      post (nI rc) (nI N, nI T, nI B, nI F, nI wc, nI 0, nI hea, nI lf, nI dr, nI ps, ck, nI sb, ee_N st', ee_N kd, ee_N fi, ee_N en, vl, bo, ee_N od, rd, ee_N bl', fo', ee_O nx', ee_N lm', ee_N re', ee_N rn', ee_N ct', ee_O ol', ee_O yo', ee_O os', ee_O nw', ee_N wf, ee_N rf, ee_O tg, ca, qq_cp ca me 256)) : wpX_finishFlush post (nI N, nI T, nI B, nI F, nI wc, nI rc, nI hea, nI lf, nI dr, nI ps, ck, nI sb, ee_N st, ee_N kd, ee_N fi, ee_N en, vl, bo, ee_N od, rd, ee_N bl, fo, ee_O nx, ee_N lm, ee_N re, ee_N rn, ee_N ct, ee_O ol, ee_O yo, ee_O os, ee_O nw, ee_N wf, ee_N rf, ee_O tg, ca, me) := by
  have hV16 : ∀ q, qq_V st q → q < 16 := fun q hq => (pp_b3_lt hX.1 (s := q) (by unfold qq_V at hq; omega)).1
  have r16 := pp_wc16 hX.2.2.2 (Nat.zero_le _) hV16
  refine pk_eq rc 0 K3 (fun hr => ⟨257, ?_⟩)
  have hn : ∃ n, wX_finishFlush_49 post (nI rc) n (nI 0) (nI N) (nI T) (nI B) (nI F) (nI wc) (nI 0) (nI hea) (nI lf) (nI dr) (nI ps) ck (nI sb) (ee_N st) (ee_N kd) (ee_N fi) (ee_N en) vl bo (ee_N od) rd (ee_N bl) fo (ee_O nx) (ee_N lm) (ee_N re) (ee_N rn) (ee_N ct) (ee_O ol) (ee_O yo) (ee_O os) (ee_O nw) (ee_N wf) (ee_N rf) (ee_O tg) ca (qq_cp ca me 256) := by
    refine ⟨rc + 1, xw_ff49 (st0 := st) (r := rc) (by omega) (fun st' bl' fo' nx' lm' re' rn' ct' ol' yo' os' nw' x1 x2 x3 => K hr st' bl' fo' nx' lm' re' rn' ct' ol' yo' os' nw' ⟨x1.1, x1.2.1, x1.2.2.1, ⟨fun j _ hj => by omega, fun i j _ _ hj => by omega, fun q hq => ?_⟩⟩ x2 x3) rc 0 (rc + 1) st bl fo nx lm re rn ct ol yo os nw (by omega) (by omega) hX hB (fun q => ?_)⟩
    · obtain ⟨j, j1, j2, _⟩ := x1.2.2.2.2.2 q hq
      omega
    · rcases Classical.em (qq_V st q) with z | z
      · obtain ⟨j, j1, j2, j3⟩ := hX.2.2.2.2.2 q z
        exact Or.inl ⟨j, j1, j2, j3, rfl⟩
      · refine Or.inr ?_
        unfold qq_V at z
        unfold qq_ff
        rw [if_neg (by omega), if_neg (by omega)]
  have k := xw_ff12 hn 256 0 257 (by omega) (by omega)
  rw [pp_cp0] at k; exact k
end
end
section
/-! X's submit -/
theorem cn_ext {P : Nat → Prop} {N : Nat} : ∀ {M : Nat}, N ≤ M → (∀ q, N ≤ q → ¬ P q) → cn P N = cn P M := by
  intro M
  induction M with
  | zero => intro h _; have : N = 0 := by omega
            rw [this]
  | succ M ih =>
    intro h hq
    by_cases e : N = M + 1
    · rw [e]
    · rw [ih (by omega) hq]
      show cn P M = cn P M + b01 (P M)
      rw [b01_f (hq M (by omega))]; rfl
section
variable {N T B F wc rc hea lf dr ps sb : Nat} {ck : Int32} {st kd fi en ln od bl lm re rn ct wf rf : Nat → Nat} {vl bo rd fo ca me : Nat → Int32} {nx ol yo os nw tg : Nat → Option Nat}
theorem xw_fs2 {post : Int32 → Prop} (hN : N ≤ 16) (hS : ∀ q, st q < 2 ^ 31) (K1 : ∀ s, s < N → st s = 0 → (∀ q, q < s → st q ≠ 0) → post (nI s)) (K2 : (∀ q, q < N → st q ≠ 0) → post (-1)) :
    ∀ m i n, i + m = N → m < n → (∀ q, q < i → st q ≠ 0) → wX_freeSlot_2 post (nI N) (nI T) (nI B) (nI F) (nI wc) (nI rc) (nI hea) (nI lf) (nI dr) (nI ps) ck (nI sb) (ee_N st) (ee_N kd) (ee_N fi) (ee_N en) vl bo (ee_N od) rd (ee_N bl) fo (ee_O nx) (ee_N lm) (ee_N re) (ee_N rn) (ee_N ct) (ee_O ol) (ee_O yo) (ee_O os) (ee_O nw) (ee_N wf) (ee_N rf) (ee_O tg) ca me n (nI i) := by
  intro m
  induction m with
  | zero =>
    intro i n hm hn h
    obtain ⟨n, rfl⟩ : ∃ k, n = k + 1 := ⟨n - 1, by omega⟩
    exact br_t (nI_le (by omega) (by omega)) (K2 (fun q hq => h q (by omega)))
  | succ m ih =>
    intro i n hm hn h
    obtain ⟨n, rfl⟩ : ∃ k, n = k + 1 := ⟨n - 1, by omega⟩
    refine br_f (nI_ge (by omega) (by omega)) (And.intro (vp_in_nI (by omega) (by omega)) (ee_if (ee_eN 0 (by omega) (hS i) (by omega)) (fun z => K1 i (by omega) z h) (fun z => nm_r (nI_1 i) (ih (i + 1) n (by omega) (by omega) (fun q hq => ?_)))))
    by_cases e : q = i
    · rw [e]; exact z
    · exact h q (by omega)
theorem xw_freeSlot {post : Int32 → Prop} (hN : N ≤ 16) (hS : ∀ q, st q < 2 ^ 31) (K1 : ∀ s, s < N → st s = 0 → (∀ q, q < s → st q ≠ 0) → post (nI s)) (K2 : (∀ q, q < N → st q ≠ 0) → post (-1)) : wpX_freeSlot post (nI N, nI T, nI B, nI F, nI wc, nI rc, nI hea, nI lf, nI dr, nI ps, ck, nI sb, ee_N st, ee_N kd, ee_N fi, ee_N en, vl, bo, ee_N od, rd, ee_N bl, fo, ee_O nx, ee_N lm, ee_N re, ee_N rn, ee_N ct, ee_O ol, ee_O yo, ee_O os, ee_O nw, ee_N wf, ee_N rf, ee_O tg, ca, me) :=
  ⟨N + 1, xw_fs2 hN hS K1 K2 N 0 (N + 1) (by omega) (by omega) (fun q hq => by omega)⟩
theorem xw_lb16 {post : SX → Prop} {s : Nat} {fo0 : Nat → Int32} (hs : s < 16) (hN : N ≤ 16) (hS : ∀ q, st q < 32) (hf : ∀ q, fi q ≤ 256) (he : ∀ q, en q ≤ 256)
    (K : ∀ fo', (∀ q, (q < N ∧ qq_unf (st q) ∧ qq_ov fi en q s → fo' q = fo0 q ||| ((1 : Int32) <<< (nI s &&& 31))) ∧ (¬ (q < N ∧ qq_unf (st q) ∧ qq_ov fi en q s) → fo' q = fo0 q)) → post (nI N, nI T, nI B, nI F, nI wc, nI rc, nI hea, nI lf, nI dr, nI ps, ck, nI sb, ee_N st, ee_N kd, ee_N fi, ee_N en, vl, bo, ee_N od, rd, ee_N (ee_u bl s (cn (fun q => qq_unf (st q) ∧ qq_ov fi en q s) N)), fo', ee_O nx, ee_N lm, ee_N re, ee_N rn, ee_N ct, ee_O ol, ee_O yo, ee_O os, ee_O nw, ee_N wf, ee_N rf, ee_O tg, ca, me)) :
    ∀ m i n fo', i + m = N → m < n → (∀ q, (q < i ∧ qq_unf (st q) ∧ qq_ov fi en q s → fo' q = fo0 q ||| ((1 : Int32) <<< (nI s &&& 31))) ∧ (¬ (q < i ∧ qq_unf (st q) ∧ qq_ov fi en q s) → fo' q = fo0 q)) → wX_linkBlockers_16 post (nI s) (nI N) (nI T) (nI B) (nI F) (nI wc) (nI rc) (nI hea) (nI lf) (nI dr) (nI ps) ck (nI sb) n (nI i) (ee_N st) (ee_N kd) (ee_N fi) (ee_N en) vl bo (ee_N od) rd (ee_N (ee_u bl s (cn (fun q => qq_unf (st q) ∧ qq_ov fi en q s) i))) fo' (ee_O nx) (ee_N lm) (ee_N re) (ee_N rn) (ee_N ct) (ee_O ol) (ee_O yo) (ee_O os) (ee_O nw) (ee_N wf) (ee_N rf) (ee_O tg) ca me := by
  intro m
  induction m with
  | zero =>
    intro i n fo' hm hn h
    obtain ⟨n, rfl⟩ : ∃ k, n = k + 1 := ⟨n - 1, by omega⟩
    have e : i = N := by omega
    subst e
    exact br_t (nI_le (by omega) (by omega)) (K fo' h)
  | succ m ih =>
    intro i n fo' hm hn h
    obtain ⟨n, rfl⟩ : ∃ k, n = k + 1 := ⟨n - 1, by omega⟩
    have hsin : vp_in (nI s) 16 := vp_in_nI hs (by omega)
    have hiin : vp_in (nI i) 16 := vp_in_nI (by omega) (by omega)
    have f1 := hf s
    have f2 := hf i
    have e1 := he s
    have e2 := he i
    have skip : ¬ (qq_unf (st i) ∧ qq_ov fi en i s) → wX_linkBlockers_16 post (nI s) (nI N) (nI T) (nI B) (nI F) (nI wc) (nI rc) (nI hea) (nI lf) (nI dr) (nI ps) ck (nI sb) n (nI (i + 1)) (ee_N st) (ee_N kd) (ee_N fi) (ee_N en) vl bo (ee_N od) rd (ee_N (ee_u bl s (cn (fun q => qq_unf (st q) ∧ qq_ov fi en q s) i))) fo' (ee_O nx) (ee_N lm) (ee_N re) (ee_N rn) (ee_N ct) (ee_O ol) (ee_O yo) (ee_O os) (ee_O nw) (ee_N wf) (ee_N rf) (ee_O tg) ca me := by
      intro z
      have k := ih (i + 1) n fo' (by omega) (by omega) (fun q => ⟨fun w => ?_, fun w => ?_⟩)
      · rw [show cn (fun q => qq_unf (st q) ∧ qq_ov fi en q s) (i + 1) = cn (fun q => qq_unf (st q) ∧ qq_ov fi en q s) i + b01 (qq_unf (st i) ∧ qq_ov fi en i s) from rfl, b01_f z, Nat.add_zero] at k
        exact k
      · by_cases e : q = i
        · rw [e] at w; exact absurd w.2 z
        · exact (h q).1 ⟨by omega, w.2⟩
      · exact (h q).2 (fun y => w ⟨by omega, y.2⟩)
    have J58 : ¬ qq_ov fi en i s → wX_linkBlockers_58 post (wX_linkBlockers_16 post (nI s) (nI N) (nI T) (nI B) (nI F) (nI wc) (nI rc) (nI hea) (nI lf) (nI dr) (nI ps) ck (nI sb) n) (nI s) (nI i) (nI N) (nI T) (nI B) (nI F) (nI wc) (nI rc) (nI hea) (nI lf) (nI dr) (nI ps) ck (nI sb) (ee_N st) (ee_N kd) (ee_N fi) (ee_N en) vl bo (ee_N od) rd (ee_N (ee_u bl s (cn (fun q => qq_unf (st q) ∧ qq_ov fi en q s) i))) fo' (ee_O nx) (ee_N lm) (ee_N re) (ee_N rn) (ee_N ct) (ee_O ol) (ee_O yo) (ee_O os) (ee_O nw) (ee_N wf) (ee_N rf) (ee_O tg) ca me := fun z => by
      unfold wX_linkBlockers_58 wX_linkBlockers_59
      exact br_t rfl (nm_r (nI_1 i) (skip (fun y => z y.2)))
    refine br_f (nI_ge (by omega) (by omega)) (And.intro hiin (And.intro hsin (ee_if (d := en s ≤ fi i) (by rw [ee_rN (by omega), ee_rN (by omega), nI_leI (by omega) (by omega)]) (fun z => J58 (fun y => by unfold qq_ov at y; omega)) (fun z1 => And.intro hsin (And.intro hiin (ee_if (d := en i ≤ fi s) (by rw [ee_rN (by omega), ee_rN (by omega), nI_leI (by omega) (by omega)]) (fun z => J58 (fun y => by unfold qq_ov at y; omega)) (fun z2 => ?_)))))))
    have hov : qq_ov fi en i s := by unfold qq_ov; omega
    unfold wX_linkBlockers_59
    refine br_f (by decide) (xw_unfinished (by omega) (hS i) (fun hu => br_f (by decide) (And.intro hiin (And.intro hiin (nm_r (e' := ee_u fo' i (fo' i ||| ((1 : Int32) <<< (nI s &&& 31)))) ?_ (And.intro hsin (And.intro hsin (nm_r (e' := ee_N (ee_u bl s (cn (fun q => qq_unf (st q) ∧ qq_ov fi en q s) (i + 1)))) ?_ (nm_r (nI_1 i) (ih (i + 1) n _ (by omega) (by omega) (fun q => ?_)))))))))) (fun hu => br_t rfl (nm_r (nI_1 i) (skip (fun y => hu y.1)))))
    · rw [ee_r (f := fo') (by omega), ee_w (by omega)]
    · rw [ee_rN (by omega), ee_us, nI_1, ee_wN (by omega), ee_uu, show cn (fun q => qq_unf (st q) ∧ qq_ov fi en q s) (i + 1) = cn (fun q => qq_unf (st q) ∧ qq_ov fi en q s) i + b01 (qq_unf (st i) ∧ qq_ov fi en i s) from rfl, b01_t ⟨hu, hov⟩]
    · by_cases e : q = i
      · rw [e, ee_us]
        refine ⟨fun _ => ?_, fun w => absurd ⟨by omega, hu, hov⟩ w⟩
        rw [(h i).2 (fun y => by omega)]
      · rw [ee_un e]
        exact ⟨fun w => (h q).1 ⟨by omega, w.2⟩, fun w => (h q).2 (fun y => w ⟨by omega, y.2⟩)⟩
theorem xw_linkBlockers {post : SX → Prop} {s : Nat} (hs : s < 16) (hN : N ≤ 16) (hS : ∀ q, st q < 32) (hf : ∀ q, fi q ≤ 256) (he : ∀ q, en q ≤ 256)
    (K : ∀ fo', (∀ q, (q < N ∧ qq_unf (st q) ∧ qq_ov fi en q s → fo' q = ee_u fo s 0 q ||| ((1 : Int32) <<< (nI s &&& 31))) ∧ (¬ (q < N ∧ qq_unf (st q) ∧ qq_ov fi en q s) → fo' q = ee_u fo s 0 q)) → post (nI N, nI T, nI B, nI F, nI wc, nI rc, nI hea, nI lf, nI dr, nI ps, ck, nI sb, ee_N st, ee_N kd, ee_N fi, ee_N en, vl, bo, ee_N od, rd, ee_N (ee_u bl s (cn (fun q => qq_unf (st q) ∧ qq_ov fi en q s) N)), fo', ee_O nx, ee_N lm, ee_N re, ee_N rn, ee_N ct, ee_O ol, ee_O yo, ee_O os, ee_O nw, ee_N wf, ee_N rf, ee_O tg, ca, me)) : wpX_linkBlockers post (nI N, nI T, nI B, nI F, nI wc, nI rc, nI hea, nI lf, nI dr, nI ps, ck, nI sb, ee_N st, ee_N kd, ee_N fi, ee_N en, vl, bo, ee_N od, rd, ee_N bl, fo, ee_O nx, ee_N lm, ee_N re, ee_N rn, ee_N ct, ee_O ol, ee_O yo, ee_O os, ee_O nw, ee_N wf, ee_N rf, ee_O tg, ca, me) (nI s) := by
  have hsin : vp_in (nI s) 16 := vp_in_nI hs (by omega)
  refine And.intro hsin (nm_r (ee_wN (v := 0) (by omega)) (And.intro hsin (nm_r (ee_w (by omega)) ⟨N + 1, ?_⟩)))
  exact xw_lb16 hs hN hS hf he K N 0 (N + 1) _ (by omega) (by omega) (fun q => ⟨fun w => by omega, fun _ => rfl⟩)
theorem pp_new_tad {s k a b o : Nat} (h : qq_TAD st kd fi en od nx lm re rn ct ol yo os nw tg) (h0 : st s = 0) : qq_TAD st (ee_u kd s k) (ee_u fi s a) (ee_u en s b) (ee_u od s o) nx lm re rn ct ol yo os nw tg := by
  obtain ⟨x, y, z⟩ := h
  have ne : ∀ q, st q = 4 → q ≠ s := fun q hq e => by rw [e] at hq; omega
  have ne2 : ∀ q, 16 ≤ st q → q ≠ s := fun q hq e => by rw [e] at hq; omega
  have hR : ∀ d q, (st q = 4 ∧ qq_dir (ee_u kd s k q) = d) ↔ (st q = 4 ∧ qq_dir (kd q) = d) := fun d q => ⟨fun w => by have e := ee_un (f := kd) (v := k) (ne q w.1); rw [e] at w; exact w, fun w => by rw [ee_un (ne q w.1)]; exact w⟩
  refine ⟨fun d hd => pp_tab_congr (x d hd) (hR d) (fun q h1 _ => ?_) (fun _ _ => rfl), fun d hd => pp_age_congr (y d hd) (hR d) (fun q hq => ee_un (ne q hq.1)) (fun _ _ => ⟨rfl, rfl⟩), pp_dev_congr z (fun _ _ => rfl) (fun q hq => ?_)⟩
  · have e := ne q h1
    exact ⟨ee_un e, ee_un e, rfl, rfl, rfl, by rw [ee_un e]⟩
  · have e := ne2 q hq
    exact ⟨rfl, ee_un e, ee_un e, ee_un e⟩
theorem pp_new_b3 {s k a b m : Nat} (h : qq_B3 N T st kd fi en ln od sb) (h0 : st s = 0) (hs : s < N) (hsb : sb + 1 < 4096) (hk : k ≤ 5) (hb : b ≤ 8) (hab : a + b ≤ 256) (hm : qq_unf m) (hm8 : m ≤ 8) (ha : qq_act m → 1 ≤ b) (hg : qq_go m → ∀ q, q ≠ s → qq_unf (st q) → ¬ qq_ov (ee_u fi s a) (ee_u en s (a + b)) q s) :
    qq_B3 N T (ee_u st s m) (ee_u kd s k) (ee_u fi s a) (ee_u en s (a + b)) (ee_u ln s b) (ee_u od s sb) (sb + 1) := by
  obtain ⟨⟨a1, a2, a3⟩, ⟨b0, b1, b2, b3⟩, c⟩ := h
  have U : ∀ q, qq_unf (ee_u st s m q) → q = s ∨ (q ≠ s ∧ qq_unf (st q)) := by
    intro q hq
    by_cases e : q = s
    · exact Or.inl e
    · rw [ee_un e] at hq; exact Or.inr ⟨e, hq⟩
  have V : ∀ q, qq_unf (ee_u st s m q) → (q = s ∧ ee_u od s sb q = sb) ∨ (q ≠ s ∧ qq_unf (st q) ∧ ee_u od s sb q = od q ∧ od q < sb) := by
    intro q hq
    rcases U q hq with e | ⟨e, w⟩
    · exact Or.inl ⟨e, by rw [e, ee_us]⟩
    · exact Or.inr ⟨e, w, ee_un e, b2 q w⟩
  refine ⟨⟨a1, a2, fun q => ?_⟩, ⟨hsb, fun q => ?_, fun q hq => ?_, fun q r hq hr e => ?_⟩, fun q hq r hr ho => ?_⟩
  · by_cases e : q = s
    · subst e
      rw [ee_us, ee_us, ee_us, ee_us, ee_us]
      exact ⟨Or.inl hm8, fun z => by omega, rfl, hb, hab, hk, ha⟩
    · rw [ee_un e, ee_un e, ee_un e, ee_un e, ee_un e]; exact a3 q
  · by_cases e : q = s
    · rw [e, ee_us]; omega
    · rw [ee_un e]; have := b1 q; omega
  · have := V q hq; omega
  · rcases V q hq with ⟨q1, q2⟩ | ⟨q1, q2, q3, q4⟩ <;> rcases V r hr with ⟨r1, r2⟩ | ⟨r1, r2, r3, r4⟩
    · rw [q1, r1]
    · omega
    · omega
    · exact b3 q r q2 r2 (by omega)
  · rcases V r hr with ⟨r1, r2⟩ | ⟨r1, r2, r3, r4⟩
    · rcases V q (pp_go_unf hq) with ⟨q1, q2⟩ | ⟨q1, q2, q3, q4⟩ <;> omega
    · by_cases e : q = s
      · subst e
        rw [ee_us] at hq
        exact hg hq r r1 r2
      · rw [ee_un e] at hq ho
        have k := c q hq r r2 (by omega)
        unfold qq_ov at k ⊢
        rw [ee_un e, ee_un e, ee_un r1, ee_un r1]; exact k
theorem pp_new_blk {s a b m : Nat} {fo' : Nat → Int32} (hB3 : qq_B3 N T st kd fi en ln od sb) (h : qq_Blk qq_z st fi en od bl fo) (h0 : st s = 0) (hs : s < N) (hm : qq_unf m)
    (hfo : ∀ q, (q < N ∧ qq_unf (st q) ∧ qq_ov (ee_u fi s a) (ee_u en s b) q s → fo' q = ee_u fo s 0 q ||| ((1 : Int32) <<< (nI s &&& 31))) ∧ (¬ (q < N ∧ qq_unf (st q) ∧ qq_ov (ee_u fi s a) (ee_u en s b) q s) → fo' q = ee_u fo s 0 q))
    (h3 : m = 3 → cn (fun q => qq_unf (st q) ∧ qq_ov (ee_u fi s a) (ee_u en s b) q s) N ≠ 0) :
    qq_Blk qq_z (ee_u st s m) (ee_u fi s a) (ee_u en s b) (ee_u od s sb) (ee_u bl s (cn (fun q => qq_unf (st q) ∧ qq_ov (ee_u fi s a) (ee_u en s b) q s) N)) fo' := by
  obtain ⟨x, y, z⟩ := h
  have hN := hB3.1.1
  have b2 := hB3.2.1.2.2.1
  have u0 : ¬ qq_unf (st s) := by rw [h0]; unfold qq_unf; omega
  have N0 : ∀ q, qq_unf (st q) → q < N ∧ q ≠ s := fun q hq => ⟨(pp_b3_lt hB3 hq.1).2, fun e => u0 (by rw [← e]; exact hq)⟩
  have V : ∀ q, qq_unf (ee_u st s m q) → q ≠ s → qq_unf (st q) ∧ od q < sb := by
    intro q hq e
    rw [ee_un e] at hq; exact ⟨hq, b2 q hq⟩
  refine ⟨fun q hq => ?_, fun q hq r hr => ?_, fun q hq => ?_⟩
  · by_cases e : q = s
    · subst e
      rw [ee_us, ee_us, cn_ext hN (fun r hr w => by have := (N0 r w.1).1; omega)]
      rw [show qq_z q = 0 from rfl, Nat.add_zero]
      refine cn_eq (fun r _ => ?_)
      constructor
      · intro w
        have e := (N0 r w.1).2
        rw [ee_un e, ee_un e]
        exact ⟨w.1, b2 r w.1, w.2⟩
      · intro w
        have e : r ≠ q := fun e => by
          have k := w.2.1
          rw [e, ee_us] at k; omega
        exact ⟨(V r w.1 e).1, w.2.2⟩
    · obtain ⟨hq', ho⟩ := V q hq e
      rw [ee_un e, x q hq', ee_un e]
      refine congrArg (· + qq_z q) (cn_eq (fun r _ => ?_))
      constructor
      · intro w
        have e2 := (N0 r w.1).2
        rw [ee_un e2, ee_un e2]
        refine ⟨w.1, w.2.1, ?_⟩
        have k := w.2.2
        unfold qq_ov at k ⊢
        rw [ee_un e, ee_un e, ee_un e2, ee_un e2]; exact k
      · intro w
        have e2 : r ≠ s := fun z => by
          have k := w.2.1
          rw [z, ee_us] at k; omega
        have k := w.2.2
        unfold qq_ov at k
        rw [ee_un e, ee_un e, ee_un e2, ee_un e2] at k
        refine ⟨(V r w.1 e2).1, ?_, k⟩
        have := w.2.1
        rw [ee_un e2] at this; exact this
  · by_cases e : q = s
    · subst e
      rw [(hfo q).2 (fun w => u0 w.2.1), ee_us, ee_us, b_0]
      refine ⟨fun w => (nomatch w), fun w => ?_⟩
      by_cases e2 : r = q
      · have k := w.2.1
        rw [e2, ee_us] at k; omega
      · have k := V r w.1 e2
        have k2 := w.2.1
        rw [ee_un e2] at k2; omega
    · obtain ⟨hq', ho⟩ := V q hq e
      have hqN := (N0 q hq').1
      rw [ee_un e]
      by_cases e2 : r = s
      · subst e2
        rw [ee_us, ee_us]
        rcases Classical.em (qq_ov (ee_u fi r a) (ee_u en r b) q r) with w | w
        · rw [(hfo q).1 ⟨hqN, hq', w⟩, ee_bor _ (by omega) (by omega)]
          exact ⟨fun _ => ⟨hm, ho, w⟩, fun _ => Or.inr rfl⟩
        · rw [(hfo q).2 (fun y => w y.2.2), ee_un e, y q hq' r hr]
          exact ⟨fun k => absurd k.1 u0, fun k => absurd k.2.2 w⟩
      · rw [ee_un e2, ee_un e2]
        have eov : qq_ov (ee_u fi s a) (ee_u en s b) q r ↔ qq_ov fi en q r := by
          unfold qq_ov
          rw [ee_un e, ee_un e, ee_un e2, ee_un e2]
        rw [eov, ← y q hq' r hr]
        rcases Classical.em (qq_ov (ee_u fi s a) (ee_u en s b) q s) with w | w
        · rw [(hfo q).1 ⟨hqN, hq', w⟩, ee_bor _ (by omega) (by omega), ee_un e]
          exact ⟨fun k => k.resolve_right e2, Or.inl⟩
        · rw [(hfo q).2 (fun y => w y.2.2), ee_un e]
  · by_cases e : q = s
    · rw [e, ee_us] at hq
      rw [e, ee_us]; exact h3 hq
    · rw [ee_un e] at hq ⊢; exact z q hq
/-- the state of a new request, as the reference keeps it -/
def qq_new (k : Nat) : Nat := if k = 5 then 5 else if k = 2 ∨ k = 4 then 1 else 3
theorem xw_submit84 {post : Int32 → SX → Prop} {s k a b : Nat} {x4 : Int32} (hX : qq_XI N T st kd fi en ln od sb nx lm re rn ct ol yo os nw tg wc wf 0 rc rf) (hB : qq_Blk qq_z st fi en od bl fo) (h0 : st s = 0) (hs : s < N) (hsb : sb + 1 < 4096) (hk : k ≤ 5) (hb : b ≤ 8) (hab : a + b ≤ 256) (hb1 : k ≠ 5 → 1 ≤ b) (hb5 : k = 5 → a = 0 ∧ b = 0)
    (K : ∀ m bl' fo' nx' lm' re' rn' ct' ol' yo' os' nw' wc' wf', qq_hs m = qq_new k → qq_XI N T (ee_u st s m) (ee_u kd s k) (ee_u fi s a) (ee_u en s (a + b)) (ee_u ln s b) (ee_u od s sb) (sb + 1) nx' lm' re' rn' ct' ol' yo' os' nw' tg wc' wf' 0 rc rf → qq_Blk qq_z (ee_u st s m) (ee_u fi s a) (ee_u en s (a + b)) (ee_u od s sb) bl' fo' →
      post (nI s) (nI N, nI T, nI B, nI F, nI wc', nI rc, nI hea, nI lf, nI dr, nI ps, ck, nI (sb + 1), ee_N (ee_u st s m), ee_N (ee_u kd s k), ee_N (ee_u fi s a), ee_N (ee_u en s (a + b)), ee_u vl s x4, ee_u bo s ck, ee_N (ee_u od s sb), rd, ee_N bl', fo', ee_O nx', ee_N lm', ee_N re', ee_N rn', ee_N ct', ee_O ol', ee_O yo', ee_O os', ee_O nw', ee_N wf', ee_N rf, ee_O tg, ca, me)) :
    wX_submit_84 post x4 (nI s) (nI (a + b)) (nI s) (nI N) (nI T) (nI B) (nI F) (nI wc) (nI rc) (nI hea) (nI lf) (nI dr) (nI ps) ck (nI sb) (ee_N st) (ee_N (ee_u kd s k)) (ee_N (ee_u fi s a)) (ee_N en) vl bo (ee_N od) rd (ee_N bl) fo (ee_O nx) (ee_N lm) (ee_N re) (ee_N rn) (ee_N ct) (ee_O ol) (ee_O yo) (ee_O os) (ee_O nw) (ee_N wf) (ee_N rf) (ee_O tg) ca me := by
  obtain ⟨hB3, hTAD, hW, hV⟩ := hX
  have hN := hB3.1.1
  have hT4 := hB3.1.2.1
  have hs16 : s < 16 := by omega
  have hin : vp_in (nI s) 16 := vp_in_nI hs16 (by omega)
  have hst : ∀ q, st q < 32 := fun q => by have := (hB3.1.2.2 q).1; omega
  have hfe : ∀ q, ee_u fi s a q ≤ 256 ∧ ee_u en s (a + b) q ≤ 256 := by
    intro q
    by_cases e : q = s
    · rw [e, ee_us, ee_us]; omega
    · rw [ee_un e, ee_un e]
      have := hB3.1.2.2 q; omega
  have hodlt : ∀ q, ee_u od s sb q < 100000 := by
    intro q
    by_cases e : q = s
    · rw [e, ee_us]; omega
    · rw [ee_un e]; have := hB3.2.1.2.1 q; have := hB3.2.1.1; omega
  have hkd : ∀ q, ee_u kd s k q ≤ 5 := by
    intro q
    by_cases e : q = s
    · rw [e, ee_us]; omega
    · rw [ee_un e]; exact (hB3.1.2.2 q).2.2.2.2.2.1
  have u0 : ¬ qq_unf (st s) := by rw [h0]; unfold qq_unf; omega
  have hWs : ¬ qq_W st s := by unfold qq_W; omega
  have hW16 : ∀ q, qq_W st q → q < 16 := fun q hq => (pp_b3_lt hB3 (s := q) (by unfold qq_W at hq; omega)).1
  have hr := pp_lst_room hW (Nat.zero_le _) hW16 hWs hs16
  have hTAD' := pp_new_tad (s := s) (k := k) (a := a) (b := a + b) (o := sb) hTAD h0
  have hVm : ∀ m, m ≠ 2 → m ≠ 6 → qq_Lst 0 rc rf (qq_V (ee_u st s m)) := by
    intro m m2 m6
    refine pp_lst_congr hV (fun q => ?_)
    unfold qq_V
    by_cases e : q = s
    · rw [e, ee_us]; omega
    · rw [ee_un e]
  refine And.intro hin (nm_r (ee_wN (by omega)) (And.intro hin (nm_r (ee_w (by omega)) (And.intro hin (nm_r (ee_w (by omega)) (And.intro hin (nm_r (ee_wN (by omega)) (nm_r (nI_1 sb) ?_))))))))
  refine xw_linkBlockers hs16 hN hst (fun q => (hfe q).1) (fun q => (hfe q).2) (fun fo' hfo => ?_)
  have hblk : ∀ m, qq_unf m → (m = 3 → cn (fun q => qq_unf (st q) ∧ qq_ov (ee_u fi s a) (ee_u en s (a + b)) q s) N ≠ 0) → _ := fun m hm h3 => pp_new_blk (m := m) hB3 hB h0 hs hm hfo h3
  have hnf : ∀ m, m = 1 ∨ m = 5 → qq_hs m = qq_new k → (m = 1 → k ≠ 5) → (m = 5 → k = 5) → post (nI s) (nI N, nI T, nI B, nI F, nI (wc + 1), nI rc, nI hea, nI lf, nI dr, nI ps, ck, nI (sb + 1), ee_N (ee_u st s m), ee_N (ee_u kd s k), ee_N (ee_u fi s a), ee_N (ee_u en s (a + b)), ee_u vl s x4, ee_u bo s ck, ee_N (ee_u od s sb), rd, ee_N (ee_u bl s (cn (fun q => qq_unf (st q) ∧ qq_ov (ee_u fi s a) (ee_u en s (a + b)) q s) N)), fo', ee_O nx, ee_N lm, ee_N re, ee_N rn, ee_N ct, ee_O ol, ee_O yo, ee_O os, ee_O nw, ee_N (ee_u wf wc s), ee_N rf, ee_O tg, ca, me) := by
    intro m hm hnew h1 h5
    refine K m _ fo' nx lm re rn ct ol yo os nw (wc + 1) (ee_u wf wc s) hnew ⟨pp_new_b3 hB3 h0 hs hsb hk hb hab (by unfold qq_unf; omega) (by omega) (fun w => by unfold qq_act at w; exact hb1 (h1 (by omega))) (fun w q hq _ => ?_), pp_tad_plain hTAD' (by omega) (by omega) (by omega) (by omega), pp_lst_push hW (Nat.zero_le _) hWs (fun q => ?_), hVm m (by omega) (by omega)⟩ (hblk m (by unfold qq_unf; omega) (fun w => by omega))
    · have := hb5 (h5 (by unfold qq_go at w; omega))
      unfold qq_ov
      rw [ee_us, ee_us]; omega
    · unfold qq_W
      by_cases e : q = s
      · rw [e, ee_us]; omega
      · rw [ee_un e]; omega
  refine And.intro hin (nm_r (e' := nI k) (by rw [ee_rN (by omega), ee_us]) (pk_eq k 5 (fun z => ?_) (fun z5 => pk_eq k 2 (fun z => ?_) (fun z2 => pk_eq k 4 (fun z => ?_) (fun z4 => ?_)))))
  · exact xw_needFlush (m := 5) hs16 (by omega) (hnf 5 (Or.inr rfl) (by rw [z]; rfl) (fun w => by omega) (fun _ => z))
  · unfold wX_enter_31
    exact xw_needFlush (m := 1) hs16 (by omega) (hnf 1 (Or.inl rfl) (by rw [z]; rfl) (fun _ => z5) (fun w => by omega))
  · unfold wX_enter_31
    exact xw_needFlush (m := 1) hs16 (by omega) (hnf 1 (Or.inl rfl) (by rw [z]; rfl) (fun _ => z5) (fun w => by omega))
  · have hnew : qq_new k = 3 := by unfold qq_new; rw [if_neg z5, if_neg (by omega)]
    have hcn := cn_le (fun q => qq_unf (st q) ∧ qq_ov (ee_u fi s a) (ee_u en s (a + b)) q s) N
    have hus : ee_u bl s (cn (fun q => qq_unf (st q) ∧ qq_ov (ee_u fi s a) (ee_u en s (a + b)) q s) N) s = cn (fun q => qq_unf (st q) ∧ qq_ov (ee_u fi s a) (ee_u en s (a + b)) q s) N := ee_us
    have hLW : ∀ m, m = 3 ∨ m = 4 → qq_Lst 0 wc wf (qq_W (ee_u st s m)) := by
      intro m hm
      refine pp_lst_congr hW (fun q => ?_)
      unfold qq_W
      by_cases e : q = s
      · rw [e, ee_us]; omega
      · rw [ee_un e]
    have hB34 : cn (fun q => qq_unf (st q) ∧ qq_ov (ee_u fi s a) (ee_u en s (a + b)) q s) N = 0 → qq_B3 N T (ee_u st s 4) (ee_u kd s k) (ee_u fi s a) (ee_u en s (a + b)) (ee_u ln s b) (ee_u od s sb) (sb + 1) := fun hz => pp_new_b3 hB3 h0 hs hsb hk hb hab (by unfold qq_unf; omega) (by omega) (fun _ => hb1 z5) (fun _ q hq hu hv => cn_zero hz (pp_b3_lt hB3 hu.1).2 ⟨hu, hv⟩)
    refine xw_await (tgG := tg) hs16 (by omega) (by omega) (by rw [hus]; omega) hTAD' (fun hz => pp_dj (hB34 (by rw [hus] at hz; exact hz))) hkd (fun hz q r hq hr => (hB34 (by rw [hus] at hz; exact hz)).2.1.2.2.2 q r (by rw [hq]; unfold qq_unf; omega) (by rw [hr]; unfold qq_unf; omega)) hodlt (fun hz nx' lm' re' rn' ct' ol' yo' os' nw' hT => ?_) (fun hz => ?_)
    · rw [hus] at hz
      exact K 4 _ fo' nx' lm' re' rn' ct' ol' yo' os' nw' wc wf (by rw [hnew]; rfl) ⟨hB34 hz, hT, hLW 4 (Or.inr rfl), hVm 4 (by omega) (by omega)⟩ (hblk 4 (by unfold qq_unf; omega) (fun w => by omega))
    · rw [hus] at hz
      exact K 3 _ fo' nx lm re rn ct ol yo os nw wc wf (by rw [hnew]; rfl) ⟨pp_new_b3 hB3 h0 hs hsb hk hb hab (by unfold qq_unf; omega) (by omega) (fun _ => hb1 z5) (fun w => by unfold qq_go at w; omega), pp_tad_plain hTAD' (by omega) (by omega) (by omega) (by omega), hLW 3 (Or.inl rfl), hVm 3 (by omega) (by omega)⟩ (hblk 3 (by unfold qq_unf; omega) (fun _ => hz))
theorem xw_submit27 {post : Int32 → SX → Prop} {k a b : Nat} {x2 x3 x4 : Int32} (hX : qq_XI N T st kd fi en ln od sb nx lm re rn ct ol yo os nw tg wc wf 0 rc rf) (hB : qq_Blk qq_z st fi en od bl fo) (hsb : sb + 1 < 4096) (hk : k ≤ 5) (hb : b ≤ 8) (hab : a + b ≤ 256) (hb1 : k ≠ 5 → 1 ≤ b) (hb5 : k = 5 → a = 0 ∧ b = 0) (h2 : k ≠ 5 → x2 = nI a) (h3 : k ≠ 5 → x3 = nI b)
    (K2 : (∀ q, q < N → st q ≠ 0) → post (-2) (nI N, nI T, nI B, nI F, nI wc, nI rc, nI hea, nI lf, nI dr, nI ps, ck, nI sb, ee_N st, ee_N kd, ee_N fi, ee_N en, vl, bo, ee_N od, rd, ee_N bl, fo, ee_O nx, ee_N lm, ee_N re, ee_N rn, ee_N ct, ee_O ol, ee_O yo, ee_O os, ee_O nw, ee_N wf, ee_N rf, ee_O tg, ca, me))
    (K : ∀ s, s < N → st s = 0 → (∀ q, q < s → st q ≠ 0) → ∀ m bl' fo' nx' lm' re' rn' ct' ol' yo' os' nw' wc' wf', qq_hs m = qq_new k → qq_XI N T (ee_u st s m) (ee_u kd s k) (ee_u fi s a) (ee_u en s (a + b)) (ee_u ln s b) (ee_u od s sb) (sb + 1) nx' lm' re' rn' ct' ol' yo' os' nw' tg wc' wf' 0 rc rf → qq_Blk qq_z (ee_u st s m) (ee_u fi s a) (ee_u en s (a + b)) (ee_u od s sb) bl' fo' →
      post (nI s) (nI N, nI T, nI B, nI F, nI wc', nI rc, nI hea, nI lf, nI dr, nI ps, ck, nI (sb + 1), ee_N (ee_u st s m), ee_N (ee_u kd s k), ee_N (ee_u fi s a), ee_N (ee_u en s (a + b)), ee_u vl s x4, ee_u bo s ck, ee_N (ee_u od s sb), rd, ee_N bl', fo', ee_O nx', ee_N lm', ee_N re', ee_N rn', ee_N ct', ee_O ol', ee_O yo', ee_O os', ee_O nw', ee_N wf', ee_N rf, ee_O tg, ca, me)) :
    wX_submit_27 post (nI k) x2 x3 x4 (nI N) (nI T) (nI B) (nI F) (nI wc) (nI rc) (nI hea) (nI lf) (nI dr) (nI ps) ck (nI sb) (ee_N st) (ee_N kd) (ee_N fi) (ee_N en) vl bo (ee_N od) rd (ee_N bl) fo (ee_O nx) (ee_N lm) (ee_N re) (ee_N rn) (ee_N ct) (ee_O ol) (ee_O yo) (ee_O os) (ee_O nw) (ee_N wf) (ee_N rf) (ee_O tg) ca me := by
  have hN := hX.1.1.1
  have hT4 := hX.1.1.2.1
  unfold wX_submit_27
  refine xw_freeSlot hN (fun q => by have := (hX.1.1.2.2 q).1; omega) (fun s hs h0 hq => ?_) (fun hq => br_f (by decide) (K2 hq))
  have hs16 : s < 16 := by omega
  have hin : vp_in (nI s) 16 := vp_in_nI hs16 (by omega)
  have key := xw_submit84 (post := post) (x4 := x4) hX hB h0 hs hsb hk hb hab hb1 hb5 (K s hs h0 hq)
  refine br_t (nI_pos' (by omega)) (And.intro hin (nm_r (ee_wN (by omega)) (pk_eq k 5 (fun z => ?_) (fun z => ?_))))
  · obtain ⟨ra, rb⟩ := hb5 z
    subst ra rb
    unfold wX_submit_65
    exact And.intro hin (nm_r (ee_wN (v := 0) (by omega)) (br_t (by rw [z]; rfl) key))
  · rw [h2 z, h3 z]
    unfold wX_submit_65
    refine And.intro hin (nm_r (ee_wN (by omega)) (pk_eq k 5 (fun w => absurd w z) (fun _ => ?_)))
    rw [nI_add]; exact key
end
end
section
/-! X's dispatch -/
def qq_M (st kd fi en : Nat → Nat) (d L e q : Nat) : Prop := st q = 4 ∧ qq_dir (kd q) = d ∧ fi L ≤ fi q ∧ en q ≤ e
theorem pp_next_in {E : Nat → Prop} {d c : Nat} {st kd fi en lm re l : Nat → Nat} {nx : Nat → Option Nat} (h : qq_Tab E d st kd fi en nx lm re l c) (hD : qq_Dj st fi en) {p s : Nat} (hp : p < c) (hs : qq_M st kd fi en d (l p) (re (l p)) s) :
    (en s = re (l p) ∧ nx s = none) ∨ (en s < re (l p) ∧ ∃ q, nx s = some q ∧ qq_M st kd fi en d (l p) (re (l p)) q ∧ fi q = en s) := by
  have hT := h
  obtain ⟨h1, h2, h3, h4, h5, h6⟩ := h
  obtain ⟨s1, s2, s3, s4⟩ := hs
  have sz := (hD.1 s s1).2.1
  obtain ⟨i, hi, k1, k2, k3, k4⟩ := h4 s s1 s2
  have e := pp_run_uniq hT hi hp k1 sz k2 s3 s4
  subst e
  rcases k4 with k | ⟨k, q, q1, q2, q3, q4⟩
  · exact Or.inl k
  · refine Or.inr ⟨k, q, q1, ⟨q2, q3, by omega, ?_⟩, q4⟩
    obtain ⟨j, hj, j1, j2, _⟩ := h4 q q2 q3
    have qz := (hD.1 q q2).2.1
    have : j = i := by
      rcases Nat.lt_trichotomy j i with w | w | w
      · have := h3 j i w hi; omega
      · exact w
      · have := h3 i j w hj; omega
    rw [← this]; exact j2
section
variable {N T B F wc rc hea lf dr ps sb : Nat} {ck : Int32} {st kd fi en ln od bl lm re rn ct wf rf : Nat → Nat} {vl bo rd fo ca me : Nat → Int32} {nx ol yo os nw tg : Nat → Option Nat}
theorem xw_it2 {post : Int32 → Prop} (hT : T ≤ 4) (hg : ∀ t s, t < 4 → tg t = some s → s < 16) (K1 : ∀ t, t < T → tg t = none → (∀ u, u < t → tg u ≠ none) → post (nI t)) (K2 : (∀ t, t < T → tg t ≠ none) → post (-1)) :
    ∀ m i n, i + m = T → m < n → (∀ u, u < i → tg u ≠ none) → wX_idleTag_2 post (nI N) (nI T) (nI B) (nI F) (nI wc) (nI rc) (nI hea) (nI lf) (nI dr) (nI ps) ck (nI sb) (ee_N st) (ee_N kd) (ee_N fi) (ee_N en) vl bo (ee_N od) rd (ee_N bl) fo (ee_O nx) (ee_N lm) (ee_N re) (ee_N rn) (ee_N ct) (ee_O ol) (ee_O yo) (ee_O os) (ee_O nw) (ee_N wf) (ee_N rf) (ee_O tg) ca me n (nI i) := by
  intro m
  induction m with
  | zero =>
    intro i n hm hn h
    obtain ⟨n, rfl⟩ : ∃ k, n = k + 1 := ⟨n - 1, by omega⟩
    exact br_t (nI_le (by omega) (by omega)) (K2 (fun q hq => h q (by omega)))
  | succ m ih =>
    intro i n hm hn h
    obtain ⟨n, rfl⟩ : ∃ k, n = k + 1 := ⟨n - 1, by omega⟩
    refine br_f (nI_ge (by omega) (by omega)) (And.intro (vp_in_nI (by omega) (by omega)) ?_)
    rw [ee_rO (by omega)]
    rcases ht : tg i with _ | s
    · exact br_f ee_o0 (K1 i (by omega) ht h)
    · have := hg i s (by omega) ht
      refine br_t (ee_s0 (by omega)) (nm_r (nI_1 i) (ih (i + 1) n (by omega) (by omega) (fun q hq => ?_)))
      by_cases e : q = i
      · rw [e, ht]; exact fun z => (nomatch z)
      · exact h q (by omega)
theorem xw_idleTag {post : Int32 → Prop} (hT : T ≤ 4) (hg : ∀ t s, t < 4 → tg t = some s → s < 16) (K1 : ∀ t, t < T → tg t = none → (∀ u, u < t → tg u ≠ none) → post (nI t)) (K2 : (∀ t, t < T → tg t ≠ none) → post (-1)) : wpX_idleTag post (nI N, nI T, nI B, nI F, nI wc, nI rc, nI hea, nI lf, nI dr, nI ps, ck, nI sb, ee_N st, ee_N kd, ee_N fi, ee_N en, vl, bo, ee_N od, rd, ee_N bl, fo, ee_O nx, ee_N lm, ee_N re, ee_N rn, ee_N ct, ee_O ol, ee_O yo, ee_O os, ee_O nw, ee_N wf, ee_N rf, ee_O tg, ca, me) :=
  ⟨T + 1, xw_it2 hT hg K1 K2 T 0 (T + 1) (by omega) (by omega) (fun q hq => by omega)⟩
theorem xw_beginBatch {post : SX → Prop} (h0 : ct 0 ≤ 16) (h1 : ct 1 ≤ 16) (hp : ps ≤ 2) (K0 : (ct 0 ≠ 0 ∧ (ct 1 = 0 ∨ ps < 2)) → post (nI N, nI T, nI B, nI F, nI wc, nI rc, nI hea, nI B, nI 0, nI (ps + (if ct 1 = 0 then 0 else 1)), ck, nI sb, ee_N st, ee_N kd, ee_N fi, ee_N en, vl, bo, ee_N od, rd, ee_N bl, fo, ee_O nx, ee_N lm, ee_N re, ee_N rn, ee_N ct, ee_O ol, ee_O yo, ee_O os, ee_O nw, ee_N wf, ee_N rf, ee_O tg, ca, me)) (K1 : ¬ (ct 0 ≠ 0 ∧ (ct 1 = 0 ∨ ps < 2)) → post (nI N, nI T, nI B, nI F, nI wc, nI rc, nI hea, nI B, nI 1, nI 0, ck, nI sb, ee_N st, ee_N kd, ee_N fi, ee_N en, vl, bo, ee_N od, rd, ee_N bl, fo, ee_O nx, ee_N lm, ee_N re, ee_N rn, ee_N ct, ee_O ol, ee_O yo, ee_O os, ee_O nw, ee_N wf, ee_N rf, ee_O tg, ca, me)) : wpX_beginBatch post (nI N, nI T, nI B, nI F, nI wc, nI rc, nI hea, nI lf, nI dr, nI ps, ck, nI sb, ee_N st, ee_N kd, ee_N fi, ee_N en, vl, bo, ee_N od, rd, ee_N bl, fo, ee_O nx, ee_N lm, ee_N re, ee_N rn, ee_N ct, ee_O ol, ee_O yo, ee_O os, ee_O nw, ee_N wf, ee_N rf, ee_O tg, ca, me) := by
  refine pk_le (ct 1) 0 (fun z1 => ?_) (fun z1 => ?_)
  · unfold wX_beginBatch_14
    refine pk_le (ct 0) 0 (fun z0 => ?_) (fun z0 => br_t rfl ?_)
    · exact K1 (by omega)
    · have k := K0 (by omega)
      rw [if_pos (by omega)] at k
      exact br_t rfl (nm_r (nI_add ps 0) k)
  · unfold wX_beginBatch_14
    refine pk_le (ct 0) 0 (fun z0 => ?_) (fun z0 => br_f (by decide) (pk_le 2 ps (fun z2 => ?_) (fun z2 => ?_)))
    · exact K1 (by omega)
    · exact K1 (by omega)
    · have k := K0 (by omega)
      rw [if_neg (by omega)] at k
      exact br_f (by decide) (nm_r (nI_add ps 1) k)
theorem pp_tab_mono {E : Nat → Prop} {d c : Nat} {l : Nat → Nat} (h : qq_Tab E d st kd fi en nx lm re l c) (hD : qq_Dj st fi en) : (∀ i, i < c → l i < 16 ∧ fi (l i) < 2 ^ 31) ∧ (∀ i j, i < j → j < c → fi (l i) < fi (l j)) := by
  refine ⟨fun i hi => ?_, fun i j hij hj => ?_⟩
  · have := hD.1 _ (h.2.1 i hi).1.1
    omega
  · have k1 := h.2.2.1 i j hij hj
    have k2 := (h.2.1 i (by omega)).2.1
    omega
theorem xw_batch66 {post : Int32 → Prop} {o : Nat} (hd : dr < 2) (hT : qq_Tab qq_E0 dr st kd fi en nx lm re (fun i => rn (16 * dr + i)) (ct dr)) (hD : qq_Dj st fi en) (ho : st o = 4) (hod : qq_dir (kd o) = dr)
    (K : ∀ i, i < ct dr → qq_M st kd fi en dr (rn (16 * dr + i)) (re (rn (16 * dr + i))) o → post (nI i)) : wX_batchStart_66 post (nI o) (nI N) (nI T) (nI B) (nI F) (nI wc) (nI rc) (nI hea) (nI lf) (nI dr) (nI ps) ck (nI sb) (ee_N st) (ee_N kd) (ee_N fi) (ee_N en) vl bo (ee_N od) rd (ee_N bl) fo (ee_O nx) (ee_N lm) (ee_N re) (ee_N rn) (ee_N ct) (ee_O ol) (ee_O yo) (ee_O os) (ee_O nw) (ee_N wf) (ee_N rf) (ee_O tg) ca me := by
  obtain ⟨m1, m2⟩ := pp_tab_mono hT hD
  have oz := hD.1 o ho
  refine And.intro (vp_in_nI oz.1 (by omega)) ?_
  rw [ee_rN (f := fi) (i := o) (by omega), nI_1]
  refine xw_lowerBound (c := ct dr) hd rfl hT.1 (by omega) m1 (fun i j a b => Nat.le_of_lt (m2 i j a b)) (fun pos hp h1 h2 => ?_)
  obtain ⟨j, hj, j1, j2, _⟩ := hT.2.2.2.1 o ho hod
  dsimp only at j1 j2
  have e : pos = j + 1 := by
    rcases Nat.lt_trichotomy pos (j + 1) with w | w | w
    · have := h2 j (by omega) hj; omega
    · exact w
    · have a := h1 (j + 1) w
      have b := hT.2.2.1 j (j + 1) (by omega) (by omega)
      dsimp only at b
      omega
  rw [e, nI_pred]
  exact K j hj ⟨ho, hod, j1, j2⟩
theorem xw_batchStart {post : Int32 → Prop} {o : Nat} (hd : dr < 2) (hT : qq_Tab qq_E0 dr st kd fi en nx lm re (fun i => rn (16 * dr + i)) (ct dr)) (hD : qq_Dj st fi en) (hos : os dr = some o) (ho : st o = 4) (hod : qq_dir (kd o) = dr) (hh : hea ≤ 256)
    (K : ∀ pos, pos ≤ ct dr → (∀ i, i < pos → fi (rn (16 * dr + i)) < hea) → (∀ i, pos ≤ i → i < ct dr → hea ≤ fi (rn (16 * dr + i))) →
      ((¬ (if dr = 0 then (8 : Int32) else 32) ≤ ck - bo o → pos < ct dr → post (nI pos)) ∧
       (((if dr = 0 then (8 : Int32) else 32) ≤ ck - bo o ∨ ¬ pos < ct dr) → ∀ i, i < ct dr → qq_M st kd fi en dr (rn (16 * dr + i)) (re (rn (16 * dr + i))) o → post (nI i)))) : wpX_batchStart post (nI N, nI T, nI B, nI F, nI wc, nI rc, nI hea, nI lf, nI dr, nI ps, ck, nI sb, ee_N st, ee_N kd, ee_N fi, ee_N en, vl, bo, ee_N od, rd, ee_N bl, fo, ee_O nx, ee_N lm, ee_N re, ee_N rn, ee_N ct, ee_O ol, ee_O yo, ee_O os, ee_O nw, ee_N wf, ee_N rf, ee_O tg, ca, me) := by
  obtain ⟨m1, m2⟩ := pp_tab_mono hT hD
  have oz := hD.1 o ho
  have c16 := hT.1
  have key : ∀ z0, z0 = (if dr = 0 then (8 : Int32) else 32) → wX_batchStart_24 post (nI o) z0 (nI N) (nI T) (nI B) (nI F) (nI wc) (nI rc) (nI hea) (nI lf) (nI dr) (nI ps) ck (nI sb) (ee_N st) (ee_N kd) (ee_N fi) (ee_N en) vl bo (ee_N od) rd (ee_N bl) fo (ee_O nx) (ee_N lm) (ee_N re) (ee_N rn) (ee_N ct) (ee_O ol) (ee_O yo) (ee_O os) (ee_O nw) (ee_N wf) (ee_N rf) (ee_O tg) ca me := by
    intro z0 hz
    subst hz
    unfold wX_batchStart_24
    refine xw_lowerBound (c := ct dr) hd rfl c16 (by omega) m1 (fun i j a b => Nat.le_of_lt (m2 i j a b)) (fun pos hp h1 h2 => ?_)
    obtain ⟨k1, k2⟩ := K pos hp h1 h2
    refine And.intro (vp_in_nI oz.1 (by omega)) ?_
    rw [ee_r (f := bo) (by omega)]
    refine br_c (fun z => xw_batch66 hd hT hD ho hod (k2 (Or.inl z))) (fun z => And.intro (vp_in_nI hd (by omega)) (pk_lt pos (ct dr) (fun w => k1 z w) (fun w => xw_batch66 hd hT hD ho hod (k2 (Or.inr (by omega)))) rfl (ee_rN (by omega))))
  refine And.intro (vp_in_nI hd (by omega)) (nm_r (e' := nI o) (by rw [ee_rO (by omega), hos]; rfl) (pk_eq dr 0 (fun z => key 8 (by rw [if_pos z])) (fun z => key 32 (by rw [if_neg z]))))
theorem xw_give12 {post : SX → Prop} {M : Nat → Prop} {t e : Nat} {st0 : Nat → Nat} (hd : dr < 2) (ht : t < 4) (m1 : ∀ q, M q → q < 16 ∧ st0 q = 4 ∧ qq_dir (kd q) = dr ∧ fi q < en q ∧ en q ≤ e) (m2 : ∀ c, M c → (en c = e ∧ nx c = none) ∨ (en c < e ∧ ∃ q, nx c = some q ∧ M q ∧ fi q = en c)) (m3 : ∀ q r, M q → M r → q ≠ r → en q ≤ fi r ∨ en r ≤ fi q)
    (h16 : ∀ q, st0 q = 4 → q < 16) (hinj : ∀ q r, st0 q = 4 → st0 r = 4 → od q = od r → q = r) (hmx : ∀ q, od q < 100000)
    (K : ∀ st ol' yo' os' nw', (∀ q, (M q → st q = 16 + t) ∧ (¬ M q → st q = st0 q)) → qq_AgeP (qq_R st kd dr) od ol' yo' (os' dr) (nw' dr) → (∀ d', d' ≠ dr → os' d' = os d' ∧ nw' d' = nw d') → (∀ q, ¬ qq_R st0 kd dr q → ol' q = ol q ∧ yo' q = yo q) → post (nI N, nI T, nI B, nI F, nI wc, nI rc, nI hea, nI lf, nI dr, nI ps, ck, nI sb, ee_N st, ee_N kd, ee_N fi, ee_N en, vl, bo, ee_N od, rd, ee_N bl, fo, ee_O nx, ee_N lm, ee_N re, ee_N rn, ee_N ct, ee_O ol', ee_O yo', ee_O os', ee_O nw', ee_N wf, ee_N rf, ee_O tg, ca, me)) :
    ∀ m n b cur st ol' yo' os' nw', m < n → m ≤ 16 → cn (fun q => M q ∧ b ≤ fi q) 16 ≤ m → (cur = none → b = e) → (∀ c, cur = some c → M c ∧ fi c = b) → (∀ q, (M q ∧ fi q < b → st q = 16 + t) ∧ (¬ (M q ∧ fi q < b) → st q = st0 q)) → qq_AgeP (qq_R st kd dr) od ol' yo' (os' dr) (nw' dr) → (∀ d', d' ≠ dr → os' d' = os d' ∧ nw' d' = nw d') → (∀ q, ¬ qq_R st0 kd dr q → ol' q = ol q ∧ yo' q = yo q) →
      wX_giveToDevice_12 post (nI t) n (ee_o cur) (nI (16 - m)) (nI N) (nI T) (nI B) (nI F) (nI wc) (nI rc) (nI hea) (nI lf) (nI dr) (nI ps) ck (nI sb) (ee_N st) (ee_N kd) (ee_N fi) (ee_N en) vl bo (ee_N od) rd (ee_N bl) fo (ee_O nx) (ee_N lm) (ee_N re) (ee_N rn) (ee_N ct) (ee_O ol') (ee_O yo') (ee_O os') (ee_O nw') (ee_N wf) (ee_N rf) (ee_O tg) ca me := by
  intro m
  induction m with
  | zero =>
    intro n b cur st ol' yo' os' nw' hn hm hc h0 h1 hst hA hF hF2
    obtain ⟨n, rfl⟩ : ∃ k, n = k + 1 := ⟨n - 1, by omega⟩
    rcases cur with _ | c
    · have eb := h0 rfl
      subst eb
      have hM : ∀ q, M q → fi q < b := fun q hq => by have := m1 q hq; omega
      exact br_t (nI_le (a := 16) (by omega) (by omega)) (K st ol' yo' os' nw' (fun q => ⟨fun w => (hst q).1 ⟨w, hM q w⟩, fun w => (hst q).2 (fun y => w y.1)⟩) hA hF hF2)
    · obtain ⟨c1, c2⟩ := h1 c rfl
      have := cn_pos (P := fun q => M q ∧ b ≤ fi q) ⟨c1, by omega⟩ (m1 c c1).1
      omega
  | succ m ih =>
    intro n b cur st ol' yo' os' nw' hn hm hc h0 h1 hst hA hF hF2
    obtain ⟨n, rfl⟩ : ∃ k, n = k + 1 := ⟨n - 1, by omega⟩
    refine br_f (nI_ge (b := 16) (by omega) (by omega)) ?_
    rcases cur with _ | c
    · have eb := h0 rfl
      subst eb
      have hM : ∀ q, M q → fi q < b := fun q hq => by have := m1 q hq; omega
      exact br_t ee_o1 (K st ol' yo' os' nw' (fun q => ⟨fun w => (hst q).1 ⟨w, hM q w⟩, fun w => (hst q).2 (fun y => w y.1)⟩) hA hF hF2)
    · obtain ⟨c1, c2⟩ := h1 c rfl
      obtain ⟨c16, c4, cd, cz, ce⟩ := m1 c c1
      have stc : st c = 4 := by rw [(hst c).2 (fun y => by omega)]; exact c4
      have sub : ∀ q, st q = 4 → st0 q = 4 := by
        intro q hq
        rcases Classical.em (M q ∧ fi q < b) with w | w
        · exact (m1 q w.1).2.1
        · rw [← (hst q).2 w]; exact hq
      refine br_f (ee_s1 (by omega)) (xw_deq (P := qq_R st kd dr) (P' := qq_R (ee_u st c (16 + t)) kd dr) hd hA ⟨stc, cd⟩ (fun q hq => h16 q (sub q hq.1)) (fun q => ?_) (fun q r hq hr e => hinj q r (sub q hq.1) (sub r hr.1) e) (fun q _ => hmx q) (fun ol2 yo2 os2 nw2 hA2 hF3 hF4 => ?_))
      · unfold qq_R
        by_cases e : q = c
        · rw [e, ee_us]; exact ⟨fun w => by omega, fun w => absurd rfl w.2⟩
        · rw [ee_un e]; exact ⟨fun w => ⟨w, e⟩, fun w => w.1⟩
      have hgiven : ∀ q, (M q ∧ fi q < en c) ↔ ((M q ∧ fi q < b) ∨ q = c) := by
        intro q
        constructor
        · intro w
          by_cases e : q = c
          · exact Or.inr e
          · have := m3 q c w.1 c1 e
            have := m1 q w.1
            exact Or.inl ⟨w.1, by omega⟩
        · rintro (w | w)
          · exact ⟨w.1, by omega⟩
          · rw [w]; exact ⟨c1, cz⟩
      refine And.intro (vp_in_nI c16 (by omega)) (nm_r (e' := ee_N (ee_u st c (16 + t))) (by rw [show ee_o (some c) = nI c from rfl, show (16 : Int32) + nI t = nI (16 + t) from nI_add 16 t]; exact ee_wN (by omega)) (And.intro (vp_in_nI c16 (by omega)) (nm_r (e' := ee_o (nx c)) (ee_rO (by omega)) (nm_r (e' := nI (16 - m)) (by rw [nI_1]; exact congrArg nI (by omega)) (ih n (en c) (nx c) (ee_u st c (16 + t)) ol2 yo2 os2 nw2 (by omega) (by omega) ?_ (fun z => ?_) (fun q hq => ?_) (fun q => ?_) hA2 (fun d' hd' => ?_) (fun q hq => ?_))))))
      · have := cn_lt (P := fun q => M q ∧ en c ≤ fi q) (Q := fun q => M q ∧ b ≤ fi q) (a := c) (fun w => by have := w.2; omega) ⟨c1, by omega⟩ (N := 16) (fun q _ w => ⟨w.1, by have := w.2; omega⟩) c16
        omega
      · rcases m2 c c1 with w | ⟨_, r, r1, _⟩
        · exact w.1
        · rw [r1] at z; exact nomatch z
      · rcases m2 c c1 with w | ⟨_, r, r1, r2, r3⟩
        · rw [w.2] at hq; exact nomatch hq
        · rw [r1] at hq
          rw [← Option.some.inj hq]; exact ⟨r2, r3⟩
      · by_cases e : q = c
        · rw [e, ee_us]
          exact ⟨fun _ => rfl, fun w => absurd ⟨c1, cz⟩ w⟩
        · rw [ee_un e]
          refine ⟨fun w => (hst q).1 (((hgiven q).mp w).resolve_right e), fun w => (hst q).2 (fun y => w ((hgiven q).mpr (Or.inl y)))⟩
      · exact ⟨(hF3 d' hd').1.trans (hF d' hd').1, (hF3 d' hd').2.trans (hF d' hd').2⟩
      · have k := hF4 q (fun w => hq ⟨sub q w.1, w.2⟩)
        exact ⟨k.1.trans (hF2 q hq).1, k.2.trans (hF2 q hq).2⟩
theorem xw_dispatch73 {post : Int32 → SX → Prop} {t p lo hi : Nat} (hX : qq_XI N T st kd fi en ln od sb nx lm re rn ct ol yo os nw tg wc wf lo hi rf) (hB : qq_Blk qq_z st fi en od bl fo) (hd : dr < 2) (ht : t < T) (htg : tg t = none) (hp : p < ct dr) (hl : 1 ≤ lf) (hl2 : lf < 100)
    (K : ∀ st' rn' ct' ol' yo' os' nw' L, L = rn (16 * dr + p) → qq_XI N T st' kd fi en ln od sb nx lm re rn' ct' ol' yo' os' nw' (ee_u tg t (some L)) wc wf lo hi rf → qq_Blk qq_z st' fi en od bl fo → (∀ q, (qq_M st kd fi en dr L (re L) q → st' q = 16 + t) ∧ (¬ qq_M st kd fi en dr L (re L) q → st' q = st q)) →
      post (nI t) (nI N, nI T, nI B, nI F, nI wc, nI rc, nI (re L), nI (lf - 1), nI dr, nI ps, ck, nI sb, ee_N st', ee_N kd, ee_N fi, ee_N en, vl, bo, ee_N od, rd, ee_N bl, fo, ee_O nx, ee_N lm, ee_N re, ee_N rn', ee_N ct', ee_O ol', ee_O yo', ee_O os', ee_O nw', ee_N wf, ee_N rf, ee_O (ee_u tg t (some L)), ca, me)) : wX_dispatch_73 post (nI t) (nI p) (nI N) (nI T) (nI B) (nI F) (nI wc) (nI rc) (nI hea) (nI lf) (nI dr) (nI ps) ck (nI sb) (ee_N st) (ee_N kd) (ee_N fi) (ee_N en) vl bo (ee_N od) rd (ee_N bl) fo (ee_O nx) (ee_N lm) (ee_N re) (ee_N rn) (ee_N ct) (ee_O ol) (ee_O yo) (ee_O os) (ee_O nw) (ee_N wf) (ee_N rf) (ee_O tg) ca me := by
  obtain ⟨hB3, hTAD, hW, hV⟩ := hX
  have hD := pp_dj hB3
  have hT4 := hB3.1.2.1
  have tT := hTAD.1 dr hd
  have c16 := tT.1
  obtain ⟨⟨p1, p2⟩, p3, ⟨p4, p5⟩, p6⟩ := tT.2.1 p hp
  dsimp only at p1 p2 p3 p4 p5 p6
  obtain ⟨L, hL⟩ : ∃ L, L = rn (16 * dr + p) := ⟨_, rfl⟩
  rw [← hL] at p1 p2 p3 p4 p5 p6
  have Lz := hD.1 L p1
  have mz := hD.1 _ p4
  have eix : nI dr * 16 + nI p = nI (16 * dr + p) := by rw [ee_base, nI_add]
  obtain ⟨c0, hc0⟩ : ∃ k, ct dr = k + 1 := ⟨ct dr - 1, by omega⟩
  obtain ⟨l0, hl0⟩ : ∃ k, lf = k + 1 := ⟨lf - 1, by omega⟩
  have Lin := pp_lead_in tT hD hp
  rw [← hL] at Lin
  refine And.intro (by rw [eix]; exact vp_in_nI (by omega) (by omega)) (nm_r (e' := nI L) (by rw [eix, ee_rN (by omega), hL]) ?_)
  refine xw_removeRun (c := c0) hd hc0 (by omega) (by omega) ?_
  refine nm_r (e' := nI (lf - 1)) (by rw [hl0, nI_pred]; rfl) (And.intro (vp_in_nI Lz.1 (by omega)) (nm_r (e' := nI (re L)) (ee_rN (by omega)) ?_))
  have mM : ∀ q, qq_M st kd fi en dr L (re L) q → q < 16 ∧ st q = 4 ∧ qq_dir (kd q) = dr ∧ fi q < en q ∧ en q ≤ re L := fun q hq => ⟨(hD.1 q hq.1).1, hq.1, hq.2.1, (hD.1 q hq.1).2.1, hq.2.2.2⟩
  have mN : ∀ c, qq_M st kd fi en dr L (re L) c → (en c = re L ∧ nx c = none) ∨ (en c < re L ∧ ∃ q, nx c = some q ∧ qq_M st kd fi en dr L (re L) q ∧ fi q = en c) := by
    intro c hc
    rw [hL] at hc ⊢
    exact pp_next_in tT hD hp hc
  have mD : ∀ q r, qq_M st kd fi en dr L (re L) q → qq_M st kd fi en dr L (re L) r → q ≠ r → en q ≤ fi r ∨ en r ≤ fi q := fun q r hq hr hn => hD.2 q r hq.1 hr.1 hn
  have ML : qq_M st kd fi en dr L (re L) L := ⟨p1, p2, Nat.le_refl _, Lin⟩
  refine And.intro (vp_in_nI (by omega) (by omega)) (nm_r (e' := ee_O (ee_u tg t (some L))) (ee_wO (v := some L) (by omega)) ⟨17, ?_⟩)
  refine xw_give12 (M := qq_M st kd fi en dr L (re L)) (e := re L) (st0 := st) hd (by omega) mM mN mD (fun q hq => (hD.1 q hq).1) (fun q r hq hr => hB3.2.1.2.2.2 q r (by rw [hq]; unfold qq_unf; omega) (by rw [hr]; unfold qq_unf; omega)) (fun q => by have := hB3.2.1.2.1 q; have := hB3.2.1.1; omega) (fun st' ol' yo' os' nw' hst hA' hF hF2 => ?_) 16 17 (fi L) (some L) st ol yo os nw (by omega) (by omega) (cn_le _ _) (fun z => nomatch z) (fun c hc => by rw [← Option.some.inj hc]; exact ⟨ML, rfl⟩) (fun q => ⟨fun w => by have := w.1.2.2.1; omega, fun _ => rfl⟩) (hTAD.2.1 dr hd) (fun _ _ => ⟨rfl, rfl⟩) (fun _ _ => ⟨rfl, rfl⟩)
  have h4 : ∀ q, st' q = 4 ↔ (st q = 4 ∧ ¬ qq_M st kd fi en dr L (re L) q) := by
    intro q
    rcases Classical.em (qq_M st kd fi en dr L (re L) q) with w | w
    · rw [(hst q).1 w]; exact ⟨fun z => by omega, fun z => absurd w z.2⟩
    · rw [(hst q).2 w]; exact ⟨fun z => ⟨z, w⟩, fun z => z.1⟩
  have cs : ∀ q, (st q = 4 ∧ st' q = 16 + t ∧ qq_M st kd fi en dr L (re L) q) ∨ (st' q = st q ∧ ¬ qq_M st kd fi en dr L (re L) q) := by
    intro q
    rcases Classical.em (qq_M st kd fi en dr L (re L) q) with w | w
    · exact Or.inl ⟨w.1, (hst q).1 w, w⟩
    · exact Or.inr ⟨(hst q).2 w, w⟩
  have no16 := (hTAD.2.2 t (by omega)).1 htg
  have m16 : ∀ q, st' q = 16 + t ↔ qq_M st kd fi en dr L (re L) q := by
    intro q
    refine ⟨fun w => ?_, (hst q).1⟩
    rcases cs q with k | k
    · exact k.2.2
    · exact absurd (k.1 ▸ w) (no16 q)
  refine K st' _ _ ol' yo' os' nw' L hL ⟨pp_b3_map hB3 (fun q => ?_) (fun q => ?_) (fun q => ?_) (fun q => ?_) (fun q => ?_), ⟨fun d' hd' => ?_, fun d' hd' => ?_, fun t' ht' => ?_⟩, pp_lst_congr hW (fun q => ?_), pp_lst_congr hV (fun q => ?_)⟩ (pp_blk_st hB.1 hB.2.1 (fun q => ?_) (fun q hq => ?_)) hst
  · have := cs q; unfold qq_unf; omega
  · have := cs q; unfold qq_act; omega
  · have := cs q; unfold qq_go; omega
  · have := cs q; have := (hB3.1.2.2 q).1; omega
  · have := cs q; omega
  · by_cases e : d' = dr
    · subst e
      rw [ee_us]
      have k := pp_tab_drop (p := p) (l' := fun i => qq_del rn (16 * d') c0 p (16 * d' + i)) (st' := st') tT hD hp (fun q => ?_) (fun i hi => if_neg (by omega)) (fun i h1 h2 => if_pos (by omega))
      · rw [hc0] at k; exact k
      · rw [h4 q, ← hL]
        exact ⟨fun w => ⟨w.1, fun y => w.2 ⟨w.1, y⟩⟩, fun w => ⟨w.1, fun y => w.2 y.2⟩⟩
    · rw [ee_un e]
      refine pp_tab_congr (hTAD.1 d' hd') (fun q => ?_) (fun _ _ _ => ⟨rfl, rfl, rfl, rfl, rfl, rfl⟩) (fun i hi => if_neg ?_)
      · rw [h4 q]
        exact ⟨fun w => ⟨w.1.1, w.2⟩, fun w => ⟨⟨w.1, fun y => e (w.2.symm.trans y.2.1)⟩, w.2⟩⟩
      · have := (hTAD.1 d' hd').1
        omega
  · by_cases e : d' = dr
    · subst e; exact hA'
    · rw [(hF d' e).1, (hF d' e).2]
      refine pp_age_congr (hTAD.2.1 d' hd') (fun q => ?_) (fun _ _ => rfl) (fun q hq => hF2 q (fun y => e (hq.2.symm.trans y.2)))
      unfold qq_R
      rw [h4 q]
      exact ⟨fun w => ⟨w.1.1, w.2⟩, fun w => ⟨⟨w.1, fun y => e (w.2.symm.trans y.2.1)⟩, w.2⟩⟩
  · by_cases e : t' = t
    · subst e
      rw [ee_us]
      refine ⟨fun z => (nomatch z), fun l hl => ?_, fun q hq => ?_, fun q r hq hr => ?_⟩
      · rw [← Option.some.inj hl]
        exact ⟨(m16 L).mpr ML, fun q hq => ((m16 q).mp hq).2.2.1⟩
      · have hq' := (m16 q).mp hq
        rcases mN q hq' with ⟨k1, k2⟩ | ⟨k1, r, r1, r2, r3⟩
        · refine Or.inl ⟨k2, fun r hr => ?_⟩
          have hr' := (m16 r).mp hr
          by_cases er : r = q
          · rw [er]; exact Nat.le_refl _
          · have := mD r q hr' hq' er
            have := mM r hr'
            omega
        · exact Or.inr ⟨r, r1, (m16 r).mpr r2, r3⟩
      · rw [((m16 q).mp hq).2.1, ((m16 r).mp hr).2.1]
    · rw [ee_un e]
      obtain ⟨x1, x2, x3, x4⟩ := hTAD.2.2 t' ht'
      have hq' : ∀ q, st' q = 16 + t' ↔ st q = 16 + t' := by
        intro q
        have := cs q
        omega
      refine ⟨fun z q hq => x1 z q ((hq' q).mp hq), fun l hl => ⟨(hq' l).mpr (x2 l hl).1, fun q hq => (x2 l hl).2 q ((hq' q).mp hq)⟩, fun q hq => ?_, fun q r hq hr => x4 q r ((hq' q).mp hq) ((hq' r).mp hr)⟩
      rcases x3 q ((hq' q).mp hq) with ⟨y1, y2⟩ | ⟨r, y1, y2, y3⟩
      · exact Or.inl ⟨y1, fun r hr => y2 r ((hq' r).mp hr)⟩
      · exact Or.inr ⟨r, y1, (hq' r).mpr y2, y3⟩
  · have := cs q; unfold qq_W; omega
  · have := cs q; unfold qq_V; omega
  · have := cs q; unfold qq_unf; omega
  · have := cs q
    exact hB.2.2 q (by omega)
end
end
section
/-! X's reset, power loss -/
def qq_lost (m : Nat) : Nat := if m = 0 ∨ m = 7 ∨ m = 8 then m else 8
theorem pp_lost_u {m : Nat} (h : qq_unf m) : qq_lost m = 8 := by
  unfold qq_unf at h; unfold qq_lost; rw [if_neg (by omega)]
theorem pp_lost_n {m : Nat} (h : ¬ qq_unf m) : qq_lost m = m := by
  unfold qq_unf at h; unfold qq_lost; rw [if_pos (by omega)]
def qq_lim (lw : Nat) (w : Int32) : Nat := if w.toInt ≤ 0 then 0 else lw + w.toInt.toNat
theorem ee_sub1 {w x : Nat} (hw : w < 2 ^ 31) (hx : x < 2 ^ 30) : (nI w - nI x).toInt = (w : Int) - x := by
  rw [Int32.toInt_sub, nI_toInt hw, nI_toInt (by omega)]
  exact Int.bmod_eq_of_le (by omega) (by omega)
theorem ee_le0 {w x : Nat} (hw : w < 2 ^ 31) (hx : x < 2 ^ 30) : nI w - nI x ≤ 0 ↔ w ≤ x := by
  rw [Int32.le_iff_toInt_le, ee_sub1 hw hx, show (0 : Int32).toInt = 0 from by decide]
  omega
section
variable {N T B F wc rc hea lf dr ps sb : Nat} {ck : Int32} {st kd fi en ln od bl lm re rn ct wf rf : Nat → Nat} {vl bo rd fo ca me : Nat → Int32} {nx ol yo os nw tg : Nat → Option Nat}
theorem xw_rs66 {post : SX → Prop} (K : ∀ tg', (∀ t, t < 4 → tg' t = none) → post (nI N, nI T, nI B, nI F, nI wc, nI rc, nI hea, nI lf, nI dr, nI ps, ck, nI sb, ee_N st, ee_N kd, ee_N fi, ee_N en, vl, bo, ee_N od, rd, ee_N bl, fo, ee_O nx, ee_N lm, ee_N re, ee_N rn, ee_N ct, ee_O ol, ee_O yo, ee_O os, ee_O nw, ee_N wf, ee_N rf, ee_O tg', ca, me)) : ∀ m i n tg', i + m = 4 → m < n → (∀ t, t < i → tg' t = none) → wX_reset_66 post (nI N) (nI T) (nI B) (nI F) (nI wc) (nI rc) (nI hea) (nI lf) (nI dr) (nI ps) ck (nI sb) n (nI i) (ee_N st) (ee_N kd) (ee_N fi) (ee_N en) vl bo (ee_N od) rd (ee_N bl) fo (ee_O nx) (ee_N lm) (ee_N re) (ee_N rn) (ee_N ct) (ee_O ol) (ee_O yo) (ee_O os) (ee_O nw) (ee_N wf) (ee_N rf) (ee_O tg') ca me := by
  intro m
  induction m with
  | zero =>
    intro i n tg' hm hn h
    obtain ⟨n, rfl⟩ : ∃ k, n = k + 1 := ⟨n - 1, by omega⟩
    exact br_t (nI_le (a := 4) (by omega) (by omega)) (K tg' (fun t ht => h t (by omega)))
  | succ m ih =>
    intro i n tg' hm hn h
    obtain ⟨n, rfl⟩ : ∃ k, n = k + 1 := ⟨n - 1, by omega⟩
    refine br_f (nI_ge (b := 4) (by omega) (by omega)) (And.intro (vp_in_nI (by omega) (by omega)) (nm_r (ee_wO (v := none) (by omega)) (nm_r (nI_1 i) (ih (i + 1) n _ (by omega) (by omega) (fun t ht => ?_)))))
    by_cases e : t = i
    · rw [e, ee_us]
    · rw [ee_un e]; exact h t (by omega)
theorem xw_rs32 {post : SX → Prop} (K : ∀ ct' os' nw' tg', (∀ d, d < 2 → ct' d = 0 ∧ os' d = none ∧ nw' d = none) → (∀ t, t < 4 → tg' t = none) → post (nI N, nI T, nI B, nI F, nI wc, nI rc, nI hea, nI lf, nI dr, nI ps, ck, nI sb, ee_N st, ee_N kd, ee_N fi, ee_N en, vl, bo, ee_N od, rd, ee_N bl, fo, ee_O nx, ee_N lm, ee_N re, ee_N rn, ee_N ct', ee_O ol, ee_O yo, ee_O os', ee_O nw', ee_N wf, ee_N rf, ee_O tg', ca, me)) : ∀ m i n ct' os' nw', i + m = 2 → m < n → (∀ d, d < i → ct' d = 0 ∧ os' d = none ∧ nw' d = none) → wX_reset_32 post (nI N) (nI T) (nI B) (nI F) (nI wc) (nI rc) (nI hea) (nI lf) (nI dr) (nI ps) ck (nI sb) n (nI i) (ee_N st) (ee_N kd) (ee_N fi) (ee_N en) vl bo (ee_N od) rd (ee_N bl) fo (ee_O nx) (ee_N lm) (ee_N re) (ee_N rn) (ee_N ct') (ee_O ol) (ee_O yo) (ee_O os') (ee_O nw') (ee_N wf) (ee_N rf) (ee_O tg) ca me := by
  intro m
  induction m with
  | zero =>
    intro i n ct' os' nw' hm hn h
    obtain ⟨n, rfl⟩ : ∃ k, n = k + 1 := ⟨n - 1, by omega⟩
    exact br_t (nI_le (a := 2) (by omega) (by omega)) ⟨5, xw_rs66 (fun tg' ht => K ct' os' nw' tg' (fun d hd => h d (by omega)) ht) 4 0 5 tg (by omega) (by omega) (fun t ht => by omega)⟩
  | succ m ih =>
    intro i n ct' os' nw' hm hn h
    obtain ⟨n, rfl⟩ : ∃ k, n = k + 1 := ⟨n - 1, by omega⟩
    have hin : vp_in (nI i) 2 := vp_in_nI (by omega) (by omega)
    refine br_f (nI_ge (b := 2) (by omega) (by omega)) (And.intro hin (nm_r (ee_wN (v := 0) (by omega)) (And.intro hin (nm_r (ee_wO (v := none) (by omega)) (And.intro hin (nm_r (ee_wO (v := none) (by omega)) (nm_r (nI_1 i) (ih (i + 1) n _ _ _ (by omega) (by omega) (fun t ht => ?_)))))))))
    by_cases e : t = i
    · rw [e, ee_us, ee_us, ee_us]; exact ⟨rfl, rfl, rfl⟩
    · rw [ee_un e, ee_un e, ee_un e]; exact h t (by omega)
theorem xw_reset {post : SX → Prop} (K : ∀ ct' os' nw' tg', (∀ d, d < 2 → ct' d = 0 ∧ os' d = none ∧ nw' d = none) → (∀ t, t < 4 → tg' t = none) → post (nI N, nI T, nI B, nI F, nI 0, nI 0, nI 0, nI 0, nI 0, nI 0, ck, nI sb, ee_N st, ee_N kd, ee_N fi, ee_N en, vl, bo, ee_N od, rd, ee_N bl, fo, ee_O nx, ee_N lm, ee_N re, ee_N rn, ee_N ct', ee_O ol, ee_O yo, ee_O os', ee_O nw', ee_N wf, ee_N rf, ee_O tg', ca, me)) : wpX_reset post (nI N, nI T, nI B, nI F, nI wc, nI rc, nI hea, nI lf, nI dr, nI ps, ck, nI sb, ee_N st, ee_N kd, ee_N fi, ee_N en, vl, bo, ee_N od, rd, ee_N bl, fo, ee_O nx, ee_N lm, ee_N re, ee_N rn, ee_N ct, ee_O ol, ee_O yo, ee_O os, ee_O nw, ee_N wf, ee_N rf, ee_O tg, ca, me) :=
  ⟨3, xw_rs32 (wc := 0) (rc := 0) (hea := 0) (lf := 0) (dr := 0) (ps := 0) K 2 0 3 ct os nw (by omega) (by omega) (fun d hd => by omega)⟩
theorem xw_pl58 {post : Int32 → SX → Prop} {x3 : Int32} (h : wpX_reset (fun u => post x3 u) (nI N, nI T, nI B, nI F, nI wc, nI rc, nI hea, nI lf, nI dr, nI ps, ck, nI sb, ee_N st, ee_N kd, ee_N fi, ee_N en, vl, bo, ee_N od, rd, ee_N bl, fo, ee_O nx, ee_N lm, ee_N re, ee_N rn, ee_N ct, ee_O ol, ee_O yo, ee_O os, ee_O nw, ee_N wf, ee_N rf, ee_O tg, qq_cp me ca 256, me)) : ∀ m i n, i + m = 256 → m < n → wX_powerLoss_58 post x3 (nI N) (nI T) (nI B) (nI F) (nI wc) (nI rc) (nI hea) (nI lf) (nI dr) (nI ps) ck (nI sb) n (nI i) (ee_N st) (ee_N kd) (ee_N fi) (ee_N en) vl bo (ee_N od) rd (ee_N bl) fo (ee_O nx) (ee_N lm) (ee_N re) (ee_N rn) (ee_N ct) (ee_O ol) (ee_O yo) (ee_O os) (ee_O nw) (ee_N wf) (ee_N rf) (ee_O tg) (qq_cp me ca i) me := by
  intro m
  induction m with
  | zero =>
    intro i n hm hn
    obtain ⟨n, rfl⟩ : ∃ k, n = k + 1 := ⟨n - 1, by omega⟩
    have e : i = 256 := by omega
    subst e
    exact br_t (nI_le (a := 256) (Nat.le_refl _) (by omega)) h
  | succ m ih =>
    intro i n hm hn
    obtain ⟨n, rfl⟩ : ∃ k, n = k + 1 := ⟨n - 1, by omega⟩
    have hin : vp_in (nI i) 256 := vp_in_nI (by omega) (by omega)
    refine br_f (nI_ge (b := 256) (by omega) (by omega)) (And.intro hin (And.intro hin (nm_r (e' := qq_cp me ca (i + 1)) ?_ (nm_r (nI_1 i) (ih (i + 1) n (by omega) (by omega))))))
    rw [ee_r (f := me) (by omega), ee_w (by omega)]; exact pp_cpS
theorem xw_pl11 {post : Int32 → SX → Prop} (hN : N ≤ 16) (hS : ∀ q, st q < 32)
    (K : ∀ st' fo', (∀ q, q < N → st' q = qq_lost (st q)) → (∀ q, N ≤ q → st' q = st q) → ∃ n, wX_powerLoss_58 post (nI (cn (fun q => qq_unf (st q)) N)) (nI N) (nI T) (nI B) (nI F) (nI wc) (nI rc) (nI hea) (nI lf) (nI dr) (nI ps) ck (nI sb) n (nI 0) (ee_N st') (ee_N kd) (ee_N fi) (ee_N en) vl bo (ee_N od) rd (ee_N bl) fo' (ee_O nx) (ee_N lm) (ee_N re) (ee_N rn) (ee_N ct) (ee_O ol) (ee_O yo) (ee_O os) (ee_O nw) (ee_N wf) (ee_N rf) (ee_O tg) ca me) :
    ∀ m i n st' fo', i + m = N → m < n → (∀ q, q < i → st' q = qq_lost (st q)) → (∀ q, i ≤ q → st' q = st q) → wX_powerLoss_11 post (nI N) (nI T) (nI B) (nI F) (nI wc) (nI rc) (nI hea) (nI lf) (nI dr) (nI ps) ck (nI sb) n (nI (cn (fun q => qq_unf (st q)) i)) (nI i) (ee_N st') (ee_N kd) (ee_N fi) (ee_N en) vl bo (ee_N od) rd (ee_N bl) fo' (ee_O nx) (ee_N lm) (ee_N re) (ee_N rn) (ee_N ct) (ee_O ol) (ee_O yo) (ee_O os) (ee_O nw) (ee_N wf) (ee_N rf) (ee_O tg) ca me := by
  intro m
  induction m with
  | zero =>
    intro i n st' fo' hm hn h1 h2
    obtain ⟨n, rfl⟩ : ∃ k, n = k + 1 := ⟨n - 1, by omega⟩
    have e : i = N := by omega
    subst e
    exact br_t (nI_le (by omega) (by omega)) (K st' fo' h1 h2)
  | succ m ih =>
    intro i n st' fo' hm hn h1 h2
    obtain ⟨n, rfl⟩ : ∃ k, n = k + 1 := ⟨n - 1, by omega⟩
    have hin : vp_in (nI i) 16 := vp_in_nI (by omega) (by omega)
    have e0 := h2 i (Nat.le_refl _)
    refine br_f (nI_ge (by omega) (by omega)) (xw_unfinished (by omega) (by rw [e0]; exact hS i) (fun hu => br_f (by decide) (And.intro hin (nm_r (ee_wN (v := 8) (by omega)) (And.intro hin (nm_r (ee_w (by omega)) (nm_r (e' := nI (cn (fun q => qq_unf (st q)) (i + 1))) ?_ (nm_r (nI_1 i) (ih (i + 1) n _ _ (by omega) (by omega) (fun q hq => ?_) (fun q hq => ?_))))))))) (fun hu => br_t rfl (nm_r (nI_1 i) ?_)))
    · rw [e0] at hu
      rw [nI_1]
      show _ = nI (cn (fun q => qq_unf (st q)) i + b01 (qq_unf (st i)))
      rw [b01_t hu]
    · rw [e0] at hu
      by_cases e : q = i
      · rw [e, ee_us, pp_lost_u hu]
      · rw [ee_un e]; exact h1 q (by omega)
    · rw [ee_un (by omega)]; exact h2 q (by omega)
    · rw [e0] at hu
      have k := ih (i + 1) n st' fo' (by omega) (by omega) (fun q hq => ?_) (fun q hq => h2 q (by omega))
      · rw [show cn (fun q => qq_unf (st q)) (i + 1) = cn (fun q => qq_unf (st q)) i + b01 (qq_unf (st i)) from rfl, b01_f hu, Nat.add_zero] at k
        exact k
      · by_cases e : q = i
        · rw [e, e0, pp_lost_n hu]
        · exact h1 q (by omega)
theorem xw_tear40 {post : SX → Prop} {t lw w : Nat} {me0 : Nat → Int32} (hw : w < 2 ^ 31) (m1 : ∀ q, st q = 16 + t → q < 16 ∧ lw ≤ fi q ∧ fi q < en q ∧ en q = fi q + ln q ∧ ln q ≤ 8 ∧ en q ≤ 256) (m2 : ∀ c, st c = 16 + t → (nx c = none ∧ ∀ r, st r = 16 + t → fi r ≤ fi c) ∨ (∃ r, nx c = some r ∧ st r = 16 + t ∧ fi r = en c)) (m3 : ∀ q r, st q = 16 + t → st r = 16 + t → q ≠ r → en q ≤ fi r ∨ en r ≤ fi q)
    (K : ∀ me, qq_Wr (fun q => st q = 16 + t) fi en vl (lw + w) me0 me → post (nI N, nI T, nI B, nI F, nI wc, nI rc, nI hea, nI lf, nI dr, nI ps, ck, nI sb, ee_N st, ee_N kd, ee_N fi, ee_N en, vl, bo, ee_N od, rd, ee_N bl, fo, ee_O nx, ee_N lm, ee_N re, ee_N rn, ee_N ct, ee_O ol, ee_O yo, ee_O os, ee_O nw, ee_N wf, ee_N rf, ee_O tg, ca, me)) :
    ∀ m n b cur me, m < n → m ≤ 16 → lw ≤ b → b ≤ 256 → cn (fun q => st q = 16 + t ∧ b ≤ fi q) 16 ≤ m → (cur = none → ∀ r, st r = 16 + t → fi r < b) → (∀ c, cur = some c → st c = 16 + t ∧ fi c = b) → qq_Wr (fun q => st q = 16 + t ∧ fi q < b) fi en vl (lw + w) me0 me →
      wX_tear_40 post n (ee_o cur) (nI w - nI (b - lw)) (nI (16 - m)) (nI N) (nI T) (nI B) (nI F) (nI wc) (nI rc) (nI hea) (nI lf) (nI dr) (nI ps) ck (nI sb) (ee_N st) (ee_N kd) (ee_N fi) (ee_N en) vl bo (ee_N od) rd (ee_N bl) fo (ee_O nx) (ee_N lm) (ee_N re) (ee_N rn) (ee_N ct) (ee_O ol) (ee_O yo) (ee_O os) (ee_O nw) (ee_N wf) (ee_N rf) (ee_O tg) ca me := by
  intro m
  induction m with
  | zero =>
    intro n b cur me hn hm hb hb2 hc h0 h1 hW
    obtain ⟨n, rfl⟩ : ∃ k, n = k + 1 := ⟨n - 1, by omega⟩
    rcases cur with _ | c
    · refine br_t (nI_le (a := 16) (by omega) (by omega)) (K me (pp_Wr_congr hW (fun q => ⟨fun z => ⟨z, h0 rfl q z⟩, fun z => z.1⟩)))
    · obtain ⟨c1, c2⟩ := h1 c rfl
      have := cn_pos (P := fun q => st q = 16 + t ∧ b ≤ fi q) ⟨c1, by omega⟩ (m1 c c1).1
      omega
  | succ m ih =>
    intro n b cur me hn hm hb hb2 hc h0 h1 hW
    obtain ⟨n, rfl⟩ : ∃ k, n = k + 1 := ⟨n - 1, by omega⟩
    refine br_f (nI_ge (b := 16) (by omega) (by omega)) ?_
    rcases cur with _ | c
    · refine br_t ee_o1 (K me (pp_Wr_congr hW (fun q => ⟨fun z => ⟨z, h0 rfl q z⟩, fun z => z.1⟩)))
    · obtain ⟨c1, c2⟩ := h1 c rfl
      obtain ⟨c16, k1, k2, k3, k4, k5⟩ := m1 c c1
      refine br_f (ee_s1 (by omega)) (ee_if (ee_le0 hw (by omega)) (fun z => K me ?_) (fun z => ?_))
      · intro x
        refine ⟨fun s hs a1 a2 a3 => (hW x).1 s ⟨hs, by omega⟩ a1 a2 a3, fun y => (hW x).2 (fun s hs => y s hs.1)⟩
      · have hin : vp_in (nI c) 16 := vp_in_nI c16 (by omega)
        rw [pk_sub (by omega)]
        refine xw_writeMedium (M := w - (b - lw)) c16 k3 k4 k5 (by omega) (And.intro hin (And.intro hin (nm_r (e' := nI w - nI (en c - lw)) ?_ (And.intro hin (nm_r (e' := ee_o (nx c)) (ee_rO (by omega)) (nm_r (e' := nI (16 - m)) (by rw [nI_1]; exact congrArg nI (by omega)) (ih n (en c) (nx c) _ (by omega) (by omega) (by omega) (by omega) ?_ (fun y r hr => ?_) (fun q hq => ?_) ?_)))))))
        · rw [show ee_o (some c) = nI c from rfl, ee_rN (by omega), ee_rN (by omega), pk_sub (by omega), show en c - fi c = ln c by omega, ← pk_sub (a := w) (b := b - lw) (by omega), show en c - lw = (b - lw) + ln c by omega, ← nI_add]
          grind
        · have := cn_lt (P := fun q => st q = 16 + t ∧ en c ≤ fi q) (Q := fun q => st q = 16 + t ∧ b ≤ fi q) (a := c) (fun y => by have := y.2; omega) ⟨c1, by omega⟩ (N := 16) (fun q _ y => ⟨y.1, by have := y.2; omega⟩) c16
          omega
        · rcases m2 c c1 with ⟨y1, y2⟩ | ⟨q, y1, _⟩
          · have := y2 r hr; omega
          · rw [y1] at y; exact nomatch y
        · rcases m2 c c1 with ⟨y1, y2⟩ | ⟨r, y1, y2, y3⟩
          · rw [y1] at hq; exact nomatch hq
          · rw [y1] at hq
            rw [← Option.some.inj hq]; exact ⟨y2, y3⟩
        · refine pp_Wr_step hW (fun q => ?_) (fun q hq hne => m3 q c hq.1 c1 hne) (fun x => by omega)
          constructor
          · intro y
            by_cases e : q = c
            · exact Or.inr e
            · have := m3 q c y.1 c1 e
              have := m1 q y.1
              exact Or.inl ⟨y.1, by omega⟩
          · rintro (y | y)
            · exact ⟨y.1, by omega⟩
            · rw [y]; exact ⟨c1, by omega⟩
theorem xw_tear {post : SX → Prop} {t : Nat} {v2 : Int32} (hB3 : qq_B3 N T st kd fi en ln od sb) (hDv : qq_Dev st kd fi en nx tg) (ht : t < T)
    (K : ∀ me', (tg t = none → me' = me) → (∀ l, tg t = some l → qq_Wr (fun q => st q = 16 + t ∧ kd q ≠ 0) fi en vl (qq_lim (fi l) v2) me me') → post (nI N, nI T, nI B, nI F, nI wc, nI rc, nI hea, nI lf, nI dr, nI ps, ck, nI sb, ee_N st, ee_N kd, ee_N fi, ee_N en, vl, bo, ee_N od, rd, ee_N bl, fo, ee_O nx, ee_N lm, ee_N re, ee_N rn, ee_N ct, ee_O ol, ee_O yo, ee_O os, ee_O nw, ee_N wf, ee_N rf, ee_O tg, ca, me')) : wpX_tear post (nI N, nI T, nI B, nI F, nI wc, nI rc, nI hea, nI lf, nI dr, nI ps, ck, nI sb, ee_N st, ee_N kd, ee_N fi, ee_N en, vl, bo, ee_N od, rd, ee_N bl, fo, ee_O nx, ee_N lm, ee_N re, ee_N rn, ee_N ct, ee_O ol, ee_O yo, ee_O os, ee_O nw, ee_N wf, ee_N rf, ee_O tg, ca, me) (nI t) v2 := by
  have hT4 := hB3.1.2.1
  obtain ⟨d1, d2, d3, d4⟩ := hDv t (by omega)
  refine br_f (nI_pos (by omega)) (br_t (nI_lt (by omega) (by omega)) (And.intro (vp_in_nI (by omega) (by omega)) (nm_r (e' := ee_o (tg t)) (ee_rO (by omega)) ?_)))
  rcases htg : tg t with _ | l
  · exact br_t ee_o1 (K me (fun _ => rfl) (fun l hl => by rw [htg] at hl; exact nomatch hl))
  · obtain ⟨l1, l2⟩ := d2 l htg
    have l16 := (pp_b3_lt hB3 (s := l) (by omega)).1
    obtain ⟨k1, k2, k3, k4, k5, k6, k7⟩ := hB3.1.2.2 l
    have K' : ∀ me', qq_Wr (fun q => st q = 16 + t ∧ kd q ≠ 0) fi en vl (qq_lim (fi l) v2) me me' → post (nI N, nI T, nI B, nI F, nI wc, nI rc, nI hea, nI lf, nI dr, nI ps, ck, nI sb, ee_N st, ee_N kd, ee_N fi, ee_N en, vl, bo, ee_N od, rd, ee_N bl, fo, ee_O nx, ee_N lm, ee_N re, ee_N rn, ee_N ct, ee_O ol, ee_O yo, ee_O os, ee_O nw, ee_N wf, ee_N rf, ee_O tg, ca, me') := fun me' h => K me' (fun z => by rw [htg] at z; exact nomatch z) (fun l' hl' => by rw [htg] at hl'; rw [← Option.some.inj hl']; exact h)
    refine br_f (ee_s1 (by omega)) (And.intro (vp_in_nI l16 (by omega)) (ee_if (ee_eN 0 (by omega) (by omega) (by omega)) (fun z => ?_) (fun z => ?_)))
    · refine K' me (pp_Wr_0 (fun q hq => hq.2 ?_))
      have := d4 q l hq.1 l1
      rw [z] at this
      unfold qq_dir at this
      split at this
      · assumption
      · exact absurd this (by decide)
    · have allw : ∀ q, (st q = 16 + t ∧ kd q ≠ 0) ↔ st q = 16 + t := by
        intro q
        refine ⟨fun y => y.1, fun y => ⟨y, fun y0 => ?_⟩⟩
        have := d4 q l y l1
        unfold qq_dir at this
        rw [if_pos y0, if_neg z] at this
        exact absurd this (by decide)
      refine ⟨17, ?_⟩
      by_cases hv : v2.toInt ≤ 0
      · have hle : v2 ≤ 0 := by rw [Int32.le_iff_toInt_le]; exact hv
        refine br_f (by decide) (br_f (ee_s1 (by omega)) (br_t hle (K' me ?_)))
        intro x
        refine ⟨fun s _ _ _ y => ?_, fun _ => rfl⟩
        unfold qq_lim at y
        rw [if_pos hv] at y; omega
      · obtain ⟨w, hw, rfl⟩ := nI_of (x := v2) (fun y => by rw [Int32.lt_iff_toInt_lt, show (0 : Int32).toInt = 0 from by decide] at y; omega)
        have hlim : qq_lim (fi l) (nI w) = fi l + w := by
          unfold qq_lim
          rw [if_neg hv, nI_toInt hw]; rfl
        have k := xw_tear40 (ln := ln) (post := post) (t := t) (lw := fi l) (w := w) (me0 := me) hw (fun q hq => ?_) d3 (fun q r hq hr hn => pp_go_dj hB3 (by unfold qq_go; omega) (by unfold qq_go; omega) hn) (fun me' h => K' me' ?_) 16 17 (fi l) (some l) me (by omega) (by omega) (Nat.le_refl _) (by omega) (cn_le _ _) (fun y => nomatch y) (fun c hc => by rw [← Option.some.inj hc]; exact ⟨l1, rfl⟩) (pp_Wr_0 (fun q hq => by have := l2 q hq.1; have := hq.2; omega))
        · rw [Nat.sub_self, show nI w - nI 0 = nI w from by rw [nI_0, Int32.sub_zero]] at k
          exact k
        · obtain ⟨a1, a2, a3, a4, a5, a6, a7⟩ := hB3.1.2.2 q
          have := a7 (by unfold qq_act; omega)
          exact ⟨(pp_b3_lt hB3 (s := q) (by omega)).1, l2 q hq, by omega, a3, a4, a5⟩
        · rw [hlim]; exact pp_Wr_congr h allw
theorem pp_lost_XI {lo hi : Nat} {st' ct' : Nat → Nat} {os' nw' tg' : Nat → Option Nat} (hX : qq_XI N T st kd fi en ln od sb nx lm re rn ct ol yo os nw tg wc wf lo hi rf) (hst : ∀ q, st' q = qq_lost (st q)) (h1 : ∀ d, d < 2 → ct' d = 0 ∧ os' d = none ∧ nw' d = none) (h2 : ∀ t, t < 4 → tg' t = none) : qq_XI N T st' kd fi en ln od sb nx lm re rn ct' ol yo os' nw' tg' 0 wf 0 0 rf := by
  have hl : ∀ q, st' q = 0 ∨ st' q = 7 ∨ st' q = 8 := by
    intro q
    rw [hst q]
    unfold qq_lost
    split <;> omega
  refine ⟨pp_b3_map hX.1 (fun q hq => ?_) (fun q hq => ?_) (fun q hq => ?_) (fun q => ?_) (fun q hq => ?_), ⟨fun d hd => ?_, fun d hd => ?_, fun t ht => ?_⟩, ⟨fun j _ hj => by omega, fun i j _ _ hj => by omega, fun q hq => ?_⟩, ⟨fun j _ hj => by omega, fun i j _ _ hj => by omega, fun q hq => ?_⟩⟩
  · have := hl q; unfold qq_unf at hq; omega
  · have := hl q; unfold qq_act at hq; omega
  · have := hl q; unfold qq_go at hq; omega
  · have := hl q; omega
  · rw [hst q, hq]; rfl
  · rw [(h1 d hd).1]
    refine ⟨by omega, fun i hi => by omega, fun i j _ hj => by omega, fun s hs => ?_, fun i hi => by omega, fun i hi => by omega⟩
    have := hl s; omega
  · rw [(h1 d hd).2.1, (h1 d hd).2.2]
    have no : ∀ q, ¬ qq_R st' kd d q := fun q hq => by have := hl q; have := hq.1; omega
    exact ⟨fun q hq => absurd hq (no q), fun q hq => absurd hq (no q), fun q hq => absurd hq (no q)⟩
  · rw [h2 t ht]
    refine ⟨fun _ q hq => ?_, fun l hl => (nomatch hl), fun q hq => ?_, fun q r hq => ?_⟩
    · have := hl q; omega
    · have := hl q; omega
    · have := hl q; omega
  · have := hl q; unfold qq_W at hq; omega
  · have := hl q; unfold qq_V at hq; omega
/-- behind the tear -/
theorem xw_powerLoss2 {post : Int32 → SX → Prop} {lo hi : Nat} (hX : qq_XI N T st kd fi en ln od sb nx lm re rn ct ol yo os nw tg wc wf lo hi rf)
    (K : ∀ st' fo' ct' os' nw' tg', (∀ q, st' q = qq_lost (st q)) → qq_XI N T st' kd fi en ln od sb nx lm re rn ct' ol yo os' nw' tg' 0 wf 0 0 rf → qq_Blk qq_z st' fi en od bl fo' → post (nI (cn (fun q => qq_unf (st q)) 16)) (nI N, nI T, nI B, nI F, nI 0, nI 0, nI 0, nI 0, nI 0, nI 0, ck, nI sb, ee_N st', ee_N kd, ee_N fi, ee_N en, vl, bo, ee_N od, rd, ee_N bl, fo', ee_O nx, ee_N lm, ee_N re, ee_N rn, ee_N ct', ee_O ol, ee_O yo, ee_O os', ee_O nw', ee_N wf, ee_N rf, ee_O tg', qq_cp me ca 256, me)) : ∃ n, wX_powerLoss_11 post (nI N) (nI T) (nI B) (nI F) (nI wc) (nI rc) (nI hea) (nI lf) (nI dr) (nI ps) ck (nI sb) n 0 0 (ee_N st) (ee_N kd) (ee_N fi) (ee_N en) vl bo (ee_N od) rd (ee_N bl) fo (ee_O nx) (ee_N lm) (ee_N re) (ee_N rn) (ee_N ct) (ee_O ol) (ee_O yo) (ee_O os) (ee_O nw) (ee_N wf) (ee_N rf) (ee_O tg) ca me := by
  have hN := hX.1.1.1
  have hT4 := hX.1.1.2.1
  refine ⟨N + 1, xw_pl11 hN (fun q => by have := (hX.1.1.2.2 q).1; omega) (fun st' fo' h1 h2 => ⟨257, ?_⟩) N 0 (N + 1) st fo (by omega) (by omega) (fun q hq => by omega) (fun q _ => rfl)⟩
  have hst : ∀ q, st' q = qq_lost (st q) := by
    intro q
    rcases Nat.lt_or_ge q N with z | z
    · exact h1 q z
    · rw [h2 q z, (hX.1.1.2.2 q).2.1 z]; rfl
  have hcn : cn (fun q => qq_unf (st q)) N = cn (fun q => qq_unf (st q)) 16 := cn_ext hN (fun q hq w => w.1 ((hX.1.1.2.2 q).2.1 hq))
  rw [hcn]
  have hr : wpX_reset (fun u => post (nI (cn (fun q => qq_unf (st q)) 16)) u) (nI N, nI T, nI B, nI F, nI wc, nI rc, nI hea, nI lf, nI dr, nI ps, ck, nI sb, ee_N st', ee_N kd, ee_N fi, ee_N en, vl, bo, ee_N od, rd, ee_N bl, fo', ee_O nx, ee_N lm, ee_N re, ee_N rn, ee_N ct, ee_O ol, ee_O yo, ee_O os, ee_O nw, ee_N wf, ee_N rf, ee_O tg, qq_cp me ca 256, me) := xw_reset (fun ct' os' nw' tg' a b => K st' fo' ct' os' nw' tg' hst (pp_lost_XI hX hst a b) ⟨fun s hs => ?_, fun q hq => ?_, fun s hs => ?_⟩)
  · have k := xw_pl58 hr 256 0 257 (by omega) (by omega)
    rw [pp_cp0] at k; exact k
  · rw [hst s] at hs; unfold qq_lost at hs; unfold qq_unf at hs; split at hs <;> omega
  · rw [hst q] at hq; unfold qq_lost at hq; unfold qq_unf at hq; split at hq <;> omega
  · rw [hst s] at hs; unfold qq_lost at hs; split at hs <;> omega
end
end
section
/-! the reference's small methods -/
def qq_jn (kd fi en : Nat → Nat) (q s : Nat) : Prop := qq_dir (kd q) = qq_dir (kd s) ∧ qq_dur (kd q) = qq_dur (kd s) ∧ (en q = fi s ∨ en s = fi q)
def qq_rdy (N : Nat) (ys fi en od : Nat → Nat) (s : Nat) : Prop := ys s = 3 ∧ ∀ q, q < N → qq_unf (ys q) → od q < od s → ¬ qq_ov fi en q s
/-- the reference's numbers are small -/
def qq_Yb (N : Nat) (ys kd fi en ln od : Nat → Nat) : Prop := N ≤ 16 ∧ ∀ q, ys q < 32 ∧ kd q ≤ 5 ∧ fi q ≤ 256 ∧ ln q ≤ 256 ∧ en q = fi q + ln q ∧ en q ≤ 256 ∧ od q < 100000
section
variable {N T B F hea lf dr ps sb fl : Nat} {ck : Int32} {ys kd fi en ln od mk : Nat → Nat} {vl bo ca me im va : Nat → Int32}
theorem yw_direction {post : Int32 → Prop} {s : Nat} (hs : s < 16) (hk : kd s < 32) (h : post (nI (qq_dir (kd s)))) : wpY_direction post (nI N, nI T, nI B, nI F, nI sb, ck, nI hea, nI lf, nI dr, nI ps, nI fl, im, ca, me, ee_N ys, ee_N kd, ee_N fi, ee_N ln, vl, bo, ee_N od, va, ee_N mk) (nI s) := by
  refine And.intro (vp_in_nI hs (by omega)) (ee_if (ee_eN 0 (by omega) (by omega) (by omega)) (fun z => ?_) (fun z => ?_))
  · rw [qq_dir, if_pos z] at h; exact h
  · rw [qq_dir, if_neg z] at h; exact h
theorem yw_durable {post : Int32 → Prop} {s : Nat} (hs : s < 16) (hk : kd s < 32) (h : post (nI (qq_dur (kd s)))) : wpY_durable post (nI N, nI T, nI B, nI F, nI sb, ck, nI hea, nI lf, nI dr, nI ps, nI fl, im, ca, me, ee_N ys, ee_N kd, ee_N fi, ee_N ln, vl, bo, ee_N od, va, ee_N mk) (nI s) := by
  refine And.intro (vp_in_nI hs (by omega)) (ee_if (ee_eN 3 (by omega) (by omega) (by omega)) (fun z => ?_) (fun z => And.intro (vp_in_nI hs (by omega)) (ee_if (ee_eN 4 (by omega) (by omega) (by omega)) (fun y => ?_) (fun y => ?_))))
  · rw [qq_dur, if_pos (Or.inl z)] at h; exact h
  · rw [qq_dur, if_pos (Or.inr y)] at h; exact h
  · rw [qq_dur, if_neg (fun w => w.elim z y)] at h; exact h
theorem yw_unfinished {post : Int32 → Prop} {s : Nat} (hs : s < 16) (hm : ys s < 32) (h1 : qq_unf (ys s) → post 1) (h0 : ¬ qq_unf (ys s) → post 0) : wpY_unfinished post (nI N, nI T, nI B, nI F, nI sb, ck, nI hea, nI lf, nI dr, nI ps, nI fl, im, ca, me, ee_N ys, ee_N kd, ee_N fi, ee_N ln, vl, bo, ee_N od, va, ee_N mk) (nI s) := by
  have hin : vp_in (nI s) 16 := vp_in_nI hs (by omega)
  exact And.intro hin (ee_if (ee_eN 0 (by omega) (by omega) (by omega)) (fun z => h0 (fun w => w.1 z)) (fun z0 => And.intro hin (ee_if (ee_eN 7 (by omega) (by omega) (by omega)) (fun z => h0 (fun w => w.2.1 z)) (fun z7 => And.intro hin (ee_if (ee_eN 8 (by omega) (by omega) (by omega)) (fun z => h0 (fun w => w.2.2 z)) (fun z8 => h1 ⟨z0, z7, z8⟩))))))
theorem ye_end {s : Nat} (hs : s < 16) (he : en s = fi s + ln s) : ee_N fi (nI s).toNatClampNeg + ee_N ln (nI s).toNatClampNeg = nI (en s) := by
  rw [ee_rN (by omega), ee_rN (by omega), nI_add, he]
theorem yw_common {post : Int32 → Prop} {a b : Nat} (ha : a < 16) (hb : b < 16) (hY : qq_Yb N ys kd fi en ln od) (h1 : qq_ov fi en a b → post 1) (h0 : ¬ qq_ov fi en a b → post 0) : wpY_common post (nI N, nI T, nI B, nI F, nI sb, ck, nI hea, nI lf, nI dr, nI ps, nI fl, im, ca, me, ee_N ys, ee_N kd, ee_N fi, ee_N ln, vl, bo, ee_N od, va, ee_N mk) (nI a) (nI b) := by
  have ia : vp_in (nI a) 16 := vp_in_nI ha (by omega)
  have ib : vp_in (nI b) 16 := vp_in_nI hb (by omega)
  obtain ⟨a1, a2, a3, a4, a5, a6, a7⟩ := hY.2 a
  obtain ⟨b1, b2, b3, b4, b5, b6, b7⟩ := hY.2 b
  refine And.intro ia (And.intro ib (And.intro ib (pk_le (en b) (fi a) (fun z => h0 (fun w => by unfold qq_ov at w; omega)) (fun z => And.intro ib (And.intro ia (And.intro ia (pk_le (en a) (fi b) (fun z2 => h0 (fun w => by unfold qq_ov at w; omega)) (fun z2 => h1 (by unfold qq_ov; omega)) (ye_end ha a5) (ee_rN (by omega)))))) (ye_end hb b5) (ee_rN (by omega)))))
theorem yw_rd14 {post : Int32 → Prop} {s : Nat} (hs : s < 16) (hY : qq_Yb N ys kd fi en ln od) (h1 : (∀ q, q < N → qq_unf (ys q) → od q < od s → ¬ qq_ov fi en q s) → post 1) (h0 : ¬ (∀ q, q < N → qq_unf (ys q) → od q < od s → ¬ qq_ov fi en q s) → post 0) :
    ∀ m i n, i + m = N → m < n → (∀ q, q < i → qq_unf (ys q) → od q < od s → ¬ qq_ov fi en q s) → wY_ready_14 post (nI s) (nI N) (nI T) (nI B) (nI F) (nI sb) ck (nI hea) (nI lf) (nI dr) (nI ps) (nI fl) im ca me (ee_N ys) (ee_N kd) (ee_N fi) (ee_N ln) vl bo (ee_N od) va (ee_N mk) n (nI i) := by
  have hN := hY.1
  intro m
  induction m with
  | zero =>
    intro i n hm hn h
    obtain ⟨n, rfl⟩ : ∃ k, n = k + 1 := ⟨n - 1, by omega⟩
    exact br_t (nI_le (by omega) (by omega)) (h1 (fun q hq => h q (by omega)))
  | succ m ih =>
    intro i n hm hn h
    obtain ⟨n, rfl⟩ : ∃ k, n = k + 1 := ⟨n - 1, by omega⟩
    obtain ⟨a1, a2, a3, a4, a5, a6, a7⟩ := hY.2 i
    obtain ⟨b1, b2, b3, b4, b5, b6, b7⟩ := hY.2 s
    have nxt : (qq_unf (ys i) → od i < od s → ¬ qq_ov fi en i s) → wY_ready_14 post (nI s) (nI N) (nI T) (nI B) (nI F) (nI sb) ck (nI hea) (nI lf) (nI dr) (nI ps) (nI fl) im ca me (ee_N ys) (ee_N kd) (ee_N fi) (ee_N ln) vl bo (ee_N od) va (ee_N mk) n (nI (i + 1)) := by
      intro z
      refine ih (i + 1) n (by omega) (by omega) (fun q hq => ?_)
      by_cases e : q = i
      · rw [e]; exact z
      · exact h q (by omega)
    refine br_f (nI_ge (by omega) (by omega)) (yw_unfinished (by omega) a1 (fun hu => br_f (by decide) (And.intro (vp_in_nI (by omega) (by omega)) (And.intro (vp_in_nI hs (by omega)) (pk_le (od s) (od i) (fun z => nm_r (nI_1 i) (nxt (fun _ w => by omega))) (fun z => yw_common (by omega) hs hY (fun hv => br_f (by decide) (h0 (fun w => w i (by omega) hu z hv))) (fun hv => br_t rfl (nm_r (nI_1 i) (nxt (fun _ _ => hv))))) (ee_rN (by omega)) (ee_rN (by omega)))))) (fun hu => br_t rfl (nm_r (nI_1 i) (nxt (fun w => absurd w hu)))))
theorem yw_ready {post : Int32 → Prop} {s : Nat} (hs : s < 16) (hY : qq_Yb N ys kd fi en ln od) (h1 : qq_rdy N ys fi en od s → post 1) (h0 : ¬ qq_rdy N ys fi en od s → post 0) : wpY_ready post (nI N, nI T, nI B, nI F, nI sb, ck, nI hea, nI lf, nI dr, nI ps, nI fl, im, ca, me, ee_N ys, ee_N kd, ee_N fi, ee_N ln, vl, bo, ee_N od, va, ee_N mk) (nI s) := by
  have hN := hY.1
  have a1 := (hY.2 s).1
  exact And.intro (vp_in_nI hs (by omega)) (ee_if (ee_eN 3 (by omega) (by omega) (by omega)) (fun z => ⟨N + 1, yw_rd14 hs hY (fun w => h1 ⟨z, w⟩) (fun w => h0 (fun y => w y.2)) N 0 (N + 1) (by omega) (by omega) (fun q hq => by omega)⟩) (fun z => h0 (fun y => z y.1)))
theorem yw_joins {post : Int32 → Prop} {q s : Nat} (hq : q < 16) (hs : s < 16) (hY : qq_Yb N ys kd fi en ln od) (h1 : qq_jn kd fi en q s → post 1) (h0 : ¬ qq_jn kd fi en q s → post 0) : wpY_joins post (nI N, nI T, nI B, nI F, nI sb, ck, nI hea, nI lf, nI dr, nI ps, nI fl, im, ca, me, ee_N ys, ee_N kd, ee_N fi, ee_N ln, vl, bo, ee_N od, va, ee_N mk) (nI q) (nI s) := by
  obtain ⟨a1, a2, a3, a4, a5, a6, a7⟩ := hY.2 q
  obtain ⟨b1, b2, b3, b4, b5, b6, b7⟩ := hY.2 s
  have iq : vp_in (nI q) 16 := vp_in_nI hq (by omega)
  have is : vp_in (nI s) 16 := vp_in_nI hs (by omega)
  have d1 := pp_dirlt (kd q)
  have d2 := pp_dirlt (kd s)
  have u1 := pp_durlt (kd q)
  have u2 := pp_durlt (kd s)
  unfold wpY_joins
  refine yw_direction hq (by omega) (yw_direction hs (by omega) (pk_eq (qq_dir (kd q)) (qq_dir (kd s)) (fun ed => yw_durable hq (by omega) (yw_durable hs (by omega) (pk_eq (qq_dur (kd q)) (qq_dur (kd s)) (fun eu => And.intro iq (And.intro iq (And.intro is (pk_eq (en q) (fi s) (fun e => h1 ⟨ed, eu, Or.inl e⟩) (fun e => And.intro is (And.intro is (And.intro iq (pk_eq (en s) (fi q) (fun e2 => h1 ⟨ed, eu, Or.inr e2⟩) (fun e2 => h0 (fun w => w.2.2.elim e e2)) (ye_end hs b5) (ee_rN (by omega)))))) (ye_end hq a5) (ee_rN (by omega)))))) (fun eu => h0 (fun w => eu w.2.1))))) (fun ed => h0 (fun w => ed w.1))))
theorem yw_tch2 {post : Int32 → Prop} {s : Nat} (hs : s < 16) (hY : qq_Yb N ys kd fi en ln od) (hmk : ∀ q, q < N → mk q < 2 ^ 31) (h1 : (∃ q, q < N ∧ mk q ≠ 0 ∧ qq_jn kd fi en q s) → post 1) (h0 : ¬ (∃ q, q < N ∧ mk q ≠ 0 ∧ qq_jn kd fi en q s) → post 0) :
    ∀ m i n, i + m = N → m < n → (∀ q, q < i → ¬ (mk q ≠ 0 ∧ qq_jn kd fi en q s)) → wY_touches_2 post (nI s) (nI N) (nI T) (nI B) (nI F) (nI sb) ck (nI hea) (nI lf) (nI dr) (nI ps) (nI fl) im ca me (ee_N ys) (ee_N kd) (ee_N fi) (ee_N ln) vl bo (ee_N od) va (ee_N mk) n (nI i) := by
  have hN := hY.1
  intro m
  induction m with
  | zero =>
    intro i n hm hn h
    obtain ⟨n, rfl⟩ : ∃ k, n = k + 1 := ⟨n - 1, by omega⟩
    exact br_t (nI_le (by omega) (by omega)) (h0 (fun ⟨q, hq, w⟩ => h q (by omega) w))
  | succ m ih =>
    intro i n hm hn h
    obtain ⟨n, rfl⟩ : ∃ k, n = k + 1 := ⟨n - 1, by omega⟩
    have nxt : ¬ (mk i ≠ 0 ∧ qq_jn kd fi en i s) → wY_touches_2 post (nI s) (nI N) (nI T) (nI B) (nI F) (nI sb) ck (nI hea) (nI lf) (nI dr) (nI ps) (nI fl) im ca me (ee_N ys) (ee_N kd) (ee_N fi) (ee_N ln) vl bo (ee_N od) va (ee_N mk) n (nI (i + 1)) := by
      intro z
      refine ih (i + 1) n (by omega) (by omega) (fun q hq => ?_)
      by_cases e : q = i
      · rw [e]; exact z
      · exact h q (by omega)
    exact br_f (nI_ge (by omega) (by omega)) (And.intro (vp_in_nI (by omega) (by omega)) (ee_if (ee_eN 0 (by omega) (hmk i (by omega)) (by omega)) (fun z => nm_r (nI_1 i) (nxt (fun w => w.1 z))) (fun z => yw_joins (by omega) hs hY (fun hj => br_f (by decide) (h1 ⟨i, by omega, z, hj⟩)) (fun hj => br_t rfl (nm_r (nI_1 i) (nxt (fun w => hj w.2)))))))
theorem yw_touches {post : Int32 → Prop} {s : Nat} (hs : s < 16) (hY : qq_Yb N ys kd fi en ln od) (hmk : ∀ q, q < N → mk q < 2 ^ 31) (h1 : (∃ q, q < N ∧ mk q ≠ 0 ∧ qq_jn kd fi en q s) → post 1) (h0 : ¬ (∃ q, q < N ∧ mk q ≠ 0 ∧ qq_jn kd fi en q s) → post 0) : wpY_touches post (nI N, nI T, nI B, nI F, nI sb, ck, nI hea, nI lf, nI dr, nI ps, nI fl, im, ca, me, ee_N ys, ee_N kd, ee_N fi, ee_N ln, vl, bo, ee_N od, va, ee_N mk) (nI s) :=
  ⟨N + 1, yw_tch2 hs hY hmk h1 h0 N 0 (N + 1) (by omega) (by omega) (fun q hq => by omega)⟩
theorem yw_bg2 {post : Int32 → Prop} {Rq : Nat → Prop} {s : Nat} (hs : s < 16) (hY : qq_Yb N ys kd fi en ln od) (hR : ∀ q, q < N → (qq_rdy N ys fi en od q ↔ Rq q)) (h1 : (∀ q, q < N → Rq q → fi q < fi s → ¬ qq_jn kd fi en q s) → post 1) (h0 : ¬ (∀ q, q < N → Rq q → fi q < fi s → ¬ qq_jn kd fi en q s) → post 0) :
    ∀ m i n, i + m = N → m < n → (∀ q, q < i → Rq q → fi q < fi s → ¬ qq_jn kd fi en q s) → wY_beginsRun_2 post (nI s) (nI N) (nI T) (nI B) (nI F) (nI sb) ck (nI hea) (nI lf) (nI dr) (nI ps) (nI fl) im ca me (ee_N ys) (ee_N kd) (ee_N fi) (ee_N ln) vl bo (ee_N od) va (ee_N mk) n (nI i) := by
  have hN := hY.1
  intro m
  induction m with
  | zero =>
    intro i n hm hn h
    obtain ⟨n, rfl⟩ : ∃ k, n = k + 1 := ⟨n - 1, by omega⟩
    exact br_t (nI_le (by omega) (by omega)) (h1 (fun q hq => h q (by omega)))
  | succ m ih =>
    intro i n hm hn h
    obtain ⟨n, rfl⟩ : ∃ k, n = k + 1 := ⟨n - 1, by omega⟩
    obtain ⟨a1, a2, a3, a4, a5, a6, a7⟩ := hY.2 i
    obtain ⟨b1, b2, b3, b4, b5, b6, b7⟩ := hY.2 s
    have nxt : (Rq i → fi i < fi s → ¬ qq_jn kd fi en i s) → wY_beginsRun_2 post (nI s) (nI N) (nI T) (nI B) (nI F) (nI sb) ck (nI hea) (nI lf) (nI dr) (nI ps) (nI fl) im ca me (ee_N ys) (ee_N kd) (ee_N fi) (ee_N ln) vl bo (ee_N od) va (ee_N mk) n (nI (i + 1)) := by
      intro z
      refine ih (i + 1) n (by omega) (by omega) (fun q hq => ?_)
      by_cases e : q = i
      · rw [e]; exact z
      · exact h q (by omega)
    exact br_f (nI_ge (by omega) (by omega)) (yw_ready (by omega) hY (fun hr => br_f (by decide) (And.intro (vp_in_nI (by omega) (by omega)) (And.intro (vp_in_nI hs (by omega)) (pk_le (fi s) (fi i) (fun z => nm_r (nI_1 i) (nxt (fun _ w => by omega))) (fun z => yw_joins (by omega) hs hY (fun hj => br_f (by decide) (h0 (fun w => w i (by omega) ((hR i (by omega)).mp hr) z hj))) (fun hj => br_t rfl (nm_r (nI_1 i) (nxt (fun _ _ => hj))))) (ee_rN (by omega)) (ee_rN (by omega)))))) (fun hr => br_t rfl (nm_r (nI_1 i) (nxt (fun w => absurd ((hR i (by omega)).mpr w) hr)))))
theorem yw_beginsRun {post : Int32 → Prop} {Rq : Nat → Prop} {s : Nat} (hs : s < 16) (hY : qq_Yb N ys kd fi en ln od) (hR : ∀ q, q < N → (qq_rdy N ys fi en od q ↔ Rq q)) (h1 : (∀ q, q < N → Rq q → fi q < fi s → ¬ qq_jn kd fi en q s) → post 1) (h0 : ¬ (∀ q, q < N → Rq q → fi q < fi s → ¬ qq_jn kd fi en q s) → post 0) : wpY_beginsRun post (nI N, nI T, nI B, nI F, nI sb, ck, nI hea, nI lf, nI dr, nI ps, nI fl, im, ca, me, ee_N ys, ee_N kd, ee_N fi, ee_N ln, vl, bo, ee_N od, va, ee_N mk) (nI s) :=
  ⟨N + 1, yw_bg2 hs hY hR h1 h0 N 0 (N + 1) (by omega) (by omega) (fun q hq => by omega)⟩
theorem yw_ah4 {post : Int32 → Prop} {Rq Q : Nat → Prop} {d : Nat} (hd : d < 2) (hh : hea ≤ 256) (hY : qq_Yb N ys kd fi en ln od) (hR : ∀ q, q < N → (qq_rdy N ys fi en od q ↔ Rq q)) (hQ : ∀ s, Q s ↔ (s < N ∧ Rq s ∧ qq_dir (kd s) = d ∧ hea ≤ fi s ∧ (∀ q, q < N → Rq q → fi q < fi s → ¬ qq_jn kd fi en q s)))
    (K : ∀ r, (r = none → ∀ s, ¬ Q s) → (∀ b, r = some b → Q b ∧ ∀ s, Q s → fi b ≤ fi s) → post (ee_o r)) :
    ∀ m i n r, i + m = N → m < n → (r = none → ∀ s, s < i → ¬ Q s) → (∀ b, r = some b → Q b ∧ ∀ s, s < i → Q s → fi b ≤ fi s) → wY_ahead_4 post (nI d) (nI N) (nI T) (nI B) (nI F) (nI sb) ck (nI hea) (nI lf) (nI dr) (nI ps) (nI fl) im ca me (ee_N ys) (ee_N kd) (ee_N fi) (ee_N ln) vl bo (ee_N od) va (ee_N mk) n (ee_o r) (nI i) := by
  have hN := hY.1
  intro m
  induction m with
  | zero =>
    intro i n r hm hn h1 h2
    obtain ⟨n, rfl⟩ : ∃ k, n = k + 1 := ⟨n - 1, by omega⟩
    refine br_t (nI_le (by omega) (by omega)) (K r (fun z s hs => h1 z s (by have := ((hQ s).mp hs).1; omega) hs) (fun b hb => ⟨(h2 b hb).1, fun s hs => (h2 b hb).2 s (by have := ((hQ s).mp hs).1; omega) hs⟩))
  | succ m ih =>
    intro i n r hm hn h1 h2
    obtain ⟨n, rfl⟩ : ∃ k, n = k + 1 := ⟨n - 1, by omega⟩
    obtain ⟨a1, a2, a3, a4, a5, a6, a7⟩ := hY.2 i
    have dl := pp_dirlt (kd i)
    have keep : ¬ Q i → wY_ahead_4 post (nI d) (nI N) (nI T) (nI B) (nI F) (nI sb) ck (nI hea) (nI lf) (nI dr) (nI ps) (nI fl) im ca me (ee_N ys) (ee_N kd) (ee_N fi) (ee_N ln) vl bo (ee_N od) va (ee_N mk) n (ee_o r) (nI (i + 1)) := by
      intro z
      refine ih (i + 1) n r (by omega) (by omega) (fun w s hs hq => ?_) (fun b hb => ⟨(h2 b hb).1, fun s hs hq => ?_⟩)
      · by_cases e : s = i
        · rw [e] at hq; exact z hq
        · exact h1 w s (by omega) hq
      · by_cases e : s = i
        · rw [e] at hq; exact absurd hq z
        · exact (h2 b hb).2 s (by omega) hq
    have take : Q i → (∀ b, r = some b → fi i ≤ fi b) → wY_ahead_4 post (nI d) (nI N) (nI T) (nI B) (nI F) (nI sb) ck (nI hea) (nI lf) (nI dr) (nI ps) (nI fl) im ca me (ee_N ys) (ee_N kd) (ee_N fi) (ee_N ln) vl bo (ee_N od) va (ee_N mk) n (nI i) (nI (i + 1)) := by
      intro z zb
      refine ih (i + 1) n (some i) (by omega) (by omega) (fun w => (nomatch w)) (fun b hb => ?_)
      rw [← Option.some.inj hb]
      refine ⟨z, fun s hs hq => ?_⟩
      by_cases e : s = i
      · rw [e]; exact Nat.le_refl _
      · rcases r with _ | b'
        · exact absurd hq (h1 rfl s (by omega))
        · exact Nat.le_trans (zb b' rfl) ((h2 b' rfl).2 s (by omega) hq)
    refine br_f (nI_ge (by omega) (by omega)) (yw_ready (by omega) hY (fun hr => br_f (by decide) (yw_direction (by omega) (by omega) (pk_eq (qq_dir (kd i)) d (fun ed => And.intro (vp_in_nI (by omega) (by omega)) (pk_lt (fi i) hea (fun z => nm_r (nI_1 i) (keep (fun w => by have := ((hQ i).mp w).2.2.2.1; omega))) (fun z => yw_beginsRun (by omega) hY hR (fun hb => br_f (by decide) ?_) (fun hb => br_t rfl (nm_r (nI_1 i) (keep (fun w => hb ((hQ i).mp w).2.2.2.2))))) (ee_rN (by omega)))) (fun ed => nm_r (nI_1 i) (keep (fun w => ed ((hQ i).mp w).2.2.1)))))) (fun hr => br_t rfl (nm_r (nI_1 i) (keep (fun w => hr ((hR i (by omega)).mpr ((hQ i).mp w).2.1))))))
    have hQi : Q i := (hQ i).mpr ⟨by omega, (hR i (by omega)).mp hr, ed, z, hb⟩
    rcases r with _ | b
    · exact br_t ee_o1 (nm_r (nI_1 i) (take hQi (fun b hb => nomatch hb)))
    · obtain ⟨q1, q2⟩ := h2 b rfl
      have hb16 : b < N := ((hQ b).mp q1).1
      obtain ⟨b1, b2, b3, b4, b5, b6, b7⟩ := hY.2 b
      refine br_f (ee_s1 (by omega)) (And.intro (vp_in_nI (by omega) (by omega)) (And.intro (vp_in_nI (by omega) (by omega)) (pk_le (fi b) (fi i) (fun z => nm_r (nI_1 i) ?_) (fun z => nm_r (nI_1 i) (take hQi (fun b' hb' => by rw [← Option.some.inj hb']; omega))) (ee_rN (by omega)) (ee_rN (by omega)))))
      refine ih (i + 1) n (some b) (by omega) (by omega) (fun w => (nomatch w)) (fun b' hb' => ?_)
      rw [← Option.some.inj hb']
      refine ⟨q1, fun s hs hq => ?_⟩
      by_cases e : s = i
      · rw [e]; exact z
      · exact q2 s (by omega) hq
theorem yw_ahead {post : Int32 → Prop} {Rq Q : Nat → Prop} {d : Nat} (hd : d < 2) (hh : hea ≤ 256) (hY : qq_Yb N ys kd fi en ln od) (hR : ∀ q, q < N → (qq_rdy N ys fi en od q ↔ Rq q)) (hQ : ∀ s, Q s ↔ (s < N ∧ Rq s ∧ qq_dir (kd s) = d ∧ hea ≤ fi s ∧ (∀ q, q < N → Rq q → fi q < fi s → ¬ qq_jn kd fi en q s)))
    (K : ∀ r, (r = none → ∀ s, ¬ Q s) → (∀ b, r = some b → Q b ∧ ∀ s, Q s → fi b ≤ fi s) → post (ee_o r)) : wpY_ahead post (nI N, nI T, nI B, nI F, nI sb, ck, nI hea, nI lf, nI dr, nI ps, nI fl, im, ca, me, ee_N ys, ee_N kd, ee_N fi, ee_N ln, vl, bo, ee_N od, va, ee_N mk) (nI d) :=
  ⟨N + 1, yw_ah4 hd hh hY hR hQ K N 0 (N + 1) none (by omega) (by omega) (fun _ s hs => by omega) (fun b hb => nomatch hb)⟩
theorem yw_ea4 {post : Int32 → Prop} {Rq Q : Nat → Prop} {d : Nat} (hd : d < 2) (hY : qq_Yb N ys kd fi en ln od) (hR : ∀ q, q < N → (qq_rdy N ys fi en od q ↔ Rq q)) (hQ : ∀ s, Q s ↔ (s < N ∧ Rq s ∧ qq_dir (kd s) = d))
    (K : ∀ r, (r = none → ∀ s, ¬ Q s) → (∀ b, r = some b → Q b ∧ ∀ s, Q s → od b ≤ od s) → post (ee_o r)) :
    ∀ m i n r, i + m = N → m < n → (r = none → ∀ s, s < i → ¬ Q s) → (∀ b, r = some b → Q b ∧ ∀ s, s < i → Q s → od b ≤ od s) → wY_earliest_4 post (nI d) (nI N) (nI T) (nI B) (nI F) (nI sb) ck (nI hea) (nI lf) (nI dr) (nI ps) (nI fl) im ca me (ee_N ys) (ee_N kd) (ee_N fi) (ee_N ln) vl bo (ee_N od) va (ee_N mk) n (ee_o r) (nI i) := by
  have hN := hY.1
  intro m
  induction m with
  | zero =>
    intro i n r hm hn h1 h2
    obtain ⟨n, rfl⟩ : ∃ k, n = k + 1 := ⟨n - 1, by omega⟩
    refine br_t (nI_le (by omega) (by omega)) (K r (fun z s hs => h1 z s (by have := ((hQ s).mp hs).1; omega) hs) (fun b hb => ⟨(h2 b hb).1, fun s hs => (h2 b hb).2 s (by have := ((hQ s).mp hs).1; omega) hs⟩))
  | succ m ih =>
    intro i n r hm hn h1 h2
    obtain ⟨n, rfl⟩ : ∃ k, n = k + 1 := ⟨n - 1, by omega⟩
    obtain ⟨a1, a2, a3, a4, a5, a6, a7⟩ := hY.2 i
    have dl := pp_dirlt (kd i)
    have keep : ¬ Q i → wY_earliest_4 post (nI d) (nI N) (nI T) (nI B) (nI F) (nI sb) ck (nI hea) (nI lf) (nI dr) (nI ps) (nI fl) im ca me (ee_N ys) (ee_N kd) (ee_N fi) (ee_N ln) vl bo (ee_N od) va (ee_N mk) n (ee_o r) (nI (i + 1)) := by
      intro z
      refine ih (i + 1) n r (by omega) (by omega) (fun w s hs hq => ?_) (fun b hb => ⟨(h2 b hb).1, fun s hs hq => ?_⟩)
      · by_cases e : s = i
        · rw [e] at hq; exact z hq
        · exact h1 w s (by omega) hq
      · by_cases e : s = i
        · rw [e] at hq; exact absurd hq z
        · exact (h2 b hb).2 s (by omega) hq
    have take : Q i → (∀ b, r = some b → od i ≤ od b) → wY_earliest_4 post (nI d) (nI N) (nI T) (nI B) (nI F) (nI sb) ck (nI hea) (nI lf) (nI dr) (nI ps) (nI fl) im ca me (ee_N ys) (ee_N kd) (ee_N fi) (ee_N ln) vl bo (ee_N od) va (ee_N mk) n (nI i) (nI (i + 1)) := by
      intro z zb
      refine ih (i + 1) n (some i) (by omega) (by omega) (fun w => (nomatch w)) (fun b hb => ?_)
      rw [← Option.some.inj hb]
      refine ⟨z, fun s hs hq => ?_⟩
      by_cases e : s = i
      · rw [e]; exact Nat.le_refl _
      · rcases r with _ | b'
        · exact absurd hq (h1 rfl s (by omega))
        · exact Nat.le_trans (zb b' rfl) ((h2 b' rfl).2 s (by omega) hq)
    refine br_f (nI_ge (by omega) (by omega)) (yw_ready (by omega) hY (fun hr => br_f (by decide) (yw_direction (by omega) (by omega) (pk_eq (qq_dir (kd i)) d (fun ed => ?_) (fun ed => nm_r (nI_1 i) (keep (fun w => ed ((hQ i).mp w).2.2)))))) (fun hr => br_t rfl (nm_r (nI_1 i) (keep (fun w => hr ((hR i (by omega)).mpr ((hQ i).mp w).2.1))))))
    have hQi : Q i := (hQ i).mpr ⟨by omega, (hR i (by omega)).mp hr, ed⟩
    rcases r with _ | b
    · exact br_t ee_o1 (nm_r (nI_1 i) (take hQi (fun b hb => nomatch hb)))
    · obtain ⟨q1, q2⟩ := h2 b rfl
      have hb16 : b < N := ((hQ b).mp q1).1
      obtain ⟨b1, b2, b3, b4, b5, b6, b7⟩ := hY.2 b
      refine br_f (ee_s1 (by omega)) (And.intro (vp_in_nI (by omega) (by omega)) (And.intro (vp_in_nI (by omega) (by omega)) (pk_le (od b) (od i) (fun z => nm_r (nI_1 i) ?_) (fun z => nm_r (nI_1 i) (take hQi (fun b' hb' => by rw [← Option.some.inj hb']; omega))) (ee_rN (by omega)) (ee_rN (by omega)))))
      refine ih (i + 1) n (some b) (by omega) (by omega) (fun w => (nomatch w)) (fun b' hb' => ?_)
      rw [← Option.some.inj hb']
      refine ⟨q1, fun s hs hq => ?_⟩
      by_cases e : s = i
      · rw [e]; exact z
      · exact q2 s (by omega) hq
theorem yw_earliest {post : Int32 → Prop} {Rq Q : Nat → Prop} {d : Nat} (hd : d < 2) (hY : qq_Yb N ys kd fi en ln od) (hR : ∀ q, q < N → (qq_rdy N ys fi en od q ↔ Rq q)) (hQ : ∀ s, Q s ↔ (s < N ∧ Rq s ∧ qq_dir (kd s) = d))
    (K : ∀ r, (r = none → ∀ s, ¬ Q s) → (∀ b, r = some b → Q b ∧ ∀ s, Q s → od b ≤ od s) → post (ee_o r)) : wpY_earliest post (nI N, nI T, nI B, nI F, nI sb, ck, nI hea, nI lf, nI dr, nI ps, nI fl, im, ca, me, ee_N ys, ee_N kd, ee_N fi, ee_N ln, vl, bo, ee_N od, va, ee_N mk) (nI d) :=
  ⟨N + 1, yw_ea4 hd hY hR hQ K N 0 (N + 1) none (by omega) (by omega) (fun _ s hs => by omega) (fun b hb => nomatch hb)⟩
theorem yw_ct4 {post : Int32 → Prop} {w : Nat} (hw : w < 2 ^ 31) (hN : N ≤ 16) (hS : ∀ q, ys q < 32) (h : post (nI (cn (fun q => ys q = w) N))) :
    ∀ m i n, i + m = N → m < n → wY_count_4 post (nI w) (nI N) (nI T) (nI B) (nI F) (nI sb) ck (nI hea) (nI lf) (nI dr) (nI ps) (nI fl) im ca me (ee_N ys) (ee_N kd) (ee_N fi) (ee_N ln) vl bo (ee_N od) va (ee_N mk) n (nI (cn (fun q => ys q = w) i)) (nI i) := by
  intro m
  induction m with
  | zero =>
    intro i n hm hn
    obtain ⟨n, rfl⟩ : ∃ k, n = k + 1 := ⟨n - 1, by omega⟩
    have e : i = N := by omega
    subst e
    exact br_t (nI_le (by omega) (by omega)) h
  | succ m ih =>
    intro i n hm hn
    obtain ⟨n, rfl⟩ : ∃ k, n = k + 1 := ⟨n - 1, by omega⟩
    have hs := hS i
    have k := ih (i + 1) n (by omega) (by omega)
    rw [show cn (fun q => ys q = w) (i + 1) = cn (fun q => ys q = w) i + b01 (ys i = w) from rfl] at k
    refine br_f (nI_ge (by omega) (by omega)) (And.intro (vp_in_nI (by omega) (by omega)) (ee_if (ee_eN w (by omega) (by omega) hw) (fun z => ?_) (fun z => ?_)))
    · rw [b01_t z] at k
      exact nm_r (nI_1 _) (nm_r (nI_1 i) k)
    · rw [b01_f z, Nat.add_zero] at k
      exact nm_r (nI_1 i) k
theorem yw_count {post : Int32 → Prop} {w : Nat} (hw : w < 2 ^ 31) (hN : N ≤ 16) (hS : ∀ q, ys q < 32) (h : post (nI (cn (fun q => ys q = w) N))) : wpY_count post (nI N, nI T, nI B, nI F, nI sb, ck, nI hea, nI lf, nI dr, nI ps, nI fl, im, ca, me, ee_N ys, ee_N kd, ee_N fi, ee_N ln, vl, bo, ee_N od, va, ee_N mk) (nI w) :=
  ⟨N + 1, yw_ct4 hw hN hS h N 0 (N + 1) (by omega) (by omega)⟩
theorem yw_ch2 {post : SY → Prop} {f t : Nat} (hf : f < 2 ^ 31) (hN : N ≤ 16) (hS : ∀ q, ys q < 32) (K : ∀ ys', (∀ q, q < N → ys' q = if ys q = f then t else ys q) → (∀ q, N ≤ q → ys' q = ys q) → post (nI N, nI T, nI B, nI F, nI sb, ck, nI hea, nI lf, nI dr, nI ps, nI fl, im, ca, me, ee_N ys', ee_N kd, ee_N fi, ee_N ln, vl, bo, ee_N od, va, ee_N mk)) :
    ∀ m i n ys', i + m = N → m < n → (∀ q, q < i → ys' q = if ys q = f then t else ys q) → (∀ q, i ≤ q → ys' q = ys q) → wY_change_2 post (nI f) (nI t) (nI N) (nI T) (nI B) (nI F) (nI sb) ck (nI hea) (nI lf) (nI dr) (nI ps) (nI fl) n (nI i) im ca me (ee_N ys') (ee_N kd) (ee_N fi) (ee_N ln) vl bo (ee_N od) va (ee_N mk) := by
  intro m
  induction m with
  | zero =>
    intro i n ys' hm hn h1 h2
    obtain ⟨n, rfl⟩ : ∃ k, n = k + 1 := ⟨n - 1, by omega⟩
    have e : i = N := by omega
    subst e
    exact br_t (nI_le (by omega) (by omega)) (K ys' h1 h2)
  | succ m ih =>
    intro i n ys' hm hn h1 h2
    obtain ⟨n, rfl⟩ : ∃ k, n = k + 1 := ⟨n - 1, by omega⟩
    have hs := hS i
    have e0 := h2 i (Nat.le_refl _)
    have hin : vp_in (nI i) 16 := vp_in_nI (by omega) (by omega)
    refine br_f (nI_ge (by omega) (by omega)) (And.intro hin (ee_if (ee_eN f (by omega) (by omega) hf) (fun z => And.intro hin (nm_r (ee_wN (by omega)) (nm_r (nI_1 i) (ih (i + 1) n _ (by omega) (by omega) (fun q hq => ?_) (fun q hq => ?_))))) (fun z => nm_r (nI_1 i) (ih (i + 1) n ys' (by omega) (by omega) (fun q hq => ?_) (fun q hq => h2 q (by omega))))))
    · by_cases e : q = i
      · rw [e, ee_us, if_pos (by rw [← e0]; exact z)]
      · rw [ee_un e]; exact h1 q (by omega)
    · rw [ee_un (by omega)]; exact h2 q (by omega)
    · by_cases e : q = i
      · rw [e, if_neg (by rw [← e0]; exact z)]; exact e0
      · exact h1 q (by omega)
theorem yw_change {post : SY → Prop} {f t : Nat} (hf : f < 2 ^ 31) (hN : N ≤ 16) (hS : ∀ q, ys q < 32) (K : ∀ ys', (∀ q, q < N → ys' q = if ys q = f then t else ys q) → (∀ q, N ≤ q → ys' q = ys q) → post (nI N, nI T, nI B, nI F, nI sb, ck, nI hea, nI lf, nI dr, nI ps, nI fl, im, ca, me, ee_N ys', ee_N kd, ee_N fi, ee_N ln, vl, bo, ee_N od, va, ee_N mk)) : wpY_change post (nI N, nI T, nI B, nI F, nI sb, ck, nI hea, nI lf, nI dr, nI ps, nI fl, im, ca, me, ee_N ys, ee_N kd, ee_N fi, ee_N ln, vl, bo, ee_N od, va, ee_N mk) (nI f) (nI t) :=
  ⟨N + 1, yw_ch2 hf hN hS K N 0 (N + 1) ys (by omega) (by omega) (fun q hq => by omega) (fun q _ => rfl)⟩
end
end
section
/-! the reference's pick and dispatch -/
section
variable {N T B F hea lf dr ps sb fl : Nat} {ck : Int32} {ys kd fi en ln od mk : Nat → Nat} {vl bo ca me im va : Nat → Int32}
theorem yw_pk44 {post : SY → Prop} {J : _} {Rq M : Nat → Prop} {r : Nat} {mk0 : Nat → Nat} (hY : qq_Yb N ys kd fi en ln od) (hR : ∀ q, q < N → (qq_rdy N ys fi en od q ↔ Rq q)) (hM1 : ∀ q, M q → q < N ∧ Rq q) (hM2 : ∀ p q, M p → q < N → Rq q → qq_jn kd fi en p q → M q)
    (K : ∀ mk, (∀ q, q < N → mk0 q ≠ 0 → mk q ≠ 0) → (∀ q, q < N → mk q ≠ 0 → M q) → (∀ q, q < N → mk q ≤ 1) → (∀ p q, p < N → mk0 p ≠ 0 → M q → qq_jn kd fi en p q → mk q ≠ 0) → J (nI (r + 1)) im ca me (ee_N ys) (ee_N kd) (ee_N fi) (ee_N ln) vl bo (ee_N od) va (ee_N mk)) :
    ∀ m i n mk, i + m = N → m < n → (∀ q, q < N → mk0 q ≠ 0 → mk q ≠ 0) → (∀ q, q < N → mk q ≠ 0 → M q) → (∀ q, q < N → mk q ≤ 1) → (∀ p q, q < i → p < N → mk0 p ≠ 0 → M q → qq_jn kd fi en p q → mk q ≠ 0) → wY_pick_44 post J (nI r) (nI N) (nI T) (nI B) (nI F) (nI sb) ck (nI hea) (nI lf) (nI dr) (nI ps) (nI fl) n (nI i) im ca me (ee_N ys) (ee_N kd) (ee_N fi) (ee_N ln) vl bo (ee_N od) va (ee_N mk) := by
  have hN := hY.1
  intro m
  induction m with
  | zero =>
    intro i n mk hm hn h1 h2 h3 h4
    obtain ⟨n, rfl⟩ : ∃ k, n = k + 1 := ⟨n - 1, by omega⟩
    refine br_t (nI_le (by omega) (by omega)) (nm_r (nI_1 r) (K mk h1 h2 h3 (fun p q hp a b c => h4 p q (by have := (hM1 q b).1; omega) hp a b c)))
  | succ m ih =>
    intro i n mk hm hn h1 h2 h3 h4
    obtain ⟨n, rfl⟩ : ∃ k, n = k + 1 := ⟨n - 1, by omega⟩
    have hin : vp_in (nI i) 16 := vp_in_nI (by omega) (by omega)
    have hmi := h3 i (by omega)
    have keep : (∀ p, p < N → mk0 p ≠ 0 → M i → qq_jn kd fi en p i → mk i ≠ 0) → wY_pick_44 post J (nI r) (nI N) (nI T) (nI B) (nI F) (nI sb) ck (nI hea) (nI lf) (nI dr) (nI ps) (nI fl) n (nI (i + 1)) im ca me (ee_N ys) (ee_N kd) (ee_N fi) (ee_N ln) vl bo (ee_N od) va (ee_N mk) := by
      intro z
      refine ih (i + 1) n mk (by omega) (by omega) h1 h2 h3 (fun p q hq => ?_)
      by_cases e : q = i
      · rw [e]; exact z p
      · exact h4 p q (by omega)
    refine br_f (nI_ge (by omega) (by omega)) (And.intro hin (ee_if (ee_eN 0 (by omega) (by omega) (by omega)) (fun z => yw_ready (by omega) hY (fun hr => br_f (by decide) (yw_touches (by omega) hY (fun q hq => by have := h3 q hq; omega) (fun ht => br_f (by decide) (And.intro hin (nm_r (e' := ee_N (ee_u mk i 1)) ?_ (nm_r (nI_1 i) (ih (i + 1) n _ (by omega) (by omega) (fun q hq w => ?_) (fun q hq w => ?_) (fun q hq => ?_) (fun p q hq hp a b c => ?_)))))) (fun ht => br_t rfl (nm_r (nI_1 i) (keep (fun p hp a b c => absurd ⟨p, hp, h1 p hp a, c⟩ ht)))))) (fun hr => br_t rfl (nm_r (nI_1 i) (keep (fun p hp a b c => absurd ((hR i (by omega)).mpr (hM1 i b).2) hr))))) (fun z => nm_r (nI_1 i) (keep (fun _ _ _ _ _ => z)))))
    · exact ee_wN (v := 1) (by omega)
    · by_cases e : q = i
      · rw [e, ee_us]; omega
      · rw [ee_un e]; exact h1 q hq w
    · by_cases e : q = i
      · obtain ⟨p, p1, p2, p3⟩ := ht
        rw [e]; exact hM2 p i (h2 p p1 p2) (by omega) ((hR i (by omega)).mp hr) p3
      · rw [ee_un e] at w; exact h2 q hq w
    · by_cases e : q = i
      · rw [e, ee_us]; omega
      · rw [ee_un e]; exact h3 q hq
    · by_cases e : q = i
      · rw [e, ee_us]; omega
      · rw [ee_un e]; exact h4 p q (by omega) hp a b c
theorem yw_pk34 {post : SY → Prop} {Rq M : Nat → Prop} {s0 : Nat} (hY : qq_Yb N ys kd fi en ln od) (hR : ∀ q, q < N → (qq_rdy N ys fi en od q ↔ Rq q)) (hM0 : M s0) (hM1 : ∀ q, M q → q < N ∧ Rq q) (hM2 : ∀ p q, M p → q < N → Rq q → qq_jn kd fi en p q → M q)
    (hC : ∀ S : Nat → Prop, S s0 → (∀ q, S q → M q) → (∃ q, M q ∧ ¬ S q) → ∃ p q, S p ∧ M q ∧ ¬ S q ∧ qq_jn kd fi en p q)
    (K : ∀ mk, (∀ q, q < N → (mk q ≠ 0 ↔ M q)) → (∀ q, q < N → mk q ≤ 1) → post (nI N, nI T, nI B, nI F, nI sb, ck, nI hea, nI lf, nI dr, nI ps, nI fl, im, ca, me, ee_N ys, ee_N kd, ee_N fi, ee_N ln, vl, bo, ee_N od, va, ee_N mk)) :
    ∀ m r n mk, r + m = N → m < n → mk s0 ≠ 0 → (∀ q, q < N → mk q ≠ 0 → M q) → (∀ q, q < N → mk q ≤ 1) → ((∀ q, M q → mk q ≠ 0) ∨ r + 1 ≤ cn (fun q => mk q ≠ 0) N) → wY_pick_34 post (nI N) (nI T) (nI B) (nI F) (nI sb) ck (nI hea) (nI lf) (nI dr) (nI ps) (nI fl) n (nI r) im ca me (ee_N ys) (ee_N kd) (ee_N fi) (ee_N ln) vl bo (ee_N od) va (ee_N mk) := by
  have hN := hY.1
  intro m
  induction m with
  | zero =>
    intro r n mk hm hn h0 h1 h2 h3
    obtain ⟨n, rfl⟩ : ∃ k, n = k + 1 := ⟨n - 1, by omega⟩
    refine br_t (nI_le (by omega) (by omega)) (K mk (fun q hq => ⟨h1 q hq, fun w => ?_⟩) h2)
    rcases h3 with h3 | h3
    · exact h3 q w
    · have := cn_le (fun q => mk q ≠ 0) N
      omega
  | succ m ih =>
    intro r n mk hm hn h0 h1 h2 h3
    obtain ⟨n, rfl⟩ : ∃ k, n = k + 1 := ⟨n - 1, by omega⟩
    refine br_f (nI_ge (by omega) (by omega)) ⟨N + 1, yw_pk44 (mk0 := mk) hY hR hM1 hM2 (fun mk' a b c d => ih (r + 1) n mk' (by omega) (by omega) (a s0 (hM1 s0 hM0).1 h0) b c ?_) N 0 (N + 1) mk (by omega) (by omega) (fun _ _ w => w) h1 h2 (fun p q hq => by omega)⟩
    rcases Classical.em (∀ q, M q → mk q ≠ 0) with z | z
    · exact Or.inl (fun q hq => a q (hM1 q hq).1 (z q hq))
    · have hex : ∃ q, M q ∧ ¬ (q < N ∧ mk q ≠ 0) := Classical.byContradiction (fun w => z (fun q hq => Classical.byContradiction (fun y => w ⟨q, hq, fun x => y x.2⟩)))
      obtain ⟨p, q, p1, q1, q2, j⟩ := hC (fun q => q < N ∧ mk q ≠ 0) ⟨(hM1 s0 hM0).1, h0⟩ (fun q w => h1 q w.1 w.2) hex
      have hq := (hM1 q q1).1
      have lt := cn_lt (P := fun q => mk q ≠ 0) (Q := fun q => mk' q ≠ 0) (a := q) (fun w => q2 ⟨hq, w⟩) (d p q p1.1 p1.2 q1 j) (N := N) (fun x hx w => a x hx w) hq
      refine Or.inr ?_
      rcases h3 with h3 | h3
      · exact absurd h3 z
      · omega
theorem yw_pk2 {post : SY → Prop} {s0 : Nat} (hN : N ≤ 16) (h0 : s0 < N) (K : ∀ mk, (∀ q, q < N → mk q = if q = s0 then 1 else 0) → ∃ n, wY_pick_34 post (nI N) (nI T) (nI B) (nI F) (nI sb) ck (nI hea) (nI lf) (nI dr) (nI ps) (nI fl) n (nI 0) im ca me (ee_N ys) (ee_N kd) (ee_N fi) (ee_N ln) vl bo (ee_N od) va (ee_N mk)) :
    ∀ m i n mk, i + m = N → m < n → (∀ q, q < i → mk q = if q = s0 then 1 else 0) → wY_pick_2 post (nI s0) (nI N) (nI T) (nI B) (nI F) (nI sb) ck (nI hea) (nI lf) (nI dr) (nI ps) (nI fl) n (nI i) im ca me (ee_N ys) (ee_N kd) (ee_N fi) (ee_N ln) vl bo (ee_N od) va (ee_N mk) := by
  intro m
  induction m with
  | zero =>
    intro i n mk hm hn h
    obtain ⟨n, rfl⟩ : ∃ k, n = k + 1 := ⟨n - 1, by omega⟩
    exact br_t (nI_le (by omega) (by omega)) (K mk (fun q hq => h q (by omega)))
  | succ m ih =>
    intro i n mk hm hn h
    obtain ⟨n, rfl⟩ : ∃ k, n = k + 1 := ⟨n - 1, by omega⟩
    have hin : vp_in (nI i) 16 := vp_in_nI (by omega) (by omega)
    refine br_f (nI_ge (by omega) (by omega)) (pk_eq i s0 (fun z => And.intro hin (nm_r (e' := ee_N (ee_u mk i 1)) (ee_wN (v := 1) (by omega)) (nm_r (nI_1 i) (ih (i + 1) n _ (by omega) (by omega) (fun q hq => ?_))))) (fun z => And.intro hin (nm_r (e' := ee_N (ee_u mk i 0)) (ee_wN (v := 0) (by omega)) (nm_r (nI_1 i) (ih (i + 1) n _ (by omega) (by omega) (fun q hq => ?_))))))
    · by_cases e : q = i
      · rw [e, ee_us, if_pos z]
      · rw [ee_un e]; exact h q (by omega)
    · by_cases e : q = i
      · rw [e, ee_us, if_neg z]
      · rw [ee_un e]; exact h q (by omega)
theorem yw_pick {post : SY → Prop} {Rq M : Nat → Prop} {s0 : Nat} (hY : qq_Yb N ys kd fi en ln od) (hR : ∀ q, q < N → (qq_rdy N ys fi en od q ↔ Rq q)) (hM0 : M s0) (hM1 : ∀ q, M q → q < N ∧ Rq q) (hM2 : ∀ p q, M p → q < N → Rq q → qq_jn kd fi en p q → M q)
    (hC : ∀ S : Nat → Prop, S s0 → (∀ q, S q → M q) → (∃ q, M q ∧ ¬ S q) → ∃ p q, S p ∧ M q ∧ ¬ S q ∧ qq_jn kd fi en p q)
    (K : ∀ mk, (∀ q, q < N → (mk q ≠ 0 ↔ M q)) → (∀ q, q < N → mk q ≤ 1) → post (nI N, nI T, nI B, nI F, nI sb, ck, nI hea, nI lf, nI dr, nI ps, nI fl, im, ca, me, ee_N ys, ee_N kd, ee_N fi, ee_N ln, vl, bo, ee_N od, va, ee_N mk)) : wpY_pick post (nI N, nI T, nI B, nI F, nI sb, ck, nI hea, nI lf, nI dr, nI ps, nI fl, im, ca, me, ee_N ys, ee_N kd, ee_N fi, ee_N ln, vl, bo, ee_N od, va, ee_N mk) (nI s0) := by
  have hN := hY.1
  have h0 := (hM1 s0 hM0).1
  refine ⟨N + 1, yw_pk2 hN h0 (fun mk' hmk => ⟨N + 1, yw_pk34 hY hR hM0 hM1 hM2 hC K N 0 (N + 1) mk' (by omega) (by omega) ?_ (fun q hq w => ?_) (fun q hq => ?_) (Or.inr ?_)⟩) N 0 (N + 1) mk (by omega) (by omega) (fun q hq => by omega)⟩
  · rw [hmk s0 h0, if_pos rfl]; omega
  · rw [hmk q hq] at w
    by_cases e : q = s0
    · rw [e]; exact hM0
    · rw [if_neg e] at w; exact absurd rfl w
  · rw [hmk q hq]; split <;> omega
  · exact cn_pos (P := fun q => mk' q ≠ 0) (a := s0) (by rw [hmk s0 h0, if_pos rfl]; omega) h0
theorem yw_dp232 {post : Int32 → SY → Prop} {M : Nat → Prop} {t e : Nat} {ys0 : Nat → Nat} (ht : t < 4) (hY : qq_Yb N ys0 kd fi en ln od) (hmk : ∀ q, q < N → (mk q ≠ 0 ↔ M q)) (hmk1 : ∀ q, q < N → mk q ≤ 1) (he : ∀ q, M q → en q ≤ e) (hex : ∃ q, q < N ∧ M q ∧ en q = e) (he2 : e ≤ 256)
    (K : ∀ ys, (∀ q, q < N → (M q → ys q = 16 + t) ∧ (¬ M q → ys q = ys0 q)) → (∀ q, N ≤ q → ys q = ys0 q) → post (nI t) (nI N, nI T, nI B, nI F, nI sb, ck, nI e, nI lf, nI dr, nI ps, nI fl, im, ca, me, ee_N ys, ee_N kd, ee_N fi, ee_N ln, vl, bo, ee_N od, va, ee_N mk)) :
    ∀ m i n h ys, i + m = N → m < n → h ≤ e → (∀ q, q < i → M q → en q ≤ h) → (∀ q, q < i → (M q → ys q = 16 + t) ∧ (¬ M q → ys q = ys0 q)) → (∀ q, i ≤ q → ys q = ys0 q) → wY_dispatch_232 post (nI t) (nI N) (nI T) (nI B) (nI F) (nI sb) ck (nI lf) (nI dr) (nI ps) (nI fl) n (nI i) (nI h) im ca me (ee_N ys) (ee_N kd) (ee_N fi) (ee_N ln) vl bo (ee_N od) va (ee_N mk) := by
  have hN := hY.1
  intro m
  induction m with
  | zero =>
    intro i n h ys hm hn h1 h2 h3 h4
    obtain ⟨n, rfl⟩ : ∃ k, n = k + 1 := ⟨n - 1, by omega⟩
    have eh : h = e := by
      obtain ⟨q, q1, q2, q3⟩ := hex
      have := h2 q (by omega) q2
      omega
    subst eh
    exact br_t (nI_le (by omega) (by omega)) (K ys (fun q hq => h3 q (by omega)) (fun q hq => h4 q (by omega)))
  | succ m ih =>
    intro i n h ys hm hn h1 h2 h3 h4
    obtain ⟨n, rfl⟩ : ∃ k, n = k + 1 := ⟨n - 1, by omega⟩
    have hin : vp_in (nI i) 16 := vp_in_nI (by omega) (by omega)
    obtain ⟨a1, a2, a3, a4, a5, a6, a7⟩ := hY.2 i
    have hmi := hmk1 i (by omega)
    refine br_f (nI_ge (by omega) (by omega)) (And.intro hin (ee_if (ee_eN 0 (by omega) (by omega) (by omega)) (fun z => nm_r (nI_1 i) (ih (i + 1) n h ys (by omega) (by omega) h1 (fun q hq w => ?_) (fun q hq => ?_) (fun q hq => h4 q (by omega)))) (fun z => ?_)))
    · by_cases e : q = i
      · rw [e] at w; exact absurd z ((hmk i (by omega)).mpr w)
      · exact h2 q (by omega) w
    · by_cases e : q = i
      · rw [e]; exact ⟨fun w => absurd z ((hmk i (by omega)).mpr w), fun _ => h4 i (Nat.le_refl _)⟩
      · exact h3 q (by omega)
    · have hMi := (hmk i (by omega)).mp z
      have hei := he i hMi
      have hys : ∀ q, q < i + 1 → (M q → ee_u ys i (16 + t) q = 16 + t) ∧ (¬ M q → ee_u ys i (16 + t) q = ys0 q) := by
        intro q hq
        by_cases e : q = i
        · rw [e, ee_us]; exact ⟨fun _ => rfl, fun w => absurd hMi w⟩
        · rw [ee_un e]; exact h3 q (by omega)
      have hys2 : ∀ q, i + 1 ≤ q → ee_u ys i (16 + t) q = ys0 q := fun q hq => by rw [ee_un (by omega)]; exact h4 q (by omega)
      refine And.intro hin (nm_r (e' := ee_N (ee_u ys i (16 + t))) (by rw [show (16 : Int32) + nI t = nI (16 + t) from nI_add 16 t]; exact ee_wN (by omega)) (And.intro hin (And.intro hin (pk_le (en i) h (fun w => nm_r (nI_1 i) (ih (i + 1) n h _ (by omega) (by omega) h1 (fun q hq w2 => ?_) hys hys2)) (fun w => And.intro hin (And.intro hin (nm_r (e' := nI (en i)) (ye_end (by omega) a5) (nm_r (nI_1 i) (ih (i + 1) n (en i) _ (by omega) (by omega) hei (fun q hq w2 => ?_) hys hys2))))) (ye_end (by omega) a5)))))
      · by_cases e : q = i
        · rw [e]; exact w
        · exact h2 q (by omega) w2
      · by_cases e : q = i
        · rw [e]; exact Nat.le_refl _
        · have := h2 q (by omega) w2; omega
theorem yw_dp208 {post : Int32 → SY → Prop} {Rq M : Nat → Prop} {s0 t e : Nat} (hY : qq_Yb N ys kd fi en ln od) (hR : ∀ q, q < N → (qq_rdy N ys fi en od q ↔ Rq q)) (hM0 : M s0) (hM1 : ∀ q, M q → q < N ∧ Rq q) (hM2 : ∀ p q, M p → q < N → Rq q → qq_jn kd fi en p q → M q)
    (hC : ∀ S : Nat → Prop, S s0 → (∀ q, S q → M q) → (∃ q, M q ∧ ¬ S q) → ∃ p q, S p ∧ M q ∧ ¬ S q ∧ qq_jn kd fi en p q)
    (ht : t < 4) (he : ∀ q, M q → en q ≤ e) (hex : ∃ q, q < N ∧ M q ∧ en q = e) (he2 : e ≤ 256) (hl : 1 ≤ lf)
    (K : ∀ ys' mk', (∀ q, q < N → (M q → ys' q = 16 + t) ∧ (¬ M q → ys' q = ys q)) → (∀ q, N ≤ q → ys' q = ys q) → post (nI t) (nI N, nI T, nI B, nI F, nI sb, ck, nI e, nI (lf - 1), nI dr, nI ps, nI fl, im, ca, me, ee_N ys', ee_N kd, ee_N fi, ee_N ln, vl, bo, ee_N od, va, ee_N mk')) : wY_dispatch_208 post (nI t) (nI s0) (nI N) (nI T) (nI B) (nI F) (nI sb) ck (nI hea) (nI lf) (nI dr) (nI ps) (nI fl) im ca me (ee_N ys) (ee_N kd) (ee_N fi) (ee_N ln) vl bo (ee_N od) va (ee_N mk) := by
  unfold wY_dispatch_208
  obtain ⟨l0, hl0⟩ : ∃ k, lf = k + 1 := ⟨lf - 1, by omega⟩
  refine yw_pick hY hR hM0 hM1 hM2 hC (fun mk' a b => nm_r (e' := nI (lf - 1)) (by rw [hl0, nI_pred]; rfl) ⟨N + 1, ?_⟩)
  exact yw_dp232 (M := M) (ys0 := ys) ht hY a b he hex he2 (fun ys' x y => K ys' mk' x y) N 0 (N + 1) 0 ys (by omega) (by omega) (Nat.zero_le _) (fun q hq => by omega) (fun q hq => by omega) (fun q _ => rfl)
theorem yw_dp2 {post : Int32 → SY → Prop} (hT : T ≤ 4) (hY : qq_Yb N ys kd fi en ln od) (K1 : ∀ t, t < T → (∀ q, q < N → ys q ≠ 16 + t) → (∀ u, u < t → ∃ q, q < N ∧ ys q = 16 + u) → wY_dispatch_27 post (nI t) (nI N) (nI T) (nI B) (nI F) (nI sb) ck (nI hea) (nI lf) (nI dr) (nI ps) (nI fl) im ca me (ee_N ys) (ee_N kd) (ee_N fi) (ee_N ln) vl bo (ee_N od) va (ee_N mk)) (K2 : (∀ u, u < T → ∃ q, q < N ∧ ys q = 16 + u) → wY_dispatch_27 post (nI T) (nI N) (nI T) (nI B) (nI F) (nI sb) ck (nI hea) (nI lf) (nI dr) (nI ps) (nI fl) im ca me (ee_N ys) (ee_N kd) (ee_N fi) (ee_N ln) vl bo (ee_N od) va (ee_N mk)) :
    ∀ m i n, i + m = T → m < n → (∀ u, u < i → ∃ q, q < N ∧ ys q = 16 + u) → wY_dispatch_2 post (nI N) (nI T) (nI B) (nI F) (nI sb) ck (nI hea) (nI lf) (nI dr) (nI ps) (nI fl) im ca me (ee_N ys) (ee_N kd) (ee_N fi) (ee_N ln) vl bo (ee_N od) va (ee_N mk) n (nI i) := by
  have hN := hY.1
  intro m
  induction m with
  | zero =>
    intro i n hm hn h
    obtain ⟨n, rfl⟩ : ∃ k, n = k + 1 := ⟨n - 1, by omega⟩
    have e : i = T := by omega
    subst e
    exact br_t (nI_le (by omega) (by omega)) (K2 h)
  | succ m ih =>
    intro i n hm hn h
    obtain ⟨n, rfl⟩ : ∃ k, n = k + 1 := ⟨n - 1, by omega⟩
    have hcl := cn_le (fun q => ys q = 16 + i) N
    refine br_f (nI_ge (by omega) (by omega)) ?_
    rw [show (16 : Int32) + nI i = nI (16 + i) from nI_add 16 i]
    refine yw_count (by omega) hN (fun q => (hY.2 q).1) (pk_le (cn (fun q => ys q = 16 + i) N) 0 (fun z => K1 i (by omega) (fun q hq w => ?_) h) (fun z => nm_r (nI_1 i) (ih (i + 1) n (by omega) (by omega) (fun u hu => ?_))))
    · exact cn_zero (P := fun q => ys q = 16 + i) (N := N) (by omega) hq w
    · by_cases e : u = i
      · rw [e]
        refine Classical.byContradiction (fun w => ?_)
        have : cn (fun q => ys q = 16 + i) N ≤ cn (fun _ => False) N := cn_mono (fun q hq y => w ⟨q, hq, y⟩)
        have z2 : cn (fun _ => False) N = cn (fun _ => False) 0 := (cn_ext (Nat.zero_le _) (fun q _ y => y)).symm
        rw [z2] at this
        have : cn (fun _ => False) 0 = 0 := rfl
        omega
      · exact h u (by omega)
theorem yw_dispatch {post : Int32 → SY → Prop} (hT : T ≤ 4) (hY : qq_Yb N ys kd fi en ln od) (K1 : ∀ t, t < T → (∀ q, q < N → ys q ≠ 16 + t) → (∀ u, u < t → ∃ q, q < N ∧ ys q = 16 + u) → wY_dispatch_27 post (nI t) (nI N) (nI T) (nI B) (nI F) (nI sb) ck (nI hea) (nI lf) (nI dr) (nI ps) (nI fl) im ca me (ee_N ys) (ee_N kd) (ee_N fi) (ee_N ln) vl bo (ee_N od) va (ee_N mk)) (K2 : (∀ u, u < T → ∃ q, q < N ∧ ys q = 16 + u) → wY_dispatch_27 post (nI T) (nI N) (nI T) (nI B) (nI F) (nI sb) ck (nI hea) (nI lf) (nI dr) (nI ps) (nI fl) im ca me (ee_N ys) (ee_N kd) (ee_N fi) (ee_N ln) vl bo (ee_N od) va (ee_N mk)) : wpY_dispatch post (nI N, nI T, nI B, nI F, nI sb, ck, nI hea, nI lf, nI dr, nI ps, nI fl, im, ca, me, ee_N ys, ee_N kd, ee_N fi, ee_N ln, vl, bo, ee_N od, va, ee_N mk) :=
  ⟨T + 1, yw_dp2 hT hY K1 K2 T 0 (T + 1) (by omega) (by omega) (fun u hu => by omega)⟩
end
end
section
/-! the reference's submit, complete, flushes, power loss -/
section
variable {N T B F hea lf dr ps sb fl : Nat} {ck : Int32} {ys kd fi en ln od mk : Nat → Nat} {vl bo ca me im va : Nat → Int32}
theorem yw_sb218 {post : Int32 → SY → Prop} {s k a b : Nat} {x2 x4 : Int32} (hs : s < 16) (hk : k ≤ 5) (hb : b ≤ 8) (hab : a + b ≤ 256) (h2 : b ≠ 0 → x2 = nI a) (hln : ln s = b)
    (h : post (nI s) (nI N, nI T, nI B, nI F, nI sb, ck, nI hea, nI lf, nI dr, nI ps, nI fl, qq_wr im a (if k = 0 then 0 else b) x4, ca, me, ee_N ys, ee_N kd, ee_N fi, ee_N ln, vl, bo, ee_N od, qq_rd va im (s * 8) a (if k = 0 then b else 0), ee_N mk)) :
    ∀ m i n, i + m = b → m < n → wY_submit_218 post (nI k) x2 x4 (nI s) (nI N) (nI T) (nI B) (nI F) (nI sb) ck (nI hea) (nI lf) (nI dr) (nI ps) (nI fl) n (nI i) (qq_wr im a (if k = 0 then 0 else i) x4) ca me (ee_N ys) (ee_N kd) (ee_N fi) (ee_N ln) vl bo (ee_N od) (qq_rd va im (s * 8) a (if k = 0 then i else 0)) (ee_N mk) := by
  intro m
  induction m with
  | zero =>
    intro i n hm hn
    obtain ⟨n, rfl⟩ : ∃ k, n = k + 1 := ⟨n - 1, by omega⟩
    have e : i = b := by omega
    subst e
    exact And.intro (vp_in_nI hs (by omega)) (br_t (by rw [ee_rN (by omega), hln]; exact nI_le (Nat.le_refl _) (by omega)) h)
  | succ m ih =>
    intro i n hm hn
    obtain ⟨n, rfl⟩ : ∃ k, n = k + 1 := ⟨n - 1, by omega⟩
    have e1 : x2 + nI i = nI (a + i) := by rw [h2 (by omega), nI_add]
    have e2 : nI s * 8 + nI i = nI (s * 8 + i) := by rw [show nI s * 8 = nI (s * 8) from pk_mul s 8, nI_add]
    have k1 := ih (i + 1) n (by omega) (by omega)
    refine And.intro (vp_in_nI hs (by omega)) (br_f (by rw [ee_rN (by omega), hln]; exact nI_ge (by omega) (by omega)) (pk_eq k 0 (fun z => ?_) (fun z => ?_)))
    · rw [if_pos z, if_pos z] at k1 ⊢
      refine And.intro (by rw [e1]; exact vp_in_nI (by omega) (by omega)) (And.intro (by rw [e2]; exact vp_in_nI (by omega) (by omega)) (nm_r (e' := qq_rd va im (s * 8) a (i + 1)) ?_ (nm_r (nI_1 i) k1)))
      rw [e1, e2, pp_wr0, ee_r (f := im) (by omega), ee_w (by omega)]; exact pp_rdS
    · rw [if_neg z, if_neg z] at k1 ⊢
      refine And.intro (by rw [e1]; exact vp_in_nI (by omega) (by omega)) (nm_r (e' := qq_wr im a (i + 1) x4) ?_ (nm_r (nI_1 i) k1))
      rw [e1, ee_w (by omega)]; exact pp_wrS
theorem yw_sb81 {post : Int32 → SY → Prop} {s k a b : Nat} {x2 x3 x4 : Int32} (hN : N ≤ 16) (hs : s < N) (hk : k ≤ 5) (hb : b ≤ 8) (hab : a + b ≤ 256) (hb5 : k = 5 → a = 0 ∧ b = 0) (h2 : k ≠ 5 → x2 = nI a) (h3 : k ≠ 5 → x3 = nI b)
    (h : post (nI s) (nI N, nI T, nI B, nI F, nI (sb + 1), ck, nI hea, nI lf, nI dr, nI ps, nI fl, qq_wr im a (if k = 0 then 0 else b) x4, ca, me, ee_N (ee_u ys s (qq_new k)), ee_N (ee_u kd s k), ee_N (ee_u fi s a), ee_N (ee_u ln s b), ee_u vl s x4, ee_u bo s ck, ee_N (ee_u od s sb), qq_rd va im (s * 8) a (if k = 0 then b else 0), ee_N mk)) : wY_submit_81 post (nI k) x2 x3 x4 (nI s) (nI N) (nI T) (nI B) (nI F) (nI sb) ck (nI hea) (nI lf) (nI dr) (nI ps) (nI fl) im ca me (ee_N ys) (ee_N kd) (ee_N fi) (ee_N ln) vl bo (ee_N od) va (ee_N mk) := by
  have hin : vp_in (nI s) 16 := vp_in_nI (by omega) (by omega)
  have hx2 : b ≠ 0 → x2 = nI a := fun z => h2 (fun w => z (hb5 w).2)
  have fin : ∀ ys', ys' = ee_u ys s (qq_new k) → ∃ n, wY_submit_218 post (nI k) x2 x4 (nI s) (nI N) (nI T) (nI B) (nI F) (nI (sb + 1)) ck (nI hea) (nI lf) (nI dr) (nI ps) (nI fl) n 0 im ca me (ee_N ys') (ee_N (ee_u kd s k)) (ee_N (ee_u fi s a)) (ee_N (ee_u ln s b)) (ee_u vl s x4) (ee_u bo s ck) (ee_N (ee_u od s sb)) va (ee_N mk) := by
    intro ys' e
    subst e
    have k1 := yw_sb218 (post := post) (im := im) (va := va) (ln := ee_u ln s b) (by omega) hk hb hab hx2 ee_us h b 0 9 (by omega) (by omega)
    have e1 : qq_wr im a (if k = 0 then 0 else 0) x4 = im := by
      rw [show (if k = 0 then 0 else 0) = 0 by split <;> rfl]; exact pp_wr0
    have e2 : qq_rd va im (s * 8) a (if k = 0 then 0 else 0) = va := by
      rw [show (if k = 0 then 0 else 0) = 0 by split <;> rfl]; exact pp_rd0
    rw [e1, e2] at k1
    exact ⟨9, k1⟩
  have tail : wY_submit_134 post (nI k) x2 x4 (nI s) (nI b) (nI s) (nI N) (nI T) (nI B) (nI F) (nI sb) ck (nI hea) (nI lf) (nI dr) (nI ps) (nI fl) im ca me (ee_N ys) (ee_N (ee_u kd s k)) (ee_N (ee_u fi s a)) (ee_N ln) vl bo (ee_N od) va (ee_N mk) := by
    refine And.intro hin (nm_r (ee_wN (by omega)) (And.intro hin (nm_r (ee_w (by omega)) (And.intro hin (nm_r (ee_w (by omega)) (And.intro hin (nm_r (ee_wN (by omega)) (nm_r (nI_1 sb) (And.intro hin (nm_r (ee_wN (v := 3) (by omega)) ?_))))))))))
    have f194 : k = 2 ∨ k = 4 → wY_submit_194 post (nI k) x2 x4 (nI s) (nI N) (nI T) (nI B) (nI F) (nI (sb + 1)) ck (nI hea) (nI lf) (nI dr) (nI ps) (nI fl) im ca me (ee_N (ee_u ys s 3)) (ee_N (ee_u kd s k)) (ee_N (ee_u fi s a)) (ee_N (ee_u ln s b)) (ee_u vl s x4) (ee_u bo s ck) (ee_N (ee_u od s sb)) va (ee_N mk) := by
      intro z
      refine And.intro hin (nm_r (ee_wN (v := 1) (by omega)) ?_)
      unfold wY_submit_202
      refine pk_eq k 5 (fun w => by omega) (fun _ => fin _ ?_)
      rw [ee_uu, qq_new, if_neg (by omega), if_pos z]
    refine pk_eq k 2 (fun z => f194 (Or.inl z)) (fun z2 => pk_eq k 4 (fun z => f194 (Or.inr z)) (fun z4 => ?_))
    unfold wY_submit_202
    refine pk_eq k 5 (fun w => And.intro hin (nm_r (ee_wN (v := 5) (by omega)) (fin _ ?_))) (fun w => fin _ ?_)
    · rw [ee_uu, qq_new, if_pos w]
    · rw [qq_new, if_neg w, if_neg (by omega)]
  refine br_t (nI_lt (by omega) (by omega)) (And.intro hin (nm_r (ee_wN (by omega)) (pk_eq k 5 (fun z => ?_) (fun z => ?_))))
  · obtain ⟨ra, rb⟩ := hb5 z
    subst ra rb
    unfold wY_submit_117
    exact And.intro hin (nm_r (ee_wN (v := 0) (by omega)) (br_t (by rw [z]; rfl) tail))
  · unfold wY_submit_117
    rw [h3 z]
    rw [h2 z] at tail ⊢
    exact And.intro hin (nm_r (ee_wN (by omega)) (pk_eq k 5 (fun w => absurd w z) (fun _ => tail)))
theorem yw_sb56 {post : Int32 → SY → Prop} {k a b : Nat} {x2 x3 x4 : Int32} (hN : N ≤ 16) (hS : ∀ q, ys q < 32) (hk : k ≤ 5) (hb : b ≤ 8) (hab : a + b ≤ 256) (hb5 : k = 5 → a = 0 ∧ b = 0) (h2 : k ≠ 5 → x2 = nI a) (h3 : k ≠ 5 → x3 = nI b)
    (K2 : (∀ q, q < N → ys q ≠ 0) → post (-2) (nI N, nI T, nI B, nI F, nI sb, ck, nI hea, nI lf, nI dr, nI ps, nI fl, im, ca, me, ee_N ys, ee_N kd, ee_N fi, ee_N ln, vl, bo, ee_N od, va, ee_N mk))
    (K : ∀ s, s < N → ys s = 0 → (∀ q, q < s → ys q ≠ 0) → post (nI s) (nI N, nI T, nI B, nI F, nI (sb + 1), ck, nI hea, nI lf, nI dr, nI ps, nI fl, qq_wr im a (if k = 0 then 0 else b) x4, ca, me, ee_N (ee_u ys s (qq_new k)), ee_N (ee_u kd s k), ee_N (ee_u fi s a), ee_N (ee_u ln s b), ee_u vl s x4, ee_u bo s ck, ee_N (ee_u od s sb), qq_rd va im (s * 8) a (if k = 0 then b else 0), ee_N mk)) :
    ∀ m i n, i + m = N → m < n → (∀ q, q < i → ys q ≠ 0) → wY_submit_56 post (nI k) x2 x3 x4 (nI N) (nI T) (nI B) (nI F) (nI sb) ck (nI hea) (nI lf) (nI dr) (nI ps) (nI fl) im ca me (ee_N ys) (ee_N kd) (ee_N fi) (ee_N ln) vl bo (ee_N od) va (ee_N mk) n (nI i) := by
  intro m
  induction m with
  | zero =>
    intro i n hm hn h
    obtain ⟨n, rfl⟩ : ∃ k, n = k + 1 := ⟨n - 1, by omega⟩
    have e : i = N := by omega
    subst e
    refine br_t (nI_le (by omega) (by omega)) ?_
    unfold wY_submit_81
    exact br_f (nI_nlt (Nat.le_refl _) (by omega)) (K2 h)
  | succ m ih =>
    intro i n hm hn h
    obtain ⟨n, rfl⟩ : ∃ k, n = k + 1 := ⟨n - 1, by omega⟩
    have hs := hS i
    refine br_f (nI_ge (by omega) (by omega)) (And.intro (vp_in_nI (by omega) (by omega)) (ee_if (ee_eN 0 (by omega) (by omega) (by omega)) (fun z => yw_sb81 hN (by omega) hk hb hab hb5 h2 h3 (K i (by omega) z h)) (fun z => nm_r (nI_1 i) (ih (i + 1) n (by omega) (by omega) (fun q hq => ?_)))))
    by_cases e : q = i
    · rw [e]; exact z
    · exact h q (by omega)
theorem yw_cp56 {post : Int32 → SY → Prop} {J : _} {x1 x2 : Int32} {s : Nat} (hY : qq_Yb N ys kd fi en ln od) (hs : s < 16) (hL : ln s ≤ 8) (hF : F ≤ 1)
    (h : J (nI (s + 1)) im (qq_wr ca (fi s) (if kd s = 0 then 0 else ln s) (vl s)) (qq_wr me (fi s) (if qq_dur (kd s) = 1 ∧ F = 1 then ln s else 0) (vl s)) (ee_N (ee_u ys s (qq_fin F kd s))) (ee_N kd) (ee_N fi) (ee_N ln) vl bo (ee_N od) va (ee_N mk)) :
    ∀ m i n, i + m = ln s → m < n → wY_complete_56 post J x1 x2 (nI s) (nI N) (nI T) (nI B) (nI F) (nI sb) ck (nI hea) (nI lf) (nI dr) (nI ps) (nI fl) n (nI i) im (qq_wr ca (fi s) (if kd s = 0 then 0 else i) (vl s)) (qq_wr me (fi s) (if qq_dur (kd s) = 1 ∧ F = 1 then i else 0) (vl s)) (ee_N ys) (ee_N kd) (ee_N fi) (ee_N ln) vl bo (ee_N od) va (ee_N mk) := by
  obtain ⟨a1, a2, a3, a4, a5, a6, a7⟩ := hY.2 s
  have hin : vp_in (nI s) 16 := vp_in_nI hs (by omega)
  have u1 := pp_durlt (kd s)
  intro m
  induction m with
  | zero =>
    intro i n hm hn
    obtain ⟨n, rfl⟩ : ∃ k, n = k + 1 := ⟨n - 1, by omega⟩
    have e : i = ln s := by omega
    subst e
    refine And.intro hin (br_t (by rw [ee_rN (by omega)]; exact nI_le (Nat.le_refl _) (by omega)) (yw_durable hs (by omega) (pk_eq (qq_dur (kd s)) 0 (fun z => ?_) (fun z => pk_eq F 0 (fun zf => ?_) (fun zf => ?_)))))
    · rw [qq_fin, if_neg (c := qq_dur (kd s) = 1 ∧ F = 0) (by omega)] at h
      exact And.intro hin (nm_r (ee_wN (v := 7) (by omega)) (nm_r (nI_1 s) h))
    · rw [qq_fin, if_pos (c := qq_dur (kd s) = 1 ∧ F = 0) (by omega)] at h
      exact And.intro hin (nm_r (ee_wN (v := 5) (by omega)) (nm_r (nI_1 s) h))
    · rw [qq_fin, if_neg (c := qq_dur (kd s) = 1 ∧ F = 0) (by omega)] at h
      exact And.intro hin (nm_r (ee_wN (v := 7) (by omega)) (nm_r (nI_1 s) h))
  | succ m ih =>
    intro i n hm hn
    obtain ⟨n, rfl⟩ : ∃ k, n = k + 1 := ⟨n - 1, by omega⟩
    have e1 : ee_N fi (nI s).toNatClampNeg + nI i = nI (fi s + i) := by rw [ee_rN (by omega), nI_add]
    have k1 := ih (i + 1) n (by omega) (by omega)
    have h99 : wY_complete_99 post J (wY_complete_56 post J x1 x2 (nI s) (nI N) (nI T) (nI B) (nI F) (nI sb) ck (nI hea) (nI lf) (nI dr) (nI ps) (nI fl) n) x1 x2 (nI s) (nI i) (nI N) (nI T) (nI B) (nI F) (nI sb) ck (nI hea) (nI lf) (nI dr) (nI ps) (nI fl) im (qq_wr ca (fi s) (if kd s = 0 then 0 else i + 1) (vl s)) (qq_wr me (fi s) (if qq_dur (kd s) = 1 ∧ F = 1 then i else 0) (vl s)) (ee_N ys) (ee_N kd) (ee_N fi) (ee_N ln) vl bo (ee_N od) va (ee_N mk) := by
      unfold wY_complete_99
      refine yw_durable hs (by omega) (pk_eq (qq_dur (kd s)) 0 (fun z => ?_) (fun z => pk_eq F 1 (fun zf => ?_) (fun zf => ?_)))
      · rw [if_neg (c := qq_dur (kd s) = 1 ∧ F = 1) (by omega)] at k1 ⊢
        exact nm_r (nI_1 i) k1
      · rw [if_pos (c := qq_dur (kd s) = 1 ∧ F = 1) (by omega)] at k1 ⊢
        refine And.intro hin (And.intro hin (And.intro (by rw [e1]; exact vp_in_nI (by omega) (by omega)) (nm_r (e' := qq_wr me (fi s) (i + 1) (vl s)) ?_ (nm_r (nI_1 i) k1))))
        rw [e1, ee_r (f := vl) (by omega), ee_w (by omega)]; exact pp_wrS
      · rw [if_neg (c := qq_dur (kd s) = 1 ∧ F = 1) (by omega)] at k1 ⊢
        exact nm_r (nI_1 i) k1
    refine And.intro hin (br_f (by rw [ee_rN (by omega)]; exact nI_ge (by omega) (by omega)) (And.intro hin (ee_if (ee_eN 0 (by omega) (by omega) (by omega)) (fun z => ?_) (fun z => ?_))))
    · rw [if_pos z] at h99 ⊢
      exact h99
    · rw [if_neg z] at h99 ⊢
      refine And.intro hin (And.intro hin (And.intro (by rw [e1]; exact vp_in_nI (by omega) (by omega)) (nm_r (e' := qq_wr ca (fi s) (i + 1) (vl s)) ?_ h99)))
      rw [e1, ee_r (f := vl) (by omega), ee_w (by omega)]; exact pp_wrS
theorem yw_cp32 {post : Int32 → SY → Prop} {x2 : Int32} {t : Nat} {ys0 : Nat → Nat} {ca0 me0 : Nat → Int32} (ht : t < 4) (hY : qq_Yb N ys0 kd fi en ln od) (hL : ∀ q, ln q ≤ 8) (hF : F ≤ 1) (hdj : ∀ q r, ys0 q = 16 + t → ys0 r = 16 + t → q ≠ r → en q ≤ fi r ∨ en r ≤ fi q)
    (K : ∀ ys ca me, (∀ q, q < N → ys q = if ys0 q = 16 + t then qq_fin F kd q else ys0 q) → (∀ q, N ≤ q → ys q = ys0 q) → qq_Wr (fun q => (q < N ∧ ys0 q = 16 + t) ∧ kd q ≠ 0) fi en vl 1000 ca0 ca → qq_Wr (fun q => (q < N ∧ ys0 q = 16 + t) ∧ (qq_dur (kd q) = 1 ∧ F = 1)) fi en vl 1000 me0 me → post x2 (nI N, nI T, nI B, nI F, nI sb, ck, nI hea, nI lf, nI dr, nI ps, nI fl, im, ca, me, ee_N ys, ee_N kd, ee_N fi, ee_N ln, vl, bo, ee_N od, va, ee_N mk)) :
    ∀ m i n ys ca me, i + m = N → m < n → (∀ q, q < i → ys q = if ys0 q = 16 + t then qq_fin F kd q else ys0 q) → (∀ q, i ≤ q → ys q = ys0 q) → qq_Wr (fun q => (q < i ∧ ys0 q = 16 + t) ∧ kd q ≠ 0) fi en vl 1000 ca0 ca → qq_Wr (fun q => (q < i ∧ ys0 q = 16 + t) ∧ (qq_dur (kd q) = 1 ∧ F = 1)) fi en vl 1000 me0 me → wY_complete_32 post (nI t) x2 (nI N) (nI T) (nI B) (nI F) (nI sb) ck (nI hea) (nI lf) (nI dr) (nI ps) (nI fl) n (nI i) im ca me (ee_N ys) (ee_N kd) (ee_N fi) (ee_N ln) vl bo (ee_N od) va (ee_N mk) := by
  have hN := hY.1
  intro m
  induction m with
  | zero =>
    intro i n ys ca me hm hn h1 h2 h3 h4
    obtain ⟨n, rfl⟩ : ∃ k, n = k + 1 := ⟨n - 1, by omega⟩
    have e : i = N := by omega
    subst e
    exact br_t (nI_le (by omega) (by omega)) (K ys ca me h1 h2 h3 h4)
  | succ m ih =>
    intro i n ys ca me hm hn h1 h2 h3 h4
    obtain ⟨n, rfl⟩ : ∃ k, n = k + 1 := ⟨n - 1, by omega⟩
    obtain ⟨a1, a2, a3, a4, a5, a6, a7⟩ := hY.2 i
    have e0 := h2 i (Nat.le_refl _)
    have hYs : qq_Yb N ys kd fi en ln od := by
      refine ⟨hN, fun q => ?_⟩
      obtain ⟨b1, b2⟩ := hY.2 q
      refine ⟨?_, b2⟩
      rcases Nat.lt_or_ge q i with z | z
      · rw [h1 q z]
        split
        · have := pp_fin_lt (F := F) (kd := kd) (s := q); omega
        · exact b1
      · rw [h2 q z]; exact b1
    refine br_f (nI_ge (by omega) (by omega)) (And.intro (vp_in_nI (by omega) (by omega)) (ee_if (d := ys i = 16 + t) (by rw [show (16 : Int32) + nI t = nI (16 + t) from nI_add 16 t]; exact ee_eN (16 + t) (by omega) (by omega) (by omega)) (fun z => ?_) (fun z => nm_r (nI_1 i) (ih (i + 1) n ys ca me (by omega) (by omega) (fun q hq => ?_) (fun q hq => h2 q (by omega)) (pp_Wr_congr h3 (fun q => ?_)) (pp_Wr_congr h4 (fun q => ?_))))))
    · rw [e0] at z
      have hw : ∀ C : Nat → Prop, ∀ q, (((q < i + 1 ∧ ys0 q = 16 + t) ∧ C q) ↔ (((q < i ∧ ys0 q = 16 + t) ∧ C q) ∨ (q = i ∧ C i))) := by
        intro C q
        by_cases e : q = i
        · rw [e]; exact ⟨fun w => Or.inr ⟨rfl, w.2⟩, fun w => w.elim (fun w => ⟨⟨by omega, z⟩, w.2⟩) (fun w => ⟨⟨by omega, z⟩, w.2⟩)⟩
        · exact ⟨fun w => Or.inl ⟨⟨by omega, w.1.2⟩, w.2⟩, fun w => w.elim (fun w => ⟨⟨by omega, w.1.2⟩, w.2⟩) (fun w => absurd w.1 e)⟩
      have k1 := yw_cp56 (N := N) (T := T) (B := B) (F := F) (sb := sb) (ck := ck) (hea := hea) (lf := lf) (dr := dr) (ps := ps) (fl := fl) (im := im) (ca := ca) (me := me) (ys := ys) (kd := kd) (fi := fi) (ln := ln) (vl := vl) (bo := bo) (od := od) (va := va) (mk := mk) (post := post) (x1 := nI t) (x2 := x2) (J := wY_complete_32 post (nI t) x2 (nI N) (nI T) (nI B) (nI F) (nI sb) ck (nI hea) (nI lf) (nI dr) (nI ps) (nI fl) n) hYs (s := i) (by omega) (hL i) hF (ih (i + 1) n _ _ _ (by omega) (by omega) (fun q hq => ?_) (fun q hq => ?_) (pp_Wr_stepc (C := kd i ≠ 0) (ln := ln) h3 (hw (fun q => kd q ≠ 0)) (fun q w e => hdj q i w.1.2 z e) a5 a6 (fun w => if_neg w) (fun w => if_pos (Classical.byContradiction w))) (pp_Wr_stepc (C := qq_dur (kd i) = 1 ∧ F = 1) (ln := ln) h4 (hw (fun q => qq_dur (kd q) = 1 ∧ F = 1)) (fun q w e => hdj q i w.1.2 z e) a5 a6 (fun w => if_pos w) (fun w => if_neg w))) (ln i) 0 9 (by omega) (by have := hL i; omega)
      · have e1 : qq_wr ca (fi i) (if kd i = 0 then 0 else 0) (vl i) = ca := by
          rw [show (if kd i = 0 then 0 else 0) = 0 by split <;> rfl]; exact pp_wr0
        have e2 : qq_wr me (fi i) (if qq_dur (kd i) = 1 ∧ F = 1 then 0 else 0) (vl i) = me := by
          rw [show (if qq_dur (kd i) = 1 ∧ F = 1 then 0 else 0) = 0 by split <;> rfl]; exact pp_wr0
        rw [e1, e2] at k1
        exact ⟨9, k1⟩
      · by_cases e : q = i
        · rw [e, ee_us, if_pos z]
        · rw [ee_un e]; exact h1 q (by omega)
      · rw [ee_un (by omega)]; exact h2 q (by omega)
    · by_cases e : q = i
      · rw [e, if_neg (by rw [← e0]; exact z)]; exact e0
      · exact h1 q (by omega)
    · rw [e0] at z
      by_cases e : q = i
      · rw [e]; exact ⟨fun w => absurd w.1.2 z, fun w => absurd w.1.2 z⟩
      · exact ⟨fun w => ⟨⟨by omega, w.1.2⟩, w.2⟩, fun w => ⟨⟨by omega, w.1.2⟩, w.2⟩⟩
    · rw [e0] at z
      by_cases e : q = i
      · rw [e]; exact ⟨fun w => absurd w.1.2 z, fun w => absurd w.1.2 z⟩
      · exact ⟨fun w => ⟨⟨by omega, w.1.2⟩, w.2⟩, fun w => ⟨⟨by omega, w.1.2⟩, w.2⟩⟩
theorem yw_complete {post : Int32 → SY → Prop} {t : Nat} (ht : t < T) (hT : T ≤ 4) (hY : qq_Yb N ys kd fi en ln od) (hL : ∀ q, ln q ≤ 8) (hF : F ≤ 1) (hdj : ∀ q r, ys q = 16 + t → ys r = 16 + t → q ≠ r → en q ≤ fi r ∨ en r ≤ fi q)
    (K0 : cn (fun q => ys q = 16 + t) N = 0 → post (-3) (nI N, nI T, nI B, nI F, nI sb, ck, nI hea, nI lf, nI dr, nI ps, nI fl, im, ca, me, ee_N ys, ee_N kd, ee_N fi, ee_N ln, vl, bo, ee_N od, va, ee_N mk))
    (K : cn (fun q => ys q = 16 + t) N ≠ 0 → ∀ ys' ca' me', (∀ q, q < N → ys' q = if ys q = 16 + t then qq_fin F kd q else ys q) → (∀ q, N ≤ q → ys' q = ys q) → qq_Wr (fun q => (q < N ∧ ys q = 16 + t) ∧ kd q ≠ 0) fi en vl 1000 ca ca' → qq_Wr (fun q => (q < N ∧ ys q = 16 + t) ∧ (qq_dur (kd q) = 1 ∧ F = 1)) fi en vl 1000 me me' → post (nI (cn (fun q => ys q = 16 + t) N)) (nI N, nI T, nI B, nI F, nI sb, ck, nI hea, nI lf, nI dr, nI ps, nI fl, im, ca', me', ee_N ys', ee_N kd, ee_N fi, ee_N ln, vl, bo, ee_N od, va, ee_N mk)) : wpY_complete post (nI N, nI T, nI B, nI F, nI sb, ck, nI hea, nI lf, nI dr, nI ps, nI fl, im, ca, me, ee_N ys, ee_N kd, ee_N fi, ee_N ln, vl, bo, ee_N od, va, ee_N mk) (nI t) := by
  have hN := hY.1
  have hcl := cn_le (fun q => ys q = 16 + t) N
  refine br_f (nI_pos (by omega)) (br_t (nI_lt (by omega) (by omega)) ?_)
  rw [show (16 : Int32) + nI t = nI (16 + t) from nI_add 16 t]
  refine yw_count (by omega) hN (fun q => (hY.2 q).1) (pk_eq (cn (fun q => ys q = 16 + t) N) 0 K0 (fun z => ⟨N + 1, ?_⟩))
  exact yw_cp32 (ys0 := ys) (ca0 := ca) (me0 := me) (by omega) hY hL hF hdj (K z) N 0 (N + 1) ys ca me (by omega) (by omega) (fun q hq => by omega) (fun q _ => rfl) (pp_Wr_0 (fun q w => by omega)) (pp_Wr_0 (fun q w => by omega))
theorem yw_startFlush {post : Int32 → SY → Prop} (hY : qq_Yb N ys kd fi en ln od) (hf : fl ≤ 1) (K4 : fl ≠ 0 → post (-4) (nI N, nI T, nI B, nI F, nI sb, ck, nI hea, nI lf, nI dr, nI ps, nI fl, im, ca, me, ee_N ys, ee_N kd, ee_N fi, ee_N ln, vl, bo, ee_N od, va, ee_N mk)) (K3 : fl = 0 → cn (fun q => ys q = 1) N + cn (fun q => ys q = 5) N = 0 → post (-3) (nI N, nI T, nI B, nI F, nI sb, ck, nI hea, nI lf, nI dr, nI ps, nI fl, im, ca, me, ee_N ys, ee_N kd, ee_N fi, ee_N ln, vl, bo, ee_N od, va, ee_N mk))
    (K : fl = 0 → cn (fun q => ys q = 1) N + cn (fun q => ys q = 5) N ≠ 0 → ∀ ys', (∀ q, q < N → ys' q = qq_fl (ys q)) → (∀ q, N ≤ q → ys' q = ys q) → post (nI (cn (fun q => ys q = 1) N + cn (fun q => ys q = 5) N)) (nI N, nI T, nI B, nI F, nI sb, ck, nI hea, nI lf, nI dr, nI ps, nI 1, im, ca, me, ee_N ys', ee_N kd, ee_N fi, ee_N ln, vl, bo, ee_N od, va, ee_N mk)) : wpY_startFlush post (nI N, nI T, nI B, nI F, nI sb, ck, nI hea, nI lf, nI dr, nI ps, nI fl, im, ca, me, ee_N ys, ee_N kd, ee_N fi, ee_N ln, vl, bo, ee_N od, va, ee_N mk) := by
  have hN := hY.1
  have c1 := cn_le (fun q => ys q = 1) N
  have c2 := cn_le (fun q => ys q = 5) N
  have hS : ∀ q, ys q < 32 := fun q => (hY.2 q).1
  refine pk_eq fl 0 (fun z => yw_count (w := 1) (by omega) hN hS (yw_count (w := 5) (by omega) hN hS (nm_r (nI_add _ _) (pk_eq (cn (fun q => ys q = 1) N + cn (fun q => ys q = 5) N) 0 (K3 z) (fun w => ?_))))) K4
  refine yw_change (f := 1) (t := 2) (fl := 1) (by omega) hN hS (fun ys1 a1 a2 => yw_change (f := 5) (t := 6) (by omega) hN (fun q => ?_) (fun ys2 b1 b2 => K z w ys2 (fun q hq => ?_) (fun q hq => ?_)))
  · rcases Nat.lt_or_ge q N with y | y
    · rw [a1 q y]; split
      · omega
      · exact hS q
    · rw [a2 q y]; exact hS q
  · rw [b1 q hq, a1 q hq]
    unfold qq_fl
    by_cases y : ys q = 1
    · rw [if_pos y, if_neg (by omega), if_pos y]
    · rw [if_neg y, if_neg y]
  · rw [b2 q hq, a2 q hq]
def qq_fy (m : Nat) : Nat := if m = 2 then 3 else if m = 6 then 7 else m
theorem yw_ff25 {post : Int32 → SY → Prop} {x1 : Int32} (h : wpY_change (fun u => wpY_change (fun u => match u with | (f_slots_77, f_tags_78, f_batch_79, f_forced_80, f_submitted_81, f_clock_82, f_head_83, f_left_84, f_dir_85, f_passed_86, f_flushing_87, a_image_88, a_cache_89, a_medium_90, a_state_91, a_kind_92, a_first_93, a_len_94, a_data_95, a_time_96, a_order_97, a_values_98, a_mark_99) => post x1 (f_slots_77, f_tags_78, f_batch_79, f_forced_80, f_submitted_81, f_clock_82, f_head_83, f_left_84, f_dir_85, f_passed_86, 0, a_image_88, a_cache_89, a_medium_90, a_state_91, a_kind_92, a_first_93, a_len_94, a_data_95, a_time_96, a_order_97, a_values_98, a_mark_99)) u 6 7) (nI N, nI T, nI B, nI F, nI sb, ck, nI hea, nI lf, nI dr, nI ps, nI fl, im, ca, qq_cp ca me 256, ee_N ys, ee_N kd, ee_N fi, ee_N ln, vl, bo, ee_N od, va, ee_N mk) 2 3) : ∀ m i n, i + m = 256 → m < n → wY_finishFlush_25 post x1 (nI N) (nI T) (nI B) (nI F) (nI sb) ck (nI hea) (nI lf) (nI dr) (nI ps) (nI fl) n (nI i) im ca (qq_cp ca me i) (ee_N ys) (ee_N kd) (ee_N fi) (ee_N ln) vl bo (ee_N od) va (ee_N mk) := by
  intro m
  induction m with
  | zero =>
    intro i n hm hn
    obtain ⟨n, rfl⟩ : ∃ k, n = k + 1 := ⟨n - 1, by omega⟩
    have e : i = 256 := by omega
    subst e
    exact br_t (nI_le (a := 256) (Nat.le_refl _) (by omega)) h
  | succ m ih =>
    intro i n hm hn
    obtain ⟨n, rfl⟩ : ∃ k, n = k + 1 := ⟨n - 1, by omega⟩
    have hin : vp_in (nI i) 256 := vp_in_nI (by omega) (by omega)
    refine br_f (nI_ge (b := 256) (by omega) (by omega)) (And.intro hin (And.intro hin (nm_r (e' := qq_cp ca me (i + 1)) ?_ (nm_r (nI_1 i) (ih (i + 1) n (by omega) (by omega))))))
    rw [ee_r (f := ca) (by omega), ee_w (by omega)]; exact pp_cpS
theorem yw_finishFlush {post : Int32 → SY → Prop} (hY : qq_Yb N ys kd fi en ln od) (hf : fl ≤ 1) (K3 : fl = 0 → post (-3) (nI N, nI T, nI B, nI F, nI sb, ck, nI hea, nI lf, nI dr, nI ps, nI fl, im, ca, me, ee_N ys, ee_N kd, ee_N fi, ee_N ln, vl, bo, ee_N od, va, ee_N mk))
    (K : fl ≠ 0 → ∀ ys', (∀ q, q < N → ys' q = qq_fy (ys q)) → (∀ q, N ≤ q → ys' q = ys q) → post (nI (cn (fun q => ys q = 2) N + cn (fun q => ys q = 6) N)) (nI N, nI T, nI B, nI F, nI sb, ck, nI hea, nI lf, nI dr, nI ps, nI 0, im, ca, qq_cp ca me 256, ee_N ys', ee_N kd, ee_N fi, ee_N ln, vl, bo, ee_N od, va, ee_N mk)) : wpY_finishFlush post (nI N, nI T, nI B, nI F, nI sb, ck, nI hea, nI lf, nI dr, nI ps, nI fl, im, ca, me, ee_N ys, ee_N kd, ee_N fi, ee_N ln, vl, bo, ee_N od, va, ee_N mk) := by
  have hN := hY.1
  have hS : ∀ q, ys q < 32 := fun q => (hY.2 q).1
  refine pk_eq fl 0 K3 (fun z => yw_count (w := 2) (by omega) hN hS (yw_count (w := 6) (by omega) hN hS (nm_r (nI_add _ _) ⟨257, ?_⟩)))
  have k := yw_ff25 (post := post) (x1 := nI (cn (fun q => ys q = 2) N + cn (fun q => ys q = 6) N)) (N := N) (T := T) (B := B) (F := F) (sb := sb) (ck := ck) (hea := hea) (lf := lf) (dr := dr) (ps := ps) (fl := fl) (im := im) (ca := ca) (me := me) (ys := ys) (kd := kd) (fi := fi) (ln := ln) (vl := vl) (bo := bo) (od := od) (va := va) (mk := mk) (yw_change (f := 2) (t := 3) (by omega) hN hS (fun ys1 a1 a2 => yw_change (f := 6) (t := 7) (by omega) hN (fun q => ?_) (fun ys2 b1 b2 => K z ys2 (fun q hq => ?_) (fun q hq => ?_)))) 256 0 257 (by omega) (by omega)
  · rw [pp_cp0] at k; exact k
  · rcases Nat.lt_or_ge q N with y | y
    · rw [a1 q y]; split
      · omega
      · exact hS q
    · rw [a2 q y]; exact hS q
  · rw [b1 q hq, a1 q hq]
    unfold qq_fy
    by_cases y : ys q = 2
    · rw [if_pos y, if_neg (by omega), if_pos y]
    · rw [if_neg y, if_neg y]
  · rw [b2 q hq, a2 q hq]
theorem yw_tr94 {post : SY → Prop} {J : _} {x1 v2 : Int32} {lw s : Nat} (hY : qq_Yb N ys kd fi en ln od) (hs : s < 16) (hL : ln s ≤ 8) (hlw : lw ≤ fi s)
    (h : J (nI (s + 1)) im ca (qq_wr me (fi s) (min (ln s) (qq_lim lw v2 - fi s)) (vl s)) (ee_N ys) (ee_N kd) (ee_N fi) (ee_N ln) vl bo (ee_N od) va (ee_N mk)) :
    ∀ m i n, i + m = ln s → m < n → wY_tear_94 post J x1 v2 (nI lw) (nI s) (nI N) (nI T) (nI B) (nI F) (nI sb) ck (nI hea) (nI lf) (nI dr) (nI ps) (nI fl) n (nI i) im ca (qq_wr me (fi s) (min i (qq_lim lw v2 - fi s)) (vl s)) (ee_N ys) (ee_N kd) (ee_N fi) (ee_N ln) vl bo (ee_N od) va (ee_N mk) := by
  obtain ⟨a1, a2, a3, a4, a5, a6, a7⟩ := hY.2 s
  have hin : vp_in (nI s) 16 := vp_in_nI hs (by omega)
  intro m
  induction m with
  | zero =>
    intro i n hm hn
    obtain ⟨n, rfl⟩ : ∃ k, n = k + 1 := ⟨n - 1, by omega⟩
    have e : i = ln s := by omega
    subst e
    exact And.intro hin (br_t (by rw [ee_rN (by omega)]; exact nI_le (Nat.le_refl _) (by omega)) (nm_r (nI_1 s) h))
  | succ m ih =>
    intro i n hm hn
    obtain ⟨n, rfl⟩ : ∃ k, n = k + 1 := ⟨n - 1, by omega⟩
    have e1 : ee_N fi (nI s).toNatClampNeg + nI i = nI (fi s + i) := by rw [ee_rN (by omega), nI_add]
    have e2 : ee_N fi (nI s).toNatClampNeg + nI i - nI lw = nI (fi s + i - lw) := by rw [e1, pk_sub (by omega)]
    have k1 := ih (i + 1) n (by omega) (by omega)
    have hc : v2 ≤ ee_N fi (nI s).toNatClampNeg + nI i - nI lw ↔ ¬ fi s + i < qq_lim lw v2 := by
      rw [e2, Int32.le_iff_toInt_le, nI_toInt (by omega)]
      unfold qq_lim
      split <;> omega
    refine And.intro hin (br_f (by rw [ee_rN (by omega)]; exact nI_ge (by omega) (by omega)) (And.intro hin (ee_if hc (fun z => nm_r (nI_1 i) ?_) (fun z => And.intro hin (And.intro hin (And.intro (by rw [e1]; exact vp_in_nI (by omega) (by omega)) (nm_r (e' := qq_wr me (fi s) (min (i + 1) (qq_lim lw v2 - fi s)) (vl s)) ?_ (nm_r (nI_1 i) k1))))))))
    · rw [show min (i + 1) (qq_lim lw v2 - fi s) = min i (qq_lim lw v2 - fi s) by omega] at k1
      exact k1
    · have z2 : fi s + i < qq_lim lw v2 := Classical.byContradiction z
      rw [e1, ee_r (f := vl) (by omega), ee_w (by omega), show min i (qq_lim lw v2 - fi s) = i by omega, show min (i + 1) (qq_lim lw v2 - fi s) = i + 1 by omega]
      exact pp_wrS
theorem yw_tr58 {post : SY → Prop} {v2 : Int32} {t lw : Nat} {me0 : Nat → Int32} (ht : t < 4) (hY : qq_Yb N ys kd fi en ln od) (hL : ∀ q, ln q ≤ 8) (hlw : ∀ q, q < N → ys q = 16 + t → lw ≤ fi q) (hdj : ∀ q r, ys q = 16 + t → ys r = 16 + t → q ≠ r → en q ≤ fi r ∨ en r ≤ fi q)
    (K : ∀ me, qq_Wr (fun q => q < N ∧ ys q = 16 + t ∧ kd q ≠ 0) fi en vl (qq_lim lw v2) me0 me → post (nI N, nI T, nI B, nI F, nI sb, ck, nI hea, nI lf, nI dr, nI ps, nI fl, im, ca, me, ee_N ys, ee_N kd, ee_N fi, ee_N ln, vl, bo, ee_N od, va, ee_N mk)) :
    ∀ m i n me, i + m = N → m < n → qq_Wr (fun q => q < i ∧ ys q = 16 + t ∧ kd q ≠ 0) fi en vl (qq_lim lw v2) me0 me → wY_tear_58 post (nI t) v2 (nI lw) (nI N) (nI T) (nI B) (nI F) (nI sb) ck (nI hea) (nI lf) (nI dr) (nI ps) (nI fl) n (nI i) im ca me (ee_N ys) (ee_N kd) (ee_N fi) (ee_N ln) vl bo (ee_N od) va (ee_N mk) := by
  have hN := hY.1
  intro m
  induction m with
  | zero =>
    intro i n me hm hn h
    obtain ⟨n, rfl⟩ : ∃ k, n = k + 1 := ⟨n - 1, by omega⟩
    have e : i = N := by omega
    subst e
    exact br_t (nI_le (by omega) (by omega)) (K me h)
  | succ m ih =>
    intro i n me hm hn h
    obtain ⟨n, rfl⟩ : ∃ k, n = k + 1 := ⟨n - 1, by omega⟩
    obtain ⟨a1, a2, a3, a4, a5, a6, a7⟩ := hY.2 i
    have hin : vp_in (nI i) 16 := vp_in_nI (by omega) (by omega)
    have skip : ¬ (ys i = 16 + t ∧ kd i ≠ 0) → wY_tear_58 post (nI t) v2 (nI lw) (nI N) (nI T) (nI B) (nI F) (nI sb) ck (nI hea) (nI lf) (nI dr) (nI ps) (nI fl) n (nI (i + 1)) im ca me (ee_N ys) (ee_N kd) (ee_N fi) (ee_N ln) vl bo (ee_N od) va (ee_N mk) := by
      intro z
      refine ih (i + 1) n me (by omega) (by omega) (pp_Wr_congr h (fun q => ?_))
      by_cases e : q = i
      · rw [e]; exact ⟨fun w => absurd w.2 z, fun w => by omega⟩
      · exact ⟨fun w => ⟨by omega, w.2⟩, fun w => ⟨by omega, w.2⟩⟩
    refine br_f (nI_ge (by omega) (by omega)) (And.intro hin (ee_if (d := ys i = 16 + t) (by rw [show (16 : Int32) + nI t = nI (16 + t) from nI_add 16 t]; exact ee_eN (16 + t) (by omega) (by omega) (by omega)) (fun z => And.intro hin (ee_if (ee_eN 0 (by omega) (by omega) (by omega)) (fun zk => nm_r (nI_1 i) (skip (fun w => w.2 zk))) (fun zk => ⟨9, ?_⟩))) (fun z => nm_r (nI_1 i) (skip (fun w => z w.1)))))
    have k1 := yw_tr94 (N := N) (T := T) (B := B) (F := F) (sb := sb) (ck := ck) (hea := hea) (lf := lf) (dr := dr) (ps := ps) (fl := fl) (im := im) (ca := ca) (me := me) (ys := ys) (kd := kd) (fi := fi) (ln := ln) (vl := vl) (bo := bo) (od := od) (va := va) (mk := mk) (post := post) (x1 := nI t) (v2 := v2) (J := wY_tear_58 post (nI t) v2 (nI lw) (nI N) (nI T) (nI B) (nI F) (nI sb) ck (nI hea) (nI lf) (nI dr) (nI ps) (nI fl) n) hY (s := i) (by omega) (hL i) (hlw i (by omega) z) (ih (i + 1) n _ (by omega) (by omega) (pp_Wr_step h (fun q => ?_) (fun q w e => hdj q i w.2.1 z e) (fun x => by omega))) (ln i) 0 9 (by omega) (by have := hL i; omega)
    · rw [Nat.zero_min, pp_wr0] at k1
      exact k1
    · by_cases e : q = i
      · rw [e]; exact ⟨fun _ => Or.inr rfl, fun _ => ⟨by omega, z, zk⟩⟩
      · exact ⟨fun w => Or.inl ⟨by omega, w.2⟩, fun w => w.elim (fun w => ⟨by omega, w.2⟩) (fun w => absurd w e)⟩
theorem yw_tr7 {post : SY → Prop} {v2 : Int32} {t : Nat} (ht : t < 4) (hY : qq_Yb N ys kd fi en ln od)
    (K : ∀ lw, lw ≤ 256 → (∀ q, q < N → ys q = 16 + t → lw ≤ fi q) → (lw = 256 ∨ ∃ q, q < N ∧ ys q = 16 + t ∧ fi q = lw) → ∃ n, wY_tear_58 post (nI t) v2 (nI lw) (nI N) (nI T) (nI B) (nI F) (nI sb) ck (nI hea) (nI lf) (nI dr) (nI ps) (nI fl) n (nI 0) im ca me (ee_N ys) (ee_N kd) (ee_N fi) (ee_N ln) vl bo (ee_N od) va (ee_N mk)) :
    ∀ m i n lw, i + m = N → m < n → lw ≤ 256 → (∀ q, q < i → ys q = 16 + t → lw ≤ fi q) → (lw = 256 ∨ ∃ q, q < N ∧ ys q = 16 + t ∧ fi q = lw) → wY_tear_7 post (nI t) v2 (nI N) (nI T) (nI B) (nI F) (nI sb) ck (nI hea) (nI lf) (nI dr) (nI ps) (nI fl) im ca me (ee_N ys) (ee_N kd) (ee_N fi) (ee_N ln) vl bo (ee_N od) va (ee_N mk) n (nI lw) (nI i) := by
  have hN := hY.1
  intro m
  induction m with
  | zero =>
    intro i n lw hm hn h0 h1 h2
    obtain ⟨n, rfl⟩ : ∃ k, n = k + 1 := ⟨n - 1, by omega⟩
    exact br_t (nI_le (by omega) (by omega)) (K lw h0 (fun q hq => h1 q (by omega)) h2)
  | succ m ih =>
    intro i n lw hm hn h0 h1 h2
    obtain ⟨n, rfl⟩ : ∃ k, n = k + 1 := ⟨n - 1, by omega⟩
    obtain ⟨a1, a2, a3, a4, a5, a6, a7⟩ := hY.2 i
    have hin : vp_in (nI i) 16 := vp_in_nI (by omega) (by omega)
    refine br_f (nI_ge (by omega) (by omega)) (And.intro hin (ee_if (d := ys i = 16 + t) (by rw [show (16 : Int32) + nI t = nI (16 + t) from nI_add 16 t]; exact ee_eN (16 + t) (by omega) (by omega) (by omega)) (fun z => And.intro hin (pk_le lw (fi i) (fun w => nm_r (nI_1 i) (ih (i + 1) n lw (by omega) (by omega) h0 (fun q hq y => ?_) h2)) (fun w => And.intro hin (nm_r (ee_rN (by omega)) (nm_r (nI_1 i) (ih (i + 1) n (fi i) (by omega) (by omega) a3 (fun q hq y => ?_) (Or.inr ⟨i, by omega, z, rfl⟩))))) rfl (ee_rN (by omega)))) (fun z => nm_r (nI_1 i) (ih (i + 1) n lw (by omega) (by omega) h0 (fun q hq y => ?_) h2))))
    · by_cases e : q = i
      · rw [e]; exact w
      · exact h1 q (by omega) y
    · by_cases e : q = i
      · rw [e]; exact Nat.le_refl _
      · have := h1 q (by omega) y; omega
    · by_cases e : q = i
      · rw [e] at y; exact absurd y z
      · exact h1 q (by omega) y
theorem yw_pl62 {post : Int32 → SY → Prop} {x3 : Int32} (h : post x3 (nI N, nI T, nI B, nI F, nI sb, ck, nI 0, nI 0, nI 0, nI 0, nI 0, qq_cp me im 256, qq_cp me ca 256, me, ee_N ys, ee_N kd, ee_N fi, ee_N ln, vl, bo, ee_N od, va, ee_N mk)) : ∀ m i n, i + m = 256 → m < n → wY_powerLoss_62 post x3 (nI N) (nI T) (nI B) (nI F) (nI sb) ck (nI hea) (nI lf) (nI dr) (nI ps) (nI fl) n (nI i) (qq_cp me im i) (qq_cp me ca i) me (ee_N ys) (ee_N kd) (ee_N fi) (ee_N ln) vl bo (ee_N od) va (ee_N mk) := by
  intro m
  induction m with
  | zero =>
    intro i n hm hn
    obtain ⟨n, rfl⟩ : ∃ k, n = k + 1 := ⟨n - 1, by omega⟩
    have e : i = 256 := by omega
    subst e
    exact br_t (nI_le (a := 256) (Nat.le_refl _) (by omega)) h
  | succ m ih =>
    intro i n hm hn
    obtain ⟨n, rfl⟩ : ∃ k, n = k + 1 := ⟨n - 1, by omega⟩
    have hin : vp_in (nI i) 256 := vp_in_nI (by omega) (by omega)
    refine br_f (nI_ge (b := 256) (by omega) (by omega)) (And.intro hin (And.intro hin (nm_r (e' := qq_cp me ca (i + 1)) ?_ (And.intro hin (And.intro hin (nm_r (e' := qq_cp me im (i + 1)) ?_ (nm_r (nI_1 i) (ih (i + 1) n (by omega) (by omega)))))))))
    · rw [ee_r (f := me) (by omega), ee_w (by omega)]; exact pp_cpS
    · rw [ee_r (f := me) (by omega), ee_w (by omega)]; exact pp_cpS
theorem yw_pl23 {post : Int32 → SY → Prop} (hY : qq_Yb N ys kd fi en ln od)
    (K : ∀ ys', (∀ q, q < N → ys' q = qq_lost (ys q)) → (∀ q, N ≤ q → ys' q = ys q) → ∃ n, wY_powerLoss_62 post (nI (cn (fun q => qq_unf (ys q)) N)) (nI N) (nI T) (nI B) (nI F) (nI sb) ck (nI hea) (nI lf) (nI dr) (nI ps) (nI fl) n (nI 0) im ca me (ee_N ys') (ee_N kd) (ee_N fi) (ee_N ln) vl bo (ee_N od) va (ee_N mk)) :
    ∀ m i n ys', i + m = N → m < n → (∀ q, q < i → ys' q = qq_lost (ys q)) → (∀ q, i ≤ q → ys' q = ys q) → wY_powerLoss_23 post (nI N) (nI T) (nI B) (nI F) (nI sb) ck (nI hea) (nI lf) (nI dr) (nI ps) (nI fl) n (nI (cn (fun q => qq_unf (ys q)) i)) (nI i) im ca me (ee_N ys') (ee_N kd) (ee_N fi) (ee_N ln) vl bo (ee_N od) va (ee_N mk) := by
  have hN := hY.1
  intro m
  induction m with
  | zero =>
    intro i n ys' hm hn h1 h2
    obtain ⟨n, rfl⟩ : ∃ k, n = k + 1 := ⟨n - 1, by omega⟩
    have e : i = N := by omega
    subst e
    exact br_t (nI_le (by omega) (by omega)) (K ys' h1 h2)
  | succ m ih =>
    intro i n ys' hm hn h1 h2
    obtain ⟨n, rfl⟩ : ∃ k, n = k + 1 := ⟨n - 1, by omega⟩
    have hin : vp_in (nI i) 16 := vp_in_nI (by omega) (by omega)
    have e0 := h2 i (Nat.le_refl _)
    refine br_f (nI_ge (by omega) (by omega)) (yw_unfinished (by omega) (by rw [e0]; exact (hY.2 i).1) (fun hu => br_f (by decide) (And.intro hin (nm_r (ee_wN (v := 8) (by omega)) (nm_r (e' := nI (cn (fun q => qq_unf (ys q)) (i + 1))) ?_ (nm_r (nI_1 i) (ih (i + 1) n _ (by omega) (by omega) (fun q hq => ?_) (fun q hq => ?_))))))) (fun hu => br_t rfl (nm_r (nI_1 i) ?_)))
    · rw [e0] at hu
      rw [nI_1]
      show _ = nI (cn (fun q => qq_unf (ys q)) i + b01 (qq_unf (ys i)))
      rw [b01_t hu]
    · rw [e0] at hu
      by_cases e : q = i
      · rw [e, ee_us, pp_lost_u hu]
      · rw [ee_un e]; exact h1 q (by omega)
    · rw [ee_un (by omega)]; exact h2 q (by omega)
    · rw [e0] at hu
      have k := ih (i + 1) n ys' (by omega) (by omega) (fun q hq => ?_) (fun q hq => h2 q (by omega))
      · rw [show cn (fun q => qq_unf (ys q)) (i + 1) = cn (fun q => qq_unf (ys q)) i + b01 (qq_unf (ys i)) from rfl, b01_f hu, Nat.add_zero] at k
        exact k
      · by_cases e : q = i
        · rw [e, e0, pp_lost_n hu]
        · exact h1 q (by omega)
theorem yw_powerLoss2 {post : Int32 → SY → Prop} (hY : qq_Yb N ys kd fi en ln od) (K : ∀ ys', (∀ q, q < N → ys' q = qq_lost (ys q)) → (∀ q, N ≤ q → ys' q = ys q) → post (nI (cn (fun q => qq_unf (ys q)) N)) (nI N, nI T, nI B, nI F, nI sb, ck, nI 0, nI 0, nI 0, nI 0, nI 0, qq_cp me im 256, qq_cp me ca 256, me, ee_N ys', ee_N kd, ee_N fi, ee_N ln, vl, bo, ee_N od, va, ee_N mk)) : ∃ n, wY_powerLoss_23 post (nI N) (nI T) (nI B) (nI F) (nI sb) ck (nI hea) (nI lf) (nI dr) (nI ps) (nI fl) n 0 0 im ca me (ee_N ys) (ee_N kd) (ee_N fi) (ee_N ln) vl bo (ee_N od) va (ee_N mk) := by
  refine ⟨N + 1, yw_pl23 hY (fun ys' a b => ⟨257, ?_⟩) N 0 (N + 1) ys (by omega) (by omega) (fun q hq => by omega) (fun q _ => rfl)⟩
  have k := yw_pl62 (N := N) (T := T) (B := B) (F := F) (sb := sb) (ck := ck) (hea := hea) (lf := lf) (dr := dr) (ps := ps) (fl := fl) (im := im) (ca := ca) (me := me) (ys := ys') (kd := kd) (fi := fi) (ln := ln) (vl := vl) (bo := bo) (od := od) (va := va) (mk := mk) (K ys' a b) 256 0 257 (by omega) (by omega)
  rw [pp_cp0, pp_cp0] at k
  exact k
end
end
section
/-! serial values; the relation -/
theorem cn_ex {P : Nat → Prop} : ∀ {N : Nat}, cn P N ≠ 0 → ∃ q, q < N ∧ P q := by
  intro N h
  refine Classical.byContradiction (fun w => h ?_)
  have k : cn P N ≤ cn (fun _ => False) N := cn_mono (fun q hq y => w ⟨q, hq, y⟩)
  have z : cn (fun _ => False) N = cn (fun _ => False) 0 := (cn_ext (Nat.zero_le _) (fun q _ y => y)).symm
  rw [z] at k
  have : cn (fun _ => False) 0 = 0 := rfl
  omega
theorem pp_hs_unf {m : Nat} : qq_unf (qq_hs m) ↔ qq_unf m := by
  unfold qq_hs
  split
  · rename_i h; rw [h]; unfold qq_unf; omega
  · exact Iff.rfl
section
variable {N T B F wc rc hea lf dr ps sb : Nat} {ck : Int32} {st kd fi en ln od bl lm re rn ct wf rf mk : Nat → Nat} {vl bo rd fo ca me im va : Nat → Int32} {nx ol yo os nw tg : Nat → Option Nat}
theorem pp_ser_act {st' : Nat → Nat} (h : qq_Ser st kd fi en ln od sb vl ca im va) (ha : ∀ q, qq_act (st' q) ↔ qq_act (st q)) : qq_Ser st' kd fi en ln od sb vl ca im va := by
  have e : ∀ o x v, qq_SerV st kd fi en od vl ca o x v → qq_SerV st' kd fi en od vl ca o x v := by
    intro o x v h
    rcases h with ⟨w, w1, w2, w3, w4⟩ | ⟨h1, h2⟩
    · exact Or.inl ⟨w, ⟨(ha w).mpr w1.1, w1.2⟩, w2, fun w' y => w3 w' ⟨(ha w').mp y.1, y.2⟩, w4⟩
    · exact Or.inr ⟨fun w y => h1 w ⟨(ha w).mp y.1, y.2⟩, h2⟩
  exact ⟨fun x hx => e _ _ _ (h.1 x hx), fun r hr hk i hi => e _ _ _ (h.2 r ((ha r).mp hr) hk i hi)⟩
theorem pp_ser_complete {t : Nat} {st' : Nat → Nat} {ca' : Nat → Int32} (hB : qq_B3 N T st kd fi en ln od sb) (h : qq_Ser st kd fi en ln od sb vl ca im va) (ha : ∀ q, qq_act (st' q) ↔ (qq_act (st q) ∧ st q ≠ 16 + t)) (hW : qq_Wr (fun q => st q = 16 + t ∧ kd q ≠ 0) fi en vl 1000 ca ca') : qq_Ser st' kd fi en ln od sb vl ca' im va := by
  have s16 : ∀ q, st q = 16 + t → qq_go (st q) ∧ qq_act (st q) := fun q hq => by unfold qq_go qq_act; omega
  have e : ∀ o x v, x < 256 → (∀ w, st w = 16 + t → kd w ≠ 0 → fi w ≤ x → x < en w → od w < o) → qq_SerV st kd fi en od vl ca o x v → qq_SerV st' kd fi en od vl ca' o x v := by
    intro o x v hx hc h
    rcases h with ⟨w, w1, w2, w3, w4⟩ | ⟨h1, h2⟩
    · by_cases z : st w = 16 + t
      · refine Or.inr ⟨fun w' y yo => ?_, ?_⟩
        · obtain ⟨y1, y2⟩ := (ha w').mp y.1
          have hne : w' ≠ w := fun e => y2 (by rw [e]; exact z)
          have ho := w3 w' ⟨y1, y.2⟩ yo
          have hno : od w' ≠ od w := fun e => hne (hB.2.1.2.2.2 w' w (pp_act_unf y1) (pp_act_unf w1.1) e)
          refine hB.2.2 w (s16 w z).1 w' (pp_act_unf y1) (by omega) ?_
          have := y.2.2
          have := w1.2.2
          unfold qq_ov; omega
        · rw [w4, (hW x).1 w ⟨z, w1.2.1⟩ w1.2.2.1 w1.2.2.2 (by omega)]
      · exact Or.inl ⟨w, ⟨(ha w).mpr ⟨w1.1, z⟩, w1.2⟩, w2, fun w' y => w3 w' ⟨((ha w').mp y.1).1, y.2⟩, w4⟩
    · refine Or.inr ⟨fun w y => h1 w ⟨((ha w).mp y.1).1, y.2⟩, ?_⟩
      rw [h2, (hW x).2 (fun w hw a b _ => h1 w ⟨(s16 w hw.1).2, hw.2, a, b⟩ (hc w hw.1 hw.2 a b))]
  refine ⟨fun x hx => e _ _ _ hx (fun w hw _ _ _ => hB.2.1.2.2.1 w (pp_act_unf (s16 w hw).2)) (h.1 x hx), fun r hr hk i hi => ?_⟩
  obtain ⟨r1, r2⟩ := (ha r).mp hr
  obtain ⟨k1, k2, k3, k4, k5, k6, k7⟩ := hB.1.2.2 r
  refine e _ _ _ (by omega) (fun w hw hkw a b => ?_) (h.2 r r1 hk i hi)
  have hne : r ≠ w := fun e => r2 (by rw [e]; exact hw)
  have hno : od r ≠ od w := fun e => hne (hB.2.1.2.2.2 r w (pp_act_unf r1) (pp_act_unf (s16 w hw).2) e)
  rcases Nat.lt_or_ge (od r) (od w) with z | z
  · exfalso
    refine hB.2.2 w (s16 w hw).1 r (pp_act_unf r1) z ?_
    unfold qq_ov; omega
  · omega
/-- a read in the device finds its value in the cache -/
theorem pp_ser_read {t r i : Nat} (hB : qq_B3 N T st kd fi en ln od sb) (h : qq_Ser st kd fi en ln od sb vl ca im va) (hr : st r = 16 + t) (hk : kd r = 0) (hi : i < ln r) : va (r * 8 + i) = ca (fi r + i) := by
  obtain ⟨k1, k2, k3, k4, k5, k6, k7⟩ := hB.1.2.2 r
  rcases h.2 r (by unfold qq_act; omega) hk i hi with ⟨w, w1, w2, w3, w4⟩ | ⟨h1, h2⟩
  · exfalso
    refine hB.2.2 r (by unfold qq_go; omega) w (pp_act_unf w1.1) w2 ?_
    have := w1.2.2
    unfold qq_ov; omega
  · exact h2
theorem pp_ser_submit {s k a b m : Nat} {x4 : Int32} (hB : qq_B3 N T st kd fi en ln od sb) (h : qq_Ser st kd fi en ln od sb vl ca im va) (h0 : st s = 0) (hb : b ≤ 8) (hm : qq_act m → k ≠ 5) (hm2 : k ≠ 5 → qq_act m) (h5 : k = 5 → b = 0) (hab : a + b ≤ 256) :
    qq_Ser (ee_u st s m) (ee_u kd s k) (ee_u fi s a) (ee_u en s (a + b)) (ee_u ln s b) (ee_u od s sb) (sb + 1) (ee_u vl s x4) ca (qq_wr im a (if k = 0 then 0 else b) x4) (qq_rd va im (s * 8) a (if k = 0 then b else 0)) := by
  have ne : ∀ q, qq_act (st q) → q ≠ s := fun q hq e => by rw [e, h0] at hq; unfold qq_act at hq; omega
  have pw : ∀ w x, w ≠ s → ((qq_act (ee_u st s m w) ∧ ee_u kd s k w ≠ 0 ∧ ee_u fi s a w ≤ x ∧ x < ee_u en s (a + b) w) ↔ (qq_act (st w) ∧ kd w ≠ 0 ∧ fi w ≤ x ∧ x < en w)) := by
    intro w x e
    rw [ee_un e, ee_un e, ee_un e, ee_un e]
  have lt : ∀ w, qq_act (st w) → od w < sb := fun w hw => hB.2.1.2.2.1 w (pp_act_unf hw)
  have e : ∀ o o' x v, (∀ w, qq_act (st w) → (od w < o' ↔ od w < o)) → ¬ ((qq_act (ee_u st s m s) ∧ ee_u kd s k s ≠ 0 ∧ ee_u fi s a s ≤ x ∧ x < ee_u en s (a + b) s) ∧ sb < o') → qq_SerV st kd fi en od vl ca o x v → qq_SerV (ee_u st s m) (ee_u kd s k) (ee_u fi s a) (ee_u en s (a + b)) (ee_u od s sb) (ee_u vl s x4) ca o' x v := by
    intro o o' x v ho hs h
    rcases h with ⟨w, w1, w2, w3, w4⟩ | ⟨h1, h2⟩
    · have hw := ne w w1.1
      refine Or.inl ⟨w, (pw w x hw).mpr w1, by rw [ee_un hw]; exact (ho w w1.1).mpr w2, fun w' y y2 => ?_, by rw [ee_un hw, ee_un hw]; exact w4⟩
      by_cases ew : w' = s
      · rw [ew] at y y2
        rw [ee_us] at y2
        exact absurd ⟨y, y2⟩ hs
      · have y' := (pw w' x ew).mp y
        rw [ee_un ew] at y2 ⊢
        rw [ee_un hw]
        exact w3 w' y' ((ho w' y'.1).mp y2)
    · refine Or.inr ⟨fun w y y2 => ?_, h2⟩
      by_cases ew : w = s
      · rw [ew] at y y2
        rw [ee_us] at y2
        exact hs ⟨y, y2⟩
      · have y' := (pw w x ew).mp y
        rw [ee_un ew] at y2
        exact h1 w y' ((ho w y'.1).mp y2)
  refine ⟨fun x hx => ?_, fun r hr hk i hi => ?_⟩
  · by_cases z : k ≠ 0 ∧ k ≠ 5 ∧ a ≤ x ∧ x < a + b
    · refine Or.inl ⟨s, ?_, ?_, fun w y y2 => ?_, ?_⟩
      · rw [ee_us, ee_us, ee_us, ee_us]; exact ⟨hm2 z.2.1, z.1, z.2.2⟩
      · rw [ee_us]; omega
      · rw [ee_us]; omega
      · rw [ee_us, ee_us]
        unfold qq_wr
        rw [if_neg z.1, if_pos z.2.2]
    · have eim : qq_wr im a (if k = 0 then 0 else b) x4 x = im x := by
        unfold qq_wr
        refine if_neg (fun w => z ?_)
        by_cases k0 : k = 0
        · rw [if_pos k0] at w; omega
        · rw [if_neg k0] at w
          by_cases k5 : k = 5
          · have := h5 k5; omega
          · exact ⟨k0, k5, w⟩
      rw [eim]
      refine e sb (sb + 1) x (im x) (fun w hw => by have := lt w hw; omega) (fun w => z ?_) (h.1 x hx)
      rw [ee_us, ee_us, ee_us, ee_us] at w
      exact ⟨w.1.2.1, hm w.1.1, w.1.2.2⟩
  · by_cases er : r = s
    · subst er
      rw [ee_us] at hk hi ⊢
      rw [ee_us]
      have eva : qq_rd va im (r * 8) a (if k = 0 then b else 0) (r * 8 + i) = im (a + i) := by
        unfold qq_rd
        rw [if_pos hk, if_pos (by omega), Nat.add_sub_cancel_left]
      rw [eva]
      exact e sb sb (a + i) (im (a + i)) (fun _ _ => Iff.rfl) (fun w => by omega) (h.1 (a + i) (by omega))
    · rw [ee_un er] at hr hk hi ⊢
      rw [ee_un er]
      have hl := (hB.1.2.2 r).2.2.2.1
      have eva : qq_rd va im (s * 8) a (if k = 0 then b else 0) (r * 8 + i) = va (r * 8 + i) := by
        unfold qq_rd
        refine if_neg ?_
        have : (if k = 0 then b else 0) ≤ 8 := by split <;> omega
        omega
      rw [eva]
      have := lt r hr
      exact e (od r) (od r) (fi r + i) (va (r * 8 + i)) (fun _ _ => Iff.rfl) (fun w => by omega) (h.2 r hr hk i hi)
theorem pp_ready {q : Nat} (hB : qq_B3 N T st kd fi en ln od sb) (hb : qq_Blk qq_z st fi en od bl fo) (_hq : q < N) : qq_rdy N (fun q => qq_hs (st q)) fi en od q ↔ st q = 4 := by
  constructor
  · rintro ⟨h1, h2⟩
    dsimp only at h1
    have : st q = 3 ∨ st q = 4 := by unfold qq_hs at h1; split at h1 <;> omega
    rcases this with z | z
    · exfalso
      have hn := hb.2.2 q z
      rw [hb.1 q (by rw [z]; unfold qq_unf; omega)] at hn
      obtain ⟨r, r1, r2⟩ := cn_ex (P := fun r => qq_unf (st r) ∧ od r < od q ∧ qq_ov fi en r q) (N := 16) (by unfold qq_z at hn; omega)
      exact h2 r (pp_b3_lt hB r2.1.1).2 (pp_hs_unf.mpr r2.1) r2.2.1 r2.2.2
    · exact z
  · intro z
    refine ⟨by dsimp only; rw [z]; rfl, fun r _ hu ho => hB.2.2 q (by rw [z]; unfold qq_go; omega) r (pp_hs_unf.mp hu) ho⟩
theorem pp_yb (hB : qq_B3 N T st kd fi en ln od sb) : qq_Yb N (fun q => qq_hs (st q)) kd fi en ln od := by
  refine ⟨hB.1.1, fun q => ?_⟩
  obtain ⟨k1, k2, k3, k4, k5, k6, k7⟩ := hB.1.2.2 q
  have := hB.1.2.1
  have := hB.2.1.2.1 q
  have := hB.2.1.1
  refine ⟨?_, k6, by omega, by omega, k3, k5, by omega⟩
  dsimp only
  unfold qq_hs
  split <;> omega
end
def qq_Fct (k N T B F wc rc hea lf dr ps sb : Nat) (st kd fi en ln od bl lm re rn ct wf rf : Nat → Nat) (vl rd fo ca : Nat → Int32) (nx ol yo os nw tg : Nat → Option Nat) (im va : Nat → Int32) : Prop :=
  qq_Bas N T B F hea lf dr ps ∧ qq_XI N T st kd fi en ln od sb nx lm re rn ct ol yo os nw tg wc wf 0 rc rf ∧ qq_Blk qq_z st fi en od bl fo ∧ qq_Ser st kd fi en ln od sb vl ca im va ∧ qq_Rdd st kd ln rd va ∧ sb ≤ k
def qq_fg (rc : Nat) : Nat := if rc = 0 then 0 else 1
/-- the relation: both states are pictures of one abstract state, with its facts -/
def i_Rel (k : Nat) (u : SX) (v : SY) : Prop :=
  ∃ N : Nat, ∃ T : Nat, ∃ B : Nat, ∃ F : Nat, ∃ wc : Nat, ∃ rc : Nat, ∃ hea : Nat, ∃ lf : Nat, ∃ dr : Nat, ∃ ps : Nat, ∃ sb : Nat, ∃ ck : Int32, ∃ st : Nat → Nat, ∃ kd : Nat → Nat, ∃ fi : Nat → Nat, ∃ en : Nat → Nat, ∃ ln : Nat → Nat, ∃ od : Nat → Nat, ∃ bl : Nat → Nat, ∃ lm : Nat → Nat, ∃ re : Nat → Nat, ∃ rn : Nat → Nat, ∃ ct : Nat → Nat, ∃ wf : Nat → Nat, ∃ rf : Nat → Nat, ∃ vl : Nat → Int32, ∃ bo : Nat → Int32, ∃ rd : Nat → Int32, ∃ fo : Nat → Int32, ∃ ca : Nat → Int32, ∃ me : Nat → Int32, ∃ nx : Nat → Option Nat, ∃ ol : Nat → Option Nat, ∃ yo : Nat → Option Nat, ∃ os : Nat → Option Nat, ∃ nw : Nat → Option Nat, ∃ tg : Nat → Option Nat, ∃ im : Nat → Int32, ∃ va : Nat → Int32, ∃ mk : Nat → Nat, u = (nI N, nI T, nI B, nI F, nI wc, nI rc, nI hea, nI lf, nI dr, nI ps, ck, nI sb, ee_N st, ee_N kd, ee_N fi, ee_N en, vl, bo, ee_N od, rd, ee_N bl, fo, ee_O nx, ee_N lm, ee_N re, ee_N rn, ee_N ct, ee_O ol, ee_O yo, ee_O os, ee_O nw, ee_N wf, ee_N rf, ee_O tg, ca, me) ∧ v = (nI N, nI T, nI B, nI F, nI sb, ck, nI hea, nI lf, nI dr, nI ps, nI (qq_fg rc), im, ca, me, ee_N (fun q => qq_hs (st q)), ee_N kd, ee_N fi, ee_N ln, vl, bo, ee_N od, va, ee_N mk) ∧ qq_Fct k N T B F wc rc hea lf dr ps sb st kd fi en ln od bl lm re rn ct wf rf vl rd fo ca nx ol yo os nw tg im va
theorem rr_mk {k : Nat} {N T B F wc rc hea lf dr ps sb : Nat} {ck : Int32} {st kd fi en ln od bl lm re rn ct wf rf mk : Nat → Nat} {vl bo rd fo ca me im va : Nat → Int32} {nx ol yo os nw tg : Nat → Option Nat} (h : qq_Fct k N T B F wc rc hea lf dr ps sb st kd fi en ln od bl lm re rn ct wf rf vl rd fo ca nx ol yo os nw tg im va) {ys : Nat → Nat} (hys : ys = fun q => qq_hs (st q)) {fl : Nat} (hfl : fl = qq_fg rc) : i_Rel k (nI N, nI T, nI B, nI F, nI wc, nI rc, nI hea, nI lf, nI dr, nI ps, ck, nI sb, ee_N st, ee_N kd, ee_N fi, ee_N en, vl, bo, ee_N od, rd, ee_N bl, fo, ee_O nx, ee_N lm, ee_N re, ee_N rn, ee_N ct, ee_O ol, ee_O yo, ee_O os, ee_O nw, ee_N wf, ee_N rf, ee_O tg, ca, me) (nI N, nI T, nI B, nI F, nI sb, ck, nI hea, nI lf, nI dr, nI ps, nI fl, im, ca, me, ee_N ys, ee_N kd, ee_N fi, ee_N ln, vl, bo, ee_N od, va, ee_N mk) := by
  subst hys hfl
  exact ⟨N, T, B, F, wc, rc, hea, lf, dr, ps, sb, ck, st, kd, fi, en, ln, od, bl, lm, re, rn, ct, wf, rf, vl, bo, rd, fo, ca, me, nx, ol, yo, os, nw, tg, im, va, mk, rfl, rfl, h⟩
theorem rr_el {k : Nat} {u : SX} {v : SY} {P : SX → SY → Prop} (H : ∀ N T B F wc rc hea lf dr ps sb ck st kd fi en ln od bl lm re rn ct wf rf vl bo rd fo ca me nx ol yo os nw tg im va mk, qq_Fct k N T B F wc rc hea lf dr ps sb st kd fi en ln od bl lm re rn ct wf rf vl rd fo ca nx ol yo os nw tg im va → P (nI N, nI T, nI B, nI F, nI wc, nI rc, nI hea, nI lf, nI dr, nI ps, ck, nI sb, ee_N st, ee_N kd, ee_N fi, ee_N en, vl, bo, ee_N od, rd, ee_N bl, fo, ee_O nx, ee_N lm, ee_N re, ee_N rn, ee_N ct, ee_O ol, ee_O yo, ee_O os, ee_O nw, ee_N wf, ee_N rf, ee_O tg, ca, me) (nI N, nI T, nI B, nI F, nI sb, ck, nI hea, nI lf, nI dr, nI ps, nI (qq_fg rc), im, ca, me, ee_N (fun q => qq_hs (st q)), ee_N kd, ee_N fi, ee_N ln, vl, bo, ee_N od, va, ee_N mk)) (I : i_Rel k u v) : P u v :=
  I.elim fun N I => I.elim fun T I => I.elim fun B I => I.elim fun F I => I.elim fun wc I => I.elim fun rc I => I.elim fun hea I => I.elim fun lf I => I.elim fun dr I => I.elim fun ps I => I.elim fun sb I => I.elim fun ck I => I.elim fun st I => I.elim fun kd I => I.elim fun fi I => I.elim fun en I => I.elim fun ln I => I.elim fun od I => I.elim fun bl I => I.elim fun lm I => I.elim fun re I => I.elim fun rn I => I.elim fun ct I => I.elim fun wf I => I.elim fun rf I => I.elim fun vl I => I.elim fun bo I => I.elim fun rd I => I.elim fun fo I => I.elim fun ca I => I.elim fun me I => I.elim fun nx I => I.elim fun ol I => I.elim fun yo I => I.elim fun os I => I.elim fun nw I => I.elim fun tg I => I.elim fun im I => I.elim fun va I => I.elim fun mk I => by
    obtain ⟨e1, e2, h⟩ := I
    rw [e1, e2]
    exact H N T B F wc rc hea lf dr ps sb ck st kd fi en ln od bl lm re rn ct wf rf vl bo rd fo ca me nx ol yo os nw tg im va mk h
theorem i_up {k : Nat} {u : SX} {v : SY} (h : i_Rel k u v) : i_Rel (k + 5) u v := by
  refine rr_el (P := fun u v => i_Rel (k + 5) u v) ?_ h
  intro N T B F wc rc hea lf dr ps sb ck st kd fi en ln od bl lm re rn ct wf rf vl bo rd fo ca me nx ol yo os nw tg im va mk h
  exact rr_mk ⟨h.1, h.2.1, h.2.2.1, h.2.2.2.1, h.2.2.2.2.1, by have := h.2.2.2.2.2; omega⟩ rfl rfl
end
section
/-! the owed statements: the constructors, the plain calls -/
theorem ee_clamp (p : Int32) {lo hi : Nat} (h : lo ≤ hi) (hh : hi < 2 ^ 31) : ∃ n, lo ≤ n ∧ n ≤ hi ∧ (∀ (post : Int32 → Prop) (u : SX), post (nI n) → wpX_clamp post u p (nI lo) (nI hi)) ∧ (∀ (post : Int32 → Prop) (v : SY), post (nI n) → wpY_clamp post v p (nI lo) (nI hi)) := by
  by_cases h1 : nI lo ≤ p
  · by_cases h2 : p ≤ nI hi
    · obtain ⟨j, hj, rfl⟩ := nI_of (x := p) (fun z => by
        have a := Int32.le_iff_toInt_le.mp h1
        rw [nI_toInt (by omega)] at a
        have b := Int32.lt_iff_toInt_lt.mp z
        rw [show (0 : Int32).toInt = 0 from by decide] at b
        omega)
      rw [nI_leI (by omega) hj] at h1
      rw [nI_leI hj (by omega)] at h2
      exact ⟨j, h1, h2, fun post u hp => br_t (nI_le h1 hj) (br_t (nI_le h2 (by omega)) hp), fun post v hp => br_t (nI_le h1 hj) (br_t (nI_le h2 (by omega)) hp)⟩
    · exact ⟨hi, h, Nat.le_refl _, fun post u hp => br_t h1 (br_f h2 hp), fun post v hp => br_t h1 (br_f h2 hp)⟩
  · exact ⟨lo, Nat.le_refl _, h, fun post u hp => br_f h1 hp, fun post v hp => br_f h1 hp⟩
theorem ee_bad {v : Int32} {N : Nat} {A B : Prop} (hN : N < 2 ^ 31) (h : v < 0 ∨ nI N ≤ v) (hb : B) : (v < 0 → B) ∧ (¬ v < 0 → ((v < nI N → A) ∧ (¬ v < nI N → B))) := by
  refine ⟨fun _ => hb, fun z => ⟨fun w => ?_, fun _ => hb⟩⟩
  rcases h with h | h
  · exact absurd h z
  · exact absurd w (Int32.not_lt.mpr h)
section
variable {N T B F wc rc hea lf dr ps sb : Nat} {ck : Int32} {st kd fi en ln od bl lm re rn ct wf rf mk : Nat → Nat} {vl bo rd fo ca me im va : Nat → Int32} {nx ol yo os nw tg : Nat → Option Nat}
theorem pp_none_XI {lm0 re0 rn0 : Nat → Nat} (hB : qq_B3 N T st kd fi en ln od sb) (hl : ∀ q, st q = 0 ∨ st q = 7 ∨ st q = 8) (h1 : ∀ d, d < 2 → ct d = 0 ∧ os d = none ∧ nw d = none) (h2 : ∀ t, t < 4 → tg t = none) : qq_XI N T st kd fi en ln od sb nx lm0 re0 rn0 ct ol yo os nw tg 0 wf 0 0 rf := by
  refine ⟨hB, ⟨fun d hd => ?_, fun d hd => ?_, fun t ht => ?_⟩, ⟨fun j _ hj => by omega, fun i j _ _ hj => by omega, fun q hq => ?_⟩, ⟨fun j _ hj => by omega, fun i j _ _ hj => by omega, fun q hq => ?_⟩⟩
  · rw [(h1 d hd).1]
    refine ⟨by omega, fun i hi => by omega, fun i j _ hj => by omega, fun s hs => ?_, fun i hi => by omega, fun i hi => by omega⟩
    have := hl s; omega
  · rw [(h1 d hd).2.1, (h1 d hd).2.2]
    have no : ∀ q, ¬ qq_R st kd d q := fun q hq => by have := hl q; have := hq.1; omega
    exact ⟨fun q hq => absurd hq (no q), fun q hq => absurd hq (no q), fun q hq => absurd hq (no q)⟩
  · rw [h2 t ht]
    refine ⟨fun _ q hq => ?_, fun l hl => (nomatch hl), fun q hq => ?_, fun q r hq => ?_⟩
    · have := hl q; omega
    · have := hl q; omega
    · have := hl q; omega
  · have := hl q; unfold qq_W at hq; omega
  · have := hl q; unfold qq_V at hq; omega
theorem xw_vs_bad {post : Int32 → Prop} {v : Int32} (h : v < 0 ∨ nI N ≤ v) (hp : post 0) : wpX_validSlot post (nI N, nI T, nI B, nI F, nI wc, nI rc, nI hea, nI lf, nI dr, nI ps, ck, nI sb, ee_N st, ee_N kd, ee_N fi, ee_N en, vl, bo, ee_N od, rd, ee_N bl, fo, ee_O nx, ee_N lm, ee_N re, ee_N rn, ee_N ct, ee_O ol, ee_O yo, ee_O os, ee_O nw, ee_N wf, ee_N rf, ee_O tg, ca, me) v := by
  by_cases z : v < 0
  · exact br_t z hp
  · exact br_f z (br_t (h.resolve_left z) hp)
theorem xw_vs_ok {post : Int32 → Prop} {j : Nat} (hN : N ≤ 16) (hj : j < N) (hp : post 1) : wpX_validSlot post (nI N, nI T, nI B, nI F, nI wc, nI rc, nI hea, nI lf, nI dr, nI ps, ck, nI sb, ee_N st, ee_N kd, ee_N fi, ee_N en, vl, bo, ee_N od, rd, ee_N bl, fo, ee_O nx, ee_N lm, ee_N re, ee_N rn, ee_N ct, ee_O ol, ee_O yo, ee_O os, ee_O nw, ee_N wf, ee_N rf, ee_O tg, ca, me) (nI j) :=
  br_f (nI_pos (by omega)) (br_f (nI_ge (by omega) (by omega)) hp)
theorem ee_ok {j : Nat} {A B : Prop} (hN : N ≤ 16) (hj : j < N) (ha : A) : (nI j < 0 → B) ∧ (¬ nI j < 0 → ((nI j < nI N → A) ∧ (¬ nI j < nI N → B))) :=
  br_f (nI_pos (by omega)) (br_t (nI_lt (by omega) (by omega)) ha)
theorem pp_fct_up {k : Nat} (h : qq_Fct k N T B F wc rc hea lf dr ps sb st kd fi en ln od bl lm re rn ct wf rf vl rd fo ca nx ol yo os nw tg im va) : qq_Fct (k + 5) N T B F wc rc hea lf dr ps sb st kd fi en ln od bl lm re rn ct wf rf vl rd fo ca nx ol yo os nw tg im va := ⟨h.1, h.2.1, h.2.2.1, h.2.2.2.1, h.2.2.2.2.1, by have := h.2.2.2.2.2; omega⟩
theorem ee_ix {v : Int32} : v < 0 ∨ (¬ v < 0 ∧ ¬ v ≤ 255) ∨ ∃ j : Nat, j < 256 ∧ v = nI j := by
  rcases pk_ix v (n := 256) (by omega) with z | z | z
  · exact Or.inl z
  · refine Or.inr (Or.inl ?_)
    have a := Int32.le_iff_toInt_le.mp z
    rw [nI_toInt (by omega)] at a
    refine ⟨fun w => ?_, fun w => ?_⟩
    · have b := Int32.lt_iff_toInt_lt.mp w
      rw [show (0 : Int32).toInt = 0 from by decide] at b; omega
    · have b := Int32.le_iff_toInt_le.mp w
      rw [show (255 : Int32).toInt = 255 from by decide] at b; omega
  · exact Or.inr (Or.inr z)
end
theorem i_vc0 (k0 : Int32) (k1 : Int32) (k2 : Int32) (k3 : Int32) : wpX_init (fun u => wpY_init (fun v => i_Rel 4 u v) k0 k1 k2 k3) k0 k1 k2 k3 := by
  obtain ⟨N, n1, n2, n3, n4⟩ := ee_clamp k0 (lo := 8) (hi := 16) (by omega) (by omega)
  obtain ⟨T, t1, t2, t3, t4⟩ := ee_clamp k1 (lo := 1) (hi := 4) (by omega) (by omega)
  obtain ⟨B, b1, b2, b3, b4⟩ := ee_clamp k2 (lo := 1) (hi := 7) (by omega) (by omega)
  have key : ∀ F, F ≤ 1 → (∀ (post : Int32 → Prop) (v : SY), post (nI F) → wpY_clamp post v k3 0 1) → narrow .boolean (.int (nI F)) = .int (nI F) → fits .boolean (.int (nI F)) = true →
      wX_init_243 (fun u => wpY_init (fun v => i_Rel 4 u v) k0 k1 k2 k3) (nI F) (nI N) (nI T) (nI B) 0 0 0 0 0 0 0 0 0 (fun _ => 0) (fun _ => 0) (fun _ => 0) (fun _ => 0) (fun _ => 0) (fun _ => 0) (fun _ => 0) (fun _ => 0) (fun _ => 0) (fun _ => 0) (fun _ => 0) (fun _ => 0) (fun _ => 0) (fun _ => 0) (fun _ => 0) (fun _ => 0) (fun _ => 0) (fun _ => 0) (fun _ => 0) (fun _ => 0) (fun _ => 0) (fun _ => 0) (fun _ => 0) (fun _ => 0) := by
    intro F hF f4 hn hf
    refine And.intro hn (And.intro hf ?_)
    refine xw_reset (N := N) (T := T) (B := B) (F := F) (wc := 0) (rc := 0) (hea := 0) (lf := 0) (dr := 0) (ps := 0) (ck := 0) (sb := 0) (st := fun _ => 0) (kd := fun _ => 0) (fi := fun _ => 0) (en := fun _ => 0) (vl := fun _ => 0) (bo := fun _ => 0) (od := fun _ => 0) (rd := fun _ => 0) (bl := fun _ => 0) (fo := fun _ => 0) (nx := fun _ => some 0) (lm := fun _ => 0) (re := fun _ => 0) (rn := fun _ => 0) (ct := fun _ => 0) (ol := fun _ => some 0) (yo := fun _ => some 0) (os := fun _ => some 0) (nw := fun _ => some 0) (wf := fun _ => 0) (rf := fun _ => 0) (tg := fun _ => some 0) (ca := fun _ => 0) (me := fun _ => 0) (fun ct' os' nw' tg' h1 h2 => ?_)
    unfold wpY_init
    refine n4 _ _ (t4 _ _ (b4 _ _ (f4 _ _ ?_)))
    have hB3 : qq_B3 N T (fun _ => 0) (fun _ => 0) (fun _ => 0) (fun _ => 0) (fun _ => 0) (fun _ => 0) 0 := ⟨⟨by omega, by omega, fun s => ⟨Or.inl (Nat.zero_le _), fun _ => rfl, rfl, Nat.zero_le _, Nat.zero_le _, Nat.zero_le _, fun z => by unfold qq_act at z; omega⟩⟩, ⟨by omega, fun s => Nat.zero_le _, fun s hs => absurd rfl hs.1, fun s q hs => absurd rfl hs.1⟩, fun s hs => absurd rfl (pp_go_unf hs).1⟩
    refine rr_mk (k := 4) (N := N) (T := T) (B := B) (F := F) (wc := 0) (rc := 0) (hea := 0) (lf := 0) (dr := 0) (ps := 0) (sb := 0) (ck := 0) (st := fun _ => 0) (kd := fun _ => 0) (fi := fun _ => 0) (en := fun _ => 0) (ln := fun _ => 0) (od := fun _ => 0) (bl := fun _ => 0) (lm := fun _ => 0) (re := fun _ => 0) (rn := fun _ => 0) (ct := ct') (wf := fun _ => 0) (rf := fun _ => 0) (vl := fun _ => 0) (bo := fun _ => 0) (rd := fun _ => 0) (fo := fun _ => 0) (ca := fun _ => 0) (me := fun _ => 0) (nx := fun _ => some 0) (ol := fun _ => some 0) (yo := fun _ => some 0) (os := os') (nw := nw') (tg := tg') (im := fun _ => 0) (va := fun _ => 0) (mk := fun _ => 0) (ys := fun _ => 0) (fl := 0) ⟨⟨by omega, by omega, by omega, by omega, by omega, by omega, hF, by omega, by omega, by omega, by omega⟩, pp_none_XI hB3 (fun _ => Or.inl rfl) h1 h2, ⟨fun s hs => absurd rfl hs.1, fun q hq => absurd rfl hq.1, fun s hs => (nomatch hs)⟩, ⟨fun x hx => Or.inr ⟨fun w hw => absurd rfl (pp_act_unf hw.1).1, rfl⟩, fun r hr => absurd rfl (pp_act_unf hr).1⟩, ⟨fun r hr => (nomatch hr), fun r hr => hr.elim (fun z => (nomatch z)) (fun z => (nomatch z))⟩, by omega⟩ rfl rfl
  unfold wpX_init
  refine n3 _ _ (t3 _ _ (b3 _ _ (br_c (fun z => ?_) (fun z => ?_))))
  · refine key 0 (by omega) (fun post v hp => ?_) rfl rfl
    by_cases w : (0 : Int32) ≤ k3
    · have e : k3 = 0 := by
        have a := Int32.lt_iff_toInt_lt.mp z
        have b := Int32.le_iff_toInt_le.mp w
        rw [show (1 : Int32).toInt = 1 from by decide] at a
        rw [show (0 : Int32).toInt = 0 from by decide] at b
        refine Int32.toInt_inj.mp ?_
        rw [show (0 : Int32).toInt = 0 from by decide]
        omega
      rw [e]
      exact br_t (by decide) (br_t (by decide) hp)
    · exact br_f w hp
  · refine key 1 (by omega) (fun post v hp => ?_) rfl rfl
    have z1 : (1 : Int32) ≤ k3 := Int32.not_lt.mp z
    have z0 : (0 : Int32) ≤ k3 := Int32.le_trans (by decide) z1
    by_cases w : k3 ≤ 1
    · have e : k3 = 1 := Int32.le_antisymm w z1
      rw [e]
      exact br_t (by decide) (br_t (by decide) hp)
    · exact br_t z0 (br_f w hp)
theorem i_vc_tick {k : Nat} {u : SX} {v : SY} (I : i_Rel k u v) (hk : k + 5 ≤ 2564) (v1 : Int32) : wpX_tick (fun r u' => wpY_tick (fun r' v' => r' = r ∧ i_Rel (k + 5) u' v') v v1) u v1 := by
  refine rr_el (P := fun u v => wpX_tick (fun r u' => wpY_tick (fun r' v' => r' = r ∧ i_Rel (k + 5) u' v') v v1) u v1) ?_ I
  intro N T B F wc rc hea lf dr ps sb ck st kd fi en ln od bl lm re rn ct wf rf vl bo rd fo ca me nx ol yo os nw tg im va mk h
  obtain ⟨n, n1, n2, n3, n4⟩ := ee_clamp v1 (lo := 0) (hi := 255) (by omega) (by omega)
  unfold wpX_tick
  refine n3 _ _ (nm_e ?_)
  unfold wpY_tick
  exact n4 _ _ (nm_e ⟨rfl, rr_mk (pp_fct_up h) rfl rfl⟩)
theorem i_vc_status {k : Nat} {u : SX} {v : SY} (I : i_Rel k u v) (hk : k + 5 ≤ 2564) (v1 : Int32) : wpX_status (fun r => wpY_status (fun r' => r' = r ∧ i_Rel (k + 5) u v) v v1) u v1 := by
  refine rr_el (P := fun u v => wpX_status (fun r => wpY_status (fun r' => r' = r ∧ i_Rel (k + 5) u v) v v1) u v1) ?_ I
  intro N T B F wc rc hea lf dr ps sb ck st kd fi en ln od bl lm re rn ct wf rf vl bo rd fo ca me nx ol yo os nw tg im va mk h
  obtain ⟨hBas, hX, hB, hSer, hRdd, hsb⟩ := id h
  have hN := hX.1.1.1
  have R := rr_mk (ck := ck) (bo := bo) (me := me) (mk := mk) (pp_fct_up h) rfl rfl
  unfold wpX_status
  rcases pk_ix v1 (n := N) (by omega) with z | z | ⟨j, hj, rfl⟩
  · exact xw_vs_bad (Or.inl z) (br_t rfl (ee_bad (by omega) (Or.inl z) ⟨rfl, R⟩))
  · exact xw_vs_bad (Or.inr z) (br_t rfl (ee_bad (by omega) (Or.inr z) ⟨rfl, R⟩))
  · refine xw_vs_ok hN hj (br_f (by decide) (And.intro (vp_in_nI (by omega) (by omega)) ?_))
    rw [ee_rN (by omega)]
    have rd := pp_ready (q := j) hX.1 hB hj
    refine ee_ok hN hj (yw_ready (by omega) (pp_yb hX.1) (fun w => br_f (by decide) ⟨?_, R⟩) (fun w => br_t rfl (And.intro (vp_in_nI (by omega) (by omega)) ⟨?_, R⟩)))
    · rw [rd.mp w]; rfl
    · rw [ee_rN (by omega)]
      have : st j ≠ 4 := fun z => w (rd.mpr z)
      unfold qq_hs
      rw [if_neg this]
theorem pp_hs7 {m : Nat} : qq_hs m = 7 ↔ m = 7 := by
  unfold qq_hs; split <;> omega
theorem i_vc_readValue {k : Nat} {u : SX} {v : SY} (I : i_Rel k u v) (hk : k + 5 ≤ 2564) (v1 : Int32) (v2 : Int32) : wpX_readValue (fun r => wpY_readValue (fun r' => r' = r ∧ i_Rel (k + 5) u v) v v1 v2) u v1 v2 := by
  refine rr_el (P := fun u v => wpX_readValue (fun r => wpY_readValue (fun r' => r' = r ∧ i_Rel (k + 5) u v) v v1 v2) u v1 v2) ?_ I
  intro N T B F wc rc hea lf dr ps sb ck st kd fi en ln od bl lm re rn ct wf rf vl bo rd fo ca me nx ol yo os nw tg im va mk h
  obtain ⟨hBas, hX, hB, hSer, hRdd, hsb⟩ := id h
  have hN := hX.1.1.1
  have hT := hX.1.1.2.1
  have R := rr_mk (ck := ck) (bo := bo) (me := me) (mk := mk) (pp_fct_up h) rfl rfl
  unfold wpX_readValue
  rcases pk_ix v1 (n := N) (by omega) with z | z | ⟨j, hj, rfl⟩
  · exact xw_vs_bad (Or.inl z) (br_t rfl (ee_bad (by omega) (Or.inl z) ⟨rfl, R⟩))
  · exact xw_vs_bad (Or.inr z) (br_t rfl (ee_bad (by omega) (Or.inr z) ⟨rfl, R⟩))
  · have hin : vp_in (nI j) 16 := vp_in_nI (by omega) (by omega)
    obtain ⟨k1, k2, k3, k4, k5, k6, k7⟩ := hX.1.1.2.2 j
    have hys := ((pp_yb hX.1).2 j).1
    dsimp only at hys
    refine xw_vs_ok hN hj (br_f (by decide) (And.intro hin (ee_if (ee_eN 7 (by omega) (by omega) (by omega)) (fun z7 => And.intro hin (ee_if (ee_eN 0 (by omega) (by omega) (by omega)) (fun z0 => br_c (fun w => ?_) (fun w => And.intro hin (And.intro hin ?_))) (fun z0 => ?_))) (fun z7 => ?_))))
    · exact ee_ok hN hj (And.intro hin (ee_if (ee_eN 7 (by omega) (by omega) (by omega)) (fun _ => And.intro hin (ee_if (ee_eN 0 (by omega) (by omega) (by omega)) (fun _ => br_t w ⟨rfl, R⟩) (fun y => absurd z0 y))) (fun y => absurd (pp_hs7.mpr z7) y)))
    · have e : ee_N en (nI j).toNatClampNeg - ee_N fi (nI j).toNatClampNeg = nI (ln j) := by
        rw [ee_rN (by omega), ee_rN (by omega), pk_sub (by omega)]; exact congrArg nI (by omega)
      rw [e]
      obtain ⟨i, hi, rfl⟩ := nI_of w
      have e8 : nI j * 8 + nI i = nI (j * 8 + i) := by rw [show nI j * 8 = nI (j * 8) from pk_mul j 8, nI_add]
      refine pk_lt i (ln j) (fun y => And.intro (by rw [e8]; exact vp_in_nI (by omega) (by omega)) ?_) (fun y => ?_)
      · rw [e8]
        refine ee_ok hN hj (And.intro hin (ee_if (ee_eN 7 (by omega) (by omega) (by omega)) (fun _ => And.intro hin (ee_if (ee_eN 0 (by omega) (by omega) (by omega)) (fun _ => br_f w (And.intro hin (pk_lt i (ln j) (fun _ => And.intro (by rw [e8]; exact vp_in_nI (by omega) (by omega)) ⟨?_, R⟩) (fun x => absurd x (by omega)) rfl (ee_rN (by omega))))) (fun y => absurd z0 y))) (fun y => absurd (pp_hs7.mpr z7) y)))
        rw [e8, ee_r (f := rd) (by omega), ee_r (f := va) (by omega)]
        exact (hRdd.1 j z7 z0 i y).symm
      · refine ee_ok hN hj (And.intro hin (ee_if (ee_eN 7 (by omega) (by omega) (by omega)) (fun _ => And.intro hin (ee_if (ee_eN 0 (by omega) (by omega) (by omega)) (fun _ => br_f w (And.intro hin (pk_lt i (ln j) (fun x => absurd x (by omega)) (fun _ => ⟨rfl, R⟩) rfl (ee_rN (by omega))))) (fun y => absurd z0 y))) (fun y => absurd (pp_hs7.mpr z7) y)))
    · exact ee_ok hN hj (And.intro hin (ee_if (ee_eN 7 (by omega) (by omega) (by omega)) (fun _ => And.intro hin (ee_if (ee_eN 0 (by omega) (by omega) (by omega)) (fun y => absurd y z0) (fun _ => ⟨rfl, R⟩))) (fun y => absurd (pp_hs7.mpr z7) y)))
    · exact ee_ok hN hj (And.intro hin (ee_if (ee_eN 7 (by omega) (by omega) (by omega)) (fun y => absurd (pp_hs7.mp y) z7) (fun _ => ⟨rfl, R⟩)))
theorem i_vc_age {k : Nat} {u : SX} {v : SY} (I : i_Rel k u v) (hk : k + 5 ≤ 2564) (v1 : Int32) : wpX_age (fun r => wpY_age (fun r' => r' = r ∧ i_Rel (k + 5) u v) v v1) u v1 := by
  refine rr_el (P := fun u v => wpX_age (fun r => wpY_age (fun r' => r' = r ∧ i_Rel (k + 5) u v) v v1) u v1) ?_ I
  intro N T B F wc rc hea lf dr ps sb ck st kd fi en ln od bl lm re rn ct wf rf vl bo rd fo ca me nx ol yo os nw tg im va mk h
  obtain ⟨hBas, hX, hB, hSer, hRdd, hsb⟩ := id h
  have hN := hX.1.1.1
  have hT := hX.1.1.2.1
  have R := rr_mk (ck := ck) (bo := bo) (me := me) (mk := mk) (pp_fct_up h) rfl rfl
  unfold wpX_age
  rcases pk_ix v1 (n := N) (by omega) with z | z | ⟨j, hj, rfl⟩
  · exact xw_vs_bad (Or.inl z) (br_t rfl (ee_bad (by omega) (Or.inl z) ⟨rfl, R⟩))
  · exact xw_vs_bad (Or.inr z) (br_t rfl (ee_bad (by omega) (Or.inr z) ⟨rfl, R⟩))
  · have hin : vp_in (nI j) 16 := vp_in_nI (by omega) (by omega)
    have hst := (hX.1.1.2.2 j).1
    have hys := ((pp_yb hX.1).2 j).1
    refine xw_vs_ok hN hj (br_f (by decide) (xw_unfinished (by omega) (by omega) (fun w => br_f (by decide) (And.intro hin ?_)) (fun w => br_t rfl ?_)))
    · exact ee_ok hN hj (yw_unfinished (by omega) hys (fun _ => br_f (by decide) (And.intro hin ⟨rfl, R⟩)) (fun y => absurd (pp_hs_unf.mpr w) y))
    · exact ee_ok hN hj (yw_unfinished (by omega) hys (fun y => absurd (pp_hs_unf.mp y) w) (fun _ => br_t rfl ⟨rfl, R⟩))
theorem i_vc_held {k : Nat} {u : SX} {v : SY} (I : i_Rel k u v) (hk : k + 5 ≤ 2564) (v1 : Int32) : wpX_held (fun r => wpY_held (fun r' => r' = r ∧ i_Rel (k + 5) u v) v v1) u v1 := by
  refine rr_el (P := fun u v => wpX_held (fun r => wpY_held (fun r' => r' = r ∧ i_Rel (k + 5) u v) v v1) u v1) ?_ I
  intro N T B F wc rc hea lf dr ps sb ck st kd fi en ln od bl lm re rn ct wf rf vl bo rd fo ca me nx ol yo os nw tg im va mk h
  have R := rr_mk (ck := ck) (bo := bo) (me := me) (mk := mk) (pp_fct_up h) rfl rfl
  rcases ee_ix (v := v1) with z | ⟨z, z2⟩ | ⟨j, hj, rfl⟩
  · exact br_t z (br_t z ⟨rfl, R⟩)
  · exact br_f z (br_f z2 (br_f z (br_f z2 ⟨rfl, R⟩)))
  · have hin : vp_in (nI j) 256 := vp_in_nI (by omega) (by omega)
    have a : ¬ nI j < 0 := nI_pos (by omega)
    have b : nI j ≤ 255 := nI_le (b := 255) (by omega) (by omega)
    exact br_f a (br_t b (And.intro hin (br_f a (br_t b (And.intro hin ⟨rfl, R⟩)))))
theorem i_vc_stable {k : Nat} {u : SX} {v : SY} (I : i_Rel k u v) (hk : k + 5 ≤ 2564) (v1 : Int32) : wpX_stable (fun r => wpY_stable (fun r' => r' = r ∧ i_Rel (k + 5) u v) v v1) u v1 := by
  refine rr_el (P := fun u v => wpX_stable (fun r => wpY_stable (fun r' => r' = r ∧ i_Rel (k + 5) u v) v v1) u v1) ?_ I
  intro N T B F wc rc hea lf dr ps sb ck st kd fi en ln od bl lm re rn ct wf rf vl bo rd fo ca me nx ol yo os nw tg im va mk h
  have R := rr_mk (ck := ck) (bo := bo) (me := me) (mk := mk) (pp_fct_up h) rfl rfl
  rcases ee_ix (v := v1) with z | ⟨z, z2⟩ | ⟨j, hj, rfl⟩
  · exact br_t z (br_t z ⟨rfl, R⟩)
  · exact br_f z (br_f z2 (br_f z (br_f z2 ⟨rfl, R⟩)))
  · have hin : vp_in (nI j) 256 := vp_in_nI (by omega) (by omega)
    have a : ¬ nI j < 0 := nI_pos (by omega)
    have b : nI j ≤ 255 := nI_le (b := 255) (by omega) (by omega)
    exact br_f a (br_t b (And.intro hin (br_f a (br_t b (And.intro hin ⟨rfl, R⟩)))))
theorem i_vc_elevator {k : Nat} {u : SX} {v : SY} (I : i_Rel k u v) (hk : k + 5 ≤ 2564) : wpX_elevator (fun r => wpY_elevator (fun r' => r' = r ∧ i_Rel (k + 5) u v) v) u := by
  refine rr_el (P := fun u v => wpX_elevator (fun r => wpY_elevator (fun r' => r' = r ∧ i_Rel (k + 5) u v) v) u) ?_ I
  intro N T B F wc rc hea lf dr ps sb ck st kd fi en ln od bl lm re rn ct wf rf vl bo rd fo ca me nx ol yo os nw tg im va mk h
  exact And.intro rfl (rr_mk (pp_fct_up h) rfl rfl)
theorem i_vc_destage {k : Nat} {u : SX} {v : SY} (I : i_Rel k u v) (hk : k + 5 ≤ 2564) (v1 : Int32) : wpX_destage (fun r u' => wpY_destage (fun r' v' => r' = r ∧ i_Rel (k + 5) u' v') v v1) u v1 := by
  refine rr_el (P := fun u v => wpX_destage (fun r u' => wpY_destage (fun r' v' => r' = r ∧ i_Rel (k + 5) u' v') v v1) u v1) ?_ I
  intro N T B F wc rc hea lf dr ps sb ck st kd fi en ln od bl lm re rn ct wf rf vl bo rd fo ca me nx ol yo os nw tg im va mk h
  have R := rr_mk (ck := ck) (bo := bo) (me := me) (mk := mk) (pp_fct_up h) rfl rfl
  rcases ee_ix (v := v1) with z | ⟨z, z2⟩ | ⟨j, hj, rfl⟩
  · exact br_t z (br_t z ⟨rfl, R⟩)
  · exact br_f z (br_f z2 (br_f z (br_f z2 ⟨rfl, R⟩)))
  · have hin : vp_in (nI j) 256 := vp_in_nI (by omega) (by omega)
    have a : ¬ nI j < 0 := nI_pos (by omega)
    have b : nI j ≤ 255 := nI_le (b := 255) (by omega) (by omega)
    exact br_f a (br_t b (And.intro hin (And.intro hin (nm_e (br_f a (br_t b (And.intro hin (And.intro hin (nm_e ⟨rfl, rr_mk (pp_fct_up h) rfl rfl⟩)))))))))
theorem i_vc_reap {k : Nat} {u : SX} {v : SY} (I : i_Rel k u v) (hk : k + 5 ≤ 2564) (v1 : Int32) : wpX_reap (fun r u' => wpY_reap (fun r' v' => r' = r ∧ i_Rel (k + 5) u' v') v v1) u v1 := by
  refine rr_el (P := fun u v => wpX_reap (fun r u' => wpY_reap (fun r' v' => r' = r ∧ i_Rel (k + 5) u' v') v v1) u v1) ?_ I
  intro N T B F wc rc hea lf dr ps sb ck st kd fi en ln od bl lm re rn ct wf rf vl bo rd fo ca me nx ol yo os nw tg im va mk h
  obtain ⟨hBas, hX, hB, hSer, hRdd, hsb⟩ := id h
  have hN := hX.1.1.1
  have hT := hX.1.1.2.1
  have R := rr_mk (ck := ck) (bo := bo) (me := me) (mk := mk) (pp_fct_up h) rfl rfl
  unfold wpX_reap
  rcases pk_ix v1 (n := N) (by omega) with z | z | ⟨j, hj, rfl⟩
  · exact xw_vs_bad (Or.inl z) (br_t rfl (ee_bad (by omega) (Or.inl z) ⟨rfl, R⟩))
  · exact xw_vs_bad (Or.inr z) (br_t rfl (ee_bad (by omega) (Or.inr z) ⟨rfl, R⟩))
  · have hin : vp_in (nI j) 16 := vp_in_nI (by omega) (by omega)
    have hst := (hX.1.1.2.2 j).1
    have hys := ((pp_yb hX.1).2 j).1
    dsimp only at hys
    have fin : st j = 7 ∨ st j = 8 → i_Rel (k + 5) (nI N, nI T, nI B, nI F, nI wc, nI rc, nI hea, nI lf, nI dr, nI ps, ck, nI sb, ee_N (ee_u st j 0), ee_N kd, ee_N fi, ee_N en, vl, bo, ee_N od, rd, ee_N bl, fo, ee_O nx, ee_N lm, ee_N re, ee_N rn, ee_N ct, ee_O ol, ee_O yo, ee_O os, ee_O nw, ee_N wf, ee_N rf, ee_O tg, ca, me) (nI N, nI T, nI B, nI F, nI sb, ck, nI hea, nI lf, nI dr, nI ps, nI (qq_fg rc), im, ca, me, ee_N (ee_u (fun q => qq_hs (st q)) j 0), ee_N kd, ee_N fi, ee_N ln, vl, bo, ee_N od, va, ee_N mk) := by
      intro w
      obtain ⟨hB3, hTAD, hW, hV⟩ := hX
      refine rr_mk ⟨hBas, ⟨pp_b3_fin hB3 (by omega) (by unfold qq_unf; omega), pp_tad_plain hTAD (by omega) (by omega) (by omega) (by omega), pp_lst_congr hW (fun q => ?_), pp_lst_congr hV (fun q => ?_)⟩, pp_blk_st hB.1 hB.2.1 (fun q => ?_) (fun q hq => ?_), pp_ser_act hSer (fun q => ?_), ⟨fun r hr => ?_, fun r hr => ?_⟩, by omega⟩ ?_ rfl
      · unfold qq_W
        by_cases e : q = j
        · rw [e, ee_us]; omega
        · rw [ee_un e]
      · unfold qq_V
        by_cases e : q = j
        · rw [e, ee_us]; omega
        · rw [ee_un e]
      · unfold qq_unf
        by_cases e : q = j
        · rw [e, ee_us]; omega
        · rw [ee_un e]
      · by_cases e : q = j
        · rw [e, ee_us] at hq; omega
        · rw [ee_un e] at hq; exact hB.2.2 q hq
      · unfold qq_act
        by_cases e : q = j
        · rw [e, ee_us]; omega
        · rw [ee_un e]
      · by_cases e : r = j
        · rw [e, ee_us] at hr; omega
        · rw [ee_un e] at hr; exact hRdd.1 r hr
      · by_cases e : r = j
        · rw [e, ee_us] at hr; omega
        · rw [ee_un e] at hr; exact hRdd.2 r hr
      · funext q
        by_cases e : q = j
        · rw [e, ee_us, ee_us]; rfl
        · rw [ee_un e, ee_un e]
    have e78 : st j = 7 ∨ st j = 8 → qq_hs (st j) = st j := fun w => by unfold qq_hs; rw [if_neg (by omega)]
    have g7 : st j = 7 → wX_reap_32 (fun r u' => wpY_reap (fun r' v' => r' = r ∧ i_Rel (k + 5) u' v') (nI N, nI T, nI B, nI F, nI sb, ck, nI hea, nI lf, nI dr, nI ps, nI (qq_fg rc), im, ca, me, ee_N (fun q => qq_hs (st q)), ee_N kd, ee_N fi, ee_N ln, vl, bo, ee_N od, va, ee_N mk) (nI j)) (nI j) (nI N) (nI T) (nI B) (nI F) (nI wc) (nI rc) (nI hea) (nI lf) (nI dr) (nI ps) ck (nI sb) (ee_N st) (ee_N kd) (ee_N fi) (ee_N en) vl bo (ee_N od) rd (ee_N bl) fo (ee_O nx) (ee_N lm) (ee_N re) (ee_N rn) (ee_N ct) (ee_O ol) (ee_O yo) (ee_O os) (ee_O nw) (ee_N wf) (ee_N rf) (ee_O tg) ca me := by
      intro w
      refine And.intro hin (nm_r (ee_rN (by omega)) (And.intro hin (nm_r (ee_wN (v := 0) (by omega)) ?_)))
      refine ee_ok hN hj (And.intro hin (nm_r (e' := nI (st j)) (by rw [ee_rN (by omega), e78 (Or.inl w)]) (pk_eq (st j) 7 (fun _ => And.intro hin (nm_r (ee_wN (v := 0) (by omega)) ⟨rfl, fin (Or.inl w)⟩)) (fun y => absurd w y))))
    have g8 : st j = 8 → wX_reap_32 (fun r u' => wpY_reap (fun r' v' => r' = r ∧ i_Rel (k + 5) u' v') (nI N, nI T, nI B, nI F, nI sb, ck, nI hea, nI lf, nI dr, nI ps, nI (qq_fg rc), im, ca, me, ee_N (fun q => qq_hs (st q)), ee_N kd, ee_N fi, ee_N ln, vl, bo, ee_N od, va, ee_N mk) (nI j)) (nI j) (nI N) (nI T) (nI B) (nI F) (nI wc) (nI rc) (nI hea) (nI lf) (nI dr) (nI ps) ck (nI sb) (ee_N st) (ee_N kd) (ee_N fi) (ee_N en) vl bo (ee_N od) rd (ee_N bl) fo (ee_O nx) (ee_N lm) (ee_N re) (ee_N rn) (ee_N ct) (ee_O ol) (ee_O yo) (ee_O os) (ee_O nw) (ee_N wf) (ee_N rf) (ee_O tg) ca me := by
      intro w
      refine And.intro hin (nm_r (ee_rN (by omega)) (And.intro hin (nm_r (ee_wN (v := 0) (by omega)) ?_)))
      refine ee_ok hN hj (And.intro hin (nm_r (e' := nI (st j)) (by rw [ee_rN (by omega), e78 (Or.inr w)]) (pk_eq (st j) 7 (fun y => by omega) (fun _ => pk_eq (st j) 8 (fun _ => And.intro hin (nm_r (ee_wN (v := 0) (by omega)) ⟨rfl, fin (Or.inr w)⟩)) (fun y => absurd w y)))))
    refine xw_vs_ok hN hj (br_f (by decide) (And.intro hin (ee_if (ee_eN 7 (by omega) (by omega) (by omega)) g7 (fun n7 => And.intro hin (ee_if (ee_eN 8 (by omega) (by omega) (by omega)) g8 (fun n8 => ?_))))))
    refine ee_ok hN hj (And.intro hin (nm_r (e' := nI (qq_hs (st j))) (ee_rN (by omega)) (pk_eq (qq_hs (st j)) 7 (fun y => ?_) (fun _ => pk_eq (qq_hs (st j)) 8 (fun y => ?_) (fun _ => ⟨rfl, R⟩)))))
    · exact absurd (pp_hs7.mp y) n7
    · unfold qq_hs at y; split at y <;> omega
end
section
/-! the owed statements: submit, complete, flushes, power loss -/
theorem cn_or {P Q : Nat → Prop} (h : ∀ q, P q → ¬ Q q) : ∀ N, cn (fun q => P q ∨ Q q) N = cn P N + cn Q N
  | 0 => rfl
  | N + 1 => by
    have k := cn_or h N
    show cn (fun q => P q ∨ Q q) N + b01 (P N ∨ Q N) = (cn P N + b01 (P N)) + (cn Q N + b01 (Q N))
    rcases Classical.em (P N) with a | a
    · rw [b01_t (Or.inl a), b01_t a, b01_f (h N a)]; omega
    · rcases Classical.em (Q N) with b | b
      · rw [b01_t (Or.inr b), b01_f a, b01_t b]; omega
      · rw [b01_f (fun w => w.elim a b), b01_f a, b01_f b]; omega
theorem pp_hs0 {m : Nat} : qq_hs m = 0 ↔ m = 0 := by
  unfold qq_hs; split <;> omega
theorem pp_hsk {m j : Nat} (h3 : j ≠ 3) (h4 : j ≠ 4) : qq_hs m = j ↔ m = j := by
  unfold qq_hs; split <;> omega
section
variable {N T B F wc rc hea lf dr ps sb : Nat} {ck : Int32} {st kd fi en ln od bl lm re rn ct wf rf mk : Nat → Nat} {vl bo rd fo ca me im va : Nat → Int32} {nx ol yo os nw tg : Nat → Option Nat}
theorem ss_key {k kk a b : Nat} {x2 x3 x4 : Int32} (h : qq_Fct k N T B F wc rc hea lf dr ps sb st kd fi en ln od bl lm re rn ct wf rf vl rd fo ca nx ol yo os nw tg im va) (hk : k + 5 ≤ 2564) (hkk : kk ≤ 5) (hb : b ≤ 8) (hab : a + b ≤ 256) (hb1 : kk ≠ 5 → 1 ≤ b) (hb5 : kk = 5 → a = 0 ∧ b = 0) (h2 : kk ≠ 5 → x2 = nI a) (h3 : kk ≠ 5 → x3 = nI b)
    (HY : ∀ post' : Int32 → SY → Prop, (∃ n, wY_submit_56 post' (nI kk) x2 x3 x4 (nI N) (nI T) (nI B) (nI F) (nI sb) ck (nI hea) (nI lf) (nI dr) (nI ps) (nI (qq_fg rc)) im ca me (ee_N (fun q => qq_hs (st q))) (ee_N kd) (ee_N fi) (ee_N ln) vl bo (ee_N od) va (ee_N mk) n 0) → wpY_submit post' (nI N, nI T, nI B, nI F, nI sb, ck, nI hea, nI lf, nI dr, nI ps, nI (qq_fg rc), im, ca, me, ee_N (fun q => qq_hs (st q)), ee_N kd, ee_N fi, ee_N ln, vl, bo, ee_N od, va, ee_N mk) (nI kk) x2 x3 x4) :
    wX_submit_27 (fun r u' => wpY_submit (fun r' v' => r' = r ∧ i_Rel (k + 5) u' v') (nI N, nI T, nI B, nI F, nI sb, ck, nI hea, nI lf, nI dr, nI ps, nI (qq_fg rc), im, ca, me, ee_N (fun q => qq_hs (st q)), ee_N kd, ee_N fi, ee_N ln, vl, bo, ee_N od, va, ee_N mk) (nI kk) x2 x3 x4) (nI kk) x2 x3 x4 (nI N) (nI T) (nI B) (nI F) (nI wc) (nI rc) (nI hea) (nI lf) (nI dr) (nI ps) ck (nI sb) (ee_N st) (ee_N kd) (ee_N fi) (ee_N en) vl bo (ee_N od) rd (ee_N bl) fo (ee_O nx) (ee_N lm) (ee_N re) (ee_N rn) (ee_N ct) (ee_O ol) (ee_O yo) (ee_O os) (ee_O nw) (ee_N wf) (ee_N rf) (ee_O tg) ca me := by
  obtain ⟨hBas, hX, hB, hSer, hRdd, hsb⟩ := id h
  have hN := hX.1.1.1
  have hY := pp_yb hX.1
  have hS : ∀ q, qq_hs (st q) < 32 := fun q => (hY.2 q).1
  refine xw_submit27 hX hB (by omega) hkk hb hab hb1 hb5 h2 h3 (fun hfull => ?_) (fun s hs h0 hq m bl' fo' nx' lm' re' rn' ct' ol' yo' os' nw' wc' wf' hm hX' hB' => ?_)
  · refine HY _ ⟨N + 1, yw_sb56 hN hS hkk hb hab hb5 h2 h3 (fun _ => ⟨rfl, rr_mk (pp_fct_up h) rfl rfl⟩) (fun s hs h0 hq => absurd (pp_hs0.mp h0) (hfull s hs)) N 0 (N + 1) (by omega) (by omega) (fun q hq => by omega)⟩
  · refine HY _ ⟨N + 1, yw_sb56 hN hS hkk hb hab hb5 h2 h3 (fun hf => absurd (pp_hs0.mpr h0) (hf s hs)) (fun s' hs' h0' hq' => ?_) N 0 (N + 1) (by omega) (by omega) (fun q hq => by omega)⟩
    have es : s' = s := by
      rcases Nat.lt_trichotomy s' s with z | z | z
      · exact absurd (pp_hs0.mp h0') (hq s' z)
      · exact z
      · exact absurd (pp_hs0.mpr h0) (hq' s z)
    subst es
    have hm2 : (kk = 5 ∧ m = 5) ∨ (kk ≠ 5 ∧ (m = 1 ∨ m = 3 ∨ m = 4)) := by
      unfold qq_new qq_hs at hm
      split at hm <;> split at hm <;> (try split at hm) <;> omega
    refine ⟨rfl, rr_mk ⟨hBas, hX', hB', pp_ser_submit hX.1 hSer h0 hb (fun z => by unfold qq_act at z; omega) (fun z => by unfold qq_act; omega) (fun z => (hb5 z).2) hab, ⟨fun r hr hkr i hi => ?_, fun r hr => ?_⟩, by omega⟩ ?_ rfl⟩
    · have e : r ≠ s' := fun z => by rw [z, ee_us] at hr; omega
      rw [ee_un e] at hr hkr hi
      have hl := (hX.1.1.2.2 r).2.2.2.1
      rw [hRdd.1 r hr hkr i hi]
      unfold qq_rd
      refine (if_neg ?_).symm
      have : (if kk = 0 then b else 0) ≤ 8 := by split <;> omega
      omega
    · by_cases e : r = s'
      · rw [e, ee_us] at hr
        rw [e, ee_us]; omega
      · rw [ee_un e] at hr ⊢; exact hRdd.2 r hr
    · funext q
      by_cases e : q = s'
      · rw [e, ee_us, ee_us, hm]
      · rw [ee_un e, ee_un e]
end
theorem i_vc_submit {k : Nat} {u : SX} {v : SY} (I : i_Rel k u v) (hk : k + 5 ≤ 2564) (v1 : Int32) (v2 : Int32) (v3 : Int32) (v4 : Int32) : wpX_submit (fun r u' => wpY_submit (fun r' v' => r' = r ∧ i_Rel (k + 5) u' v') v v1 v2 v3 v4) u v1 v2 v3 v4 := by
  refine rr_el (P := fun u v => wpX_submit (fun r u' => wpY_submit (fun r' v' => r' = r ∧ i_Rel (k + 5) u' v') v v1 v2 v3 v4) u v1 v2 v3 v4) ?_ I
  intro N T B F wc rc hea lf dr ps sb ck st kd fi en ln od bl lm re rn ct wf rf vl bo rd fo ca me nx ol yo os nw tg im va mk h
  have R := rr_mk (ck := ck) (bo := bo) (me := me) (mk := mk) (pp_fct_up h) rfl rfl
  by_cases z0 : v1 < 0
  · exact br_t z0 (br_t z0 ⟨rfl, R⟩)
  by_cases z5 : v1 ≤ 5
  rotate_left
  · exact br_f z0 (br_f z5 (br_f z0 (br_f z5 ⟨rfl, R⟩)))
  obtain ⟨kk, hkk, rfl⟩ := nI_of2 (M := 5) (n := 5) (by decide) z0 z5
  by_cases e5 : kk = 5
  · subst e5
    exact br_f z0 (br_t z5 (br_t rfl (ss_key (a := 0) (b := 0) h hk (by omega) (by omega) (by omega) (fun w => absurd rfl w) (fun _ => ⟨rfl, rfl⟩) (fun w => absurd rfl w) (fun w => absurd rfl w) (fun post' w => br_f z0 (br_t z5 (br_t rfl w))))))
  have ne5 : ¬ nI kk = 5 := fun w => e5 ((nI_eq (b := 5) (by omega) (by omega)).mp w)
  refine br_f z0 (br_t z5 (br_f ne5 ?_))
  by_cases w0 : v2 < 0
  · exact br_t w0 (br_t rfl (br_f z0 (br_t z5 (br_f ne5 (br_t w0 ⟨rfl, R⟩)))))
  refine br_f w0 ?_
  by_cases w255 : v2 ≤ 255
  rotate_left
  · exact br_t (Int32.not_le.mp w255) (br_t rfl (br_f z0 (br_t z5 (br_f ne5 (br_f w0 (br_f w255 ⟨rfl, R⟩))))))
  refine br_f (Int32.not_lt.mpr w255) ?_
  by_cases w1 : v3 < 1
  · exact br_t w1 (br_t rfl (br_f z0 (br_t z5 (br_f ne5 (br_f w0 (br_t w255 (br_t w1 ⟨rfl, R⟩)))))))
  refine br_f w1 ?_
  by_cases w8 : v3 ≤ 8
  rotate_left
  · exact br_t (Int32.not_le.mp w8) (br_t rfl (br_f z0 (br_t z5 (br_f ne5 (br_f w0 (br_t w255 (br_f w1 (br_f w8 ⟨rfl, R⟩))))))))
  refine br_f (Int32.not_lt.mpr w8) ?_
  by_cases w256 : v2 + v3 ≤ 256
  rotate_left
  · exact br_t (Int32.not_le.mp w256) (br_t rfl (br_f z0 (br_t z5 (br_f ne5 (br_f w0 (br_t w255 (br_f w1 (br_t w8 (br_f w256 ⟨rfl, R⟩)))))))))
  refine br_f (Int32.not_lt.mpr w256) (br_f (by decide) ?_)
  have hY : ∀ post' : Int32 → SY → Prop, (∃ n, wY_submit_56 post' (nI kk) v2 v3 v4 (nI N) (nI T) (nI B) (nI F) (nI sb) ck (nI hea) (nI lf) (nI dr) (nI ps) (nI (qq_fg rc)) im ca me (ee_N (fun q => qq_hs (st q))) (ee_N kd) (ee_N fi) (ee_N ln) vl bo (ee_N od) va (ee_N mk) n 0) → wpY_submit post' (nI N, nI T, nI B, nI F, nI sb, ck, nI hea, nI lf, nI dr, nI ps, nI (qq_fg rc), im, ca, me, ee_N (fun q => qq_hs (st q)), ee_N kd, ee_N fi, ee_N ln, vl, bo, ee_N od, va, ee_N mk) (nI kk) v2 v3 v4 := fun post' w => br_f z0 (br_t z5 (br_f ne5 (br_f w0 (br_t w255 (br_f w1 (br_t w8 (br_t w256 w)))))))
  obtain ⟨a, ha, rfl⟩ := nI_of2 (M := 255) (n := 255) (by decide) w0 w255
  obtain ⟨b, hb, rfl⟩ := nI_of2 (x := v3) (M := 8) (n := 8) (by decide) (fun w => w1 (Int32.lt_trans w (by decide))) w8
  have hb1 : ¬ b < 1 := fun w => w1 (nI_lt (b := 1) w (by omega))
  have hab : a + b ≤ 256 := by
    rw [nI_add] at w256
    exact (nI_leI (b := 256) (by omega) (by omega)).mp w256
  exact ss_key (a := a) (b := b) h hk hkk hb hab (fun _ => by omega) (fun w => absurd w e5) (fun _ => rfl) (fun _ => rfl) hY
theorem i_vc_complete {k : Nat} {u : SX} {v : SY} (I : i_Rel k u v) (hk : k + 5 ≤ 2564) (v1 : Int32) : wpX_complete (fun r u' => wpY_complete (fun r' v' => r' = r ∧ i_Rel (k + 5) u' v') v v1) u v1 := by
  refine rr_el (P := fun u v => wpX_complete (fun r u' => wpY_complete (fun r' v' => r' = r ∧ i_Rel (k + 5) u' v') v v1) u v1) ?_ I
  intro N T B F wc rc hea lf dr ps sb ck st kd fi en ln od bl lm re rn ct wf rf vl bo rd fo ca me nx ol yo os nw tg im va mk h
  obtain ⟨hBas, hX, hB, hSer, hRdd, hsb⟩ := id h
  have hN := hX.1.1.1
  have hT := hX.1.1.2.1
  have hF : F ≤ 1 := hBas.2.2.2.2.2.2.1
  have hY := pp_yb hX.1
  have R := rr_mk (ck := ck) (bo := bo) (me := me) (mk := mk) (pp_fct_up h) rfl rfl
  rcases pk_ix v1 (n := T) (by omega) with z | z | ⟨t, ht, rfl⟩
  · exact ee_bad (by omega) (Or.inl z) (ee_bad (by omega) (Or.inl z) ⟨rfl, R⟩)
  · exact ee_bad (by omega) (Or.inr z) (ee_bad (by omega) (Or.inr z) ⟨rfl, R⟩)
  have hys : ∀ q, qq_hs (st q) = 16 + t ↔ st q = 16 + t := fun q => pp_hsk (by omega) (by omega)
  have hcn : cn (fun q => qq_hs (st q) = 16 + t) N = cn (fun q => st q = 16 + t) 16 := by
    rw [cn_ext hN (fun q hq w => by have := (hX.1.1.2.2 q).2.1 hq; have := (hys q).mp w; omega)]
    exact cn_eq (fun q _ => hys q)
  have hdj : ∀ q r, st q = 16 + t → st r = 16 + t → q ≠ r → en q ≤ fi r ∨ en r ≤ fi q := fun q r hq hr hn => pp_go_dj hX.1 (by unfold qq_go; omega) (by unfold qq_go; omega) hn
  have hdj' : ∀ q r, qq_hs (st q) = 16 + t → qq_hs (st r) = 16 + t → q ≠ r → en q ≤ fi r ∨ en r ≤ fi q := fun q r hq hr => hdj q r ((hys q).mp hq) ((hys r).mp hr)
  have hL : ∀ q, ln q ≤ 8 := fun q => (hX.1.1.2.2 q).2.2.2.1
  obtain ⟨d1, d2, d3, d4⟩ := hX.2.1.2.2 t (by omega)
  refine xw_complete ht hF hX hB (fun hz => ?_) (fun hz st' bl' fo' nx' lm' re' rn' ct' ol' yo' os' nw' wc' wf' rd' ca' me' hX' hB' hC hno => ?_)
  · refine yw_complete (ys := fun q => qq_hs (st q)) ht hT hY hL hF hdj' (fun _ => ⟨rfl, R⟩) (fun w => absurd ?_ w)
    rw [hcn]
    refine Classical.byContradiction (fun y => ?_)
    obtain ⟨q, _, hq⟩ := cn_ex y
    exact d1 hz q hq
  · have hne : cn (fun q => qq_hs (st q) = 16 + t) N ≠ 0 := by
      rw [hcn]
      rcases htg : tg t with _ | l
      · exact absurd htg hz
      · have hl := (d2 l htg).1
        have := cn_pos (P := fun q => st q = 16 + t) hl (pp_b3_lt hX.1 (s := l) (by omega)).1
        omega
    refine yw_complete (ys := fun q => qq_hs (st q)) ht hT hY hL hF hdj' (fun w => absurd w hne) (fun _ ys' ca2 me2 y1 y2 y3 y4 => ?_)
    rw [hcn]
    obtain ⟨c1, c2, c3, c4⟩ := hC
    have hmem : ∀ q, st q = 16 + t → st' q = qq_fin F kd q := fun q hq => ((c1 q).1 hq).resolve_left (hno q)
    have eca : ca2 = ca' := pp_Wr_uniq (pp_Wr_congr y3 (fun q => ⟨fun w => ⟨⟨(pp_b3_lt hX.1 (s := q) (by have := w.1.1; omega)).2, (hys q).mpr w.1.1⟩, w.2⟩, fun w => ⟨⟨(hys q).mp w.1.2, hno q⟩, w.2⟩⟩)) c2
    have eme : me2 = me' := pp_Wr_uniq (pp_Wr_congr y4 (fun q => ⟨fun w => ⟨⟨(pp_b3_lt hX.1 (s := q) (by have := w.1.1; omega)).2, (hys q).mpr w.1.1⟩, w.2⟩, fun w => ⟨⟨(hys q).mp w.1.2, hno q⟩, w.2⟩⟩)) c3
    subst eca eme
    have hf := fun q => pp_fin_lt (F := F) (kd := kd) (s := q)
    refine ⟨rfl, rr_mk ⟨hBas, hX', hB', pp_ser_complete (t := t) hX.1 hSer (fun q => ?_) (pp_Wr_congr c2 (fun q => ⟨fun w => ⟨⟨w.1, hno q⟩, w.2⟩, fun w => ⟨w.1.1, w.2⟩⟩)), ⟨fun r hr hkr i hi => ?_, fun r hr => ?_⟩, by omega⟩ ?_ rfl⟩
    · by_cases w : st q = 16 + t
      · have a := hmem q w
        have b := hf q
        exact ⟨fun y => by unfold qq_act at y; omega, fun y => absurd w y.2⟩
      · have a := (c1 q).2 w
        unfold qq_act
        constructor
        · intro y; exact ⟨by omega, w⟩
        · intro y; have := y.1; omega
    · have hi8 : i < 8 := by have := hL r; omega
      by_cases w : st r = 16 + t
      · rw [(c4 r i hi8).1 ⟨w, hno r, hkr⟩ hi]
        exact (pp_ser_read hX.1 hSer w hkr hi).symm
      · have a := (c1 r).2 w
        rw [(c4 r i hi8).2 (fun y => w y.1)]
        exact hRdd.1 r (by omega) hkr i hi
    · by_cases w : st r = 16 + t
      · have a := hmem r w
        intro y
        have : qq_dur (kd r) = 0 := by rw [y]; rfl
        rw [qq_fin, if_neg (by omega)] at a
        omega
      · have a := (c1 r).2 w
        exact hRdd.2 r (by omega)
    · funext q
      have b := hf q
      rcases Nat.lt_or_ge q N with w | w
      · rw [y1 q w]
        by_cases w2 : st q = 16 + t
        · rw [if_pos ((hys q).mpr w2), hmem q w2]
          unfold qq_hs
          rw [if_neg (by omega)]
        · rw [if_neg (fun y => w2 ((hys q).mp y))]
          rcases (c1 q).2 w2 with a | ⟨a, a2⟩
          · rw [a]
          · rw [a, a2]; rfl
      · rw [y2 q w]
        have s0 := (hX.1.1.2.2 q).2.1 w
        rcases (c1 q).2 (by omega) with a | ⟨a, a2⟩
        · rw [a]
        · omega
theorem i_vc_startFlush {k : Nat} {u : SX} {v : SY} (I : i_Rel k u v) (hk : k + 5 ≤ 2564) : wpX_startFlush (fun r u' => wpY_startFlush (fun r' v' => r' = r ∧ i_Rel (k + 5) u' v') v) u := by
  refine rr_el (P := fun u v => wpX_startFlush (fun r u' => wpY_startFlush (fun r' v' => r' = r ∧ i_Rel (k + 5) u' v') v) u) ?_ I
  intro N T B F wc rc hea lf dr ps sb ck st kd fi en ln od bl lm re rn ct wf rf vl bo rd fo ca me nx ol yo os nw tg im va mk h
  obtain ⟨hBas, hX, hB, hSer, hRdd, hsb⟩ := id h
  have hN := hX.1.1.1
  have hY := pp_yb hX.1
  have R := rr_mk (ck := ck) (bo := bo) (me := me) (mk := mk) (pp_fct_up h) rfl rfl
  have f1 : qq_fg rc ≤ 1 := by unfold qq_fg; split <;> omega
  have f0 : qq_fg rc = 0 ↔ rc = 0 := by unfold qq_fg; split <;> omega
  have hsum : cn (fun q => qq_hs (st q) = 1) N + cn (fun q => qq_hs (st q) = 5) N = wc := by
    rw [← cn_or (fun q a b => by omega), cn_ext hN (fun q hq w => by have s0 := (hX.1.1.2.2 q).2.1 hq; rw [s0] at w; rcases w with w | w <;> exact nomatch w)]
    rw [← pp_lst_cnt (m := wc) hX.2.2.1 (by omega) (fun q hq => (pp_b3_lt hX.1 (s := q) (by unfold qq_W at hq; omega)).1)]
    refine cn_eq (fun q _ => ?_)
    rw [pp_hsk (by omega) (by omega), pp_hsk (by omega) (by omega)]; exact Iff.rfl
  refine xw_startFlush hX hB (fun hr => ?_) (fun hr hw => ?_) (fun hr hw st' rf' hst hX' hB' => ?_)
  · exact yw_startFlush (ys := fun q => qq_hs (st q)) hY f1 (fun _ => ⟨rfl, R⟩) (fun w => absurd (f0.mp w) hr) (fun w => absurd (f0.mp w) hr)
  · exact yw_startFlush (ys := fun q => qq_hs (st q)) hY f1 (fun w => absurd (f0.mpr hr) w) (fun _ _ => ⟨rfl, R⟩) (fun _ w => absurd (hsum.trans hw) w)
  · refine yw_startFlush (ys := fun q => qq_hs (st q)) hY f1 (fun w => absurd (f0.mpr hr) w) (fun _ w => absurd (hsum.symm.trans w) hw) (fun _ _ ys' y1 y2 => ?_)
    rw [hsum]
    have hf : ∀ q, (st q = 1 ∧ st' q = 2) ∨ (st q = 5 ∧ st' q = 6) ∨ (st q ≠ 1 ∧ st q ≠ 5 ∧ st' q = st q) := by
      intro q
      rw [hst q]
      unfold qq_fl
      split
      · omega
      · split <;> omega
    refine ⟨rfl, rr_mk ⟨hBas, hX', hB', pp_ser_act hSer (fun q => ?_), ⟨fun r hr' => ?_, fun r hr' => ?_⟩, by omega⟩ ?_ ?_⟩
    · have := hf q; unfold qq_act; omega
    · have := hf r; exact hRdd.1 r (by omega)
    · have := hf r; exact hRdd.2 r (by omega)
    · funext q
      have e : qq_fl (qq_hs (st q)) = qq_hs (st' q) := by
        rcases hf q with ⟨a, b⟩ | ⟨a, b⟩ | ⟨a, b, c⟩
        · rw [a, b]; rfl
        · rw [a, b]; rfl
        · rw [c]
          unfold qq_fl qq_hs
          split
          · rfl
          · rfl
      rcases Nat.lt_or_ge q N with w | w
      · rw [y1 q w, e]
      · rw [y2 q w, ← e, (hX.1.1.2.2 q).2.1 w]; rfl
    · unfold qq_fg; rw [if_neg hw]
theorem i_vc_finishFlush {k : Nat} {u : SX} {v : SY} (I : i_Rel k u v) (hk : k + 5 ≤ 2564) : wpX_finishFlush (fun r u' => wpY_finishFlush (fun r' v' => r' = r ∧ i_Rel (k + 5) u' v') v) u := by
  refine rr_el (P := fun u v => wpX_finishFlush (fun r u' => wpY_finishFlush (fun r' v' => r' = r ∧ i_Rel (k + 5) u' v') v) u) ?_ I
  intro N T B F wc rc hea lf dr ps sb ck st kd fi en ln od bl lm re rn ct wf rf vl bo rd fo ca me nx ol yo os nw tg im va mk h
  obtain ⟨hBas, hX, hB, hSer, hRdd, hsb⟩ := id h
  have hN := hX.1.1.1
  have hY := pp_yb hX.1
  have R := rr_mk (ck := ck) (bo := bo) (me := me) (mk := mk) (pp_fct_up h) rfl rfl
  have f1 : qq_fg rc ≤ 1 := by unfold qq_fg; split <;> omega
  have f0 : qq_fg rc = 0 ↔ rc = 0 := by unfold qq_fg; split <;> omega
  have hsum : cn (fun q => qq_hs (st q) = 2) N + cn (fun q => qq_hs (st q) = 6) N = rc := by
    rw [← cn_or (fun q a b => by omega), cn_ext hN (fun q hq w => by have s0 := (hX.1.1.2.2 q).2.1 hq; rw [s0] at w; rcases w with w | w <;> exact nomatch w)]
    rw [← pp_lst_cnt (m := rc) hX.2.2.2 (by omega) (fun q hq => (pp_b3_lt hX.1 (s := q) (by unfold qq_V at hq; omega)).1)]
    refine cn_eq (fun q _ => ?_)
    rw [pp_hsk (by omega) (by omega), pp_hsk (by omega) (by omega)]; exact Iff.rfl
  refine xw_finishFlush hX hB (fun hr => ?_) (fun hr st' bl' fo' nx' lm' re' rn' ct' ol' yo' os' nw' hX' hB' hst => ?_)
  · exact yw_finishFlush (ys := fun q => qq_hs (st q)) hY f1 (fun _ => ⟨rfl, R⟩) (fun w => absurd (f0.mpr hr) w)
  · refine yw_finishFlush (ys := fun q => qq_hs (st q)) hY f1 (fun w => absurd (f0.mp w) hr) (fun _ ys' y1 y2 => ?_)
    rw [hsum]
    have hf : ∀ q, (st q = 2 ∧ (st' q = 3 ∨ st' q = 4)) ∨ (st q = 6 ∧ st' q = 7) ∨ (st q ≠ 2 ∧ st q ≠ 6 ∧ (st' q = st q ∨ (st q = 3 ∧ st' q = 4) ∨ (st q = 4 ∧ st' q = 3))) := by
      intro q
      have k := hst q
      unfold qq_ff qq_hs at k
      split at k <;> split at k <;> (try split at k) <;> (try split at k) <;> omega
    refine ⟨rfl, rr_mk ⟨hBas, hX', hB', pp_ser_act hSer (fun q => ?_), ⟨fun r hr' hkr => ?_, fun r hr' => ?_⟩, by omega⟩ ?_ rfl⟩
    · have := hf q; unfold qq_act; omega
    · have a := hf r
      rcases Nat.decEq (st r) 6 with n6 | e6
      · exact hRdd.1 r (by omega) hkr
      · exact absurd hkr (hRdd.2 r (Or.inr e6))
    · have := hf r; exact hRdd.2 r (by omega)
    · funext q
      have e : qq_fy (qq_hs (st q)) = qq_hs (st' q) := by
        rw [hst q]
        unfold qq_fy qq_ff qq_hs
        by_cases e4 : st q = 4
        · rw [e4]; rfl
        · rw [if_neg e4]
      rcases Nat.lt_or_ge q N with w | w
      · rw [y1 q w, e]
      · rw [y2 q w, ← e, (hX.1.1.2.2 q).2.1 w]; rfl
theorem i_vc_powerLoss {k : Nat} {u : SX} {v : SY} (I : i_Rel k u v) (hk : k + 5 ≤ 2564) (v1 : Int32) (v2 : Int32) : wpX_powerLoss (fun r u' => wpY_powerLoss (fun r' v' => r' = r ∧ i_Rel (k + 5) u' v') v v1 v2) u v1 v2 := by
  refine rr_el (P := fun u v => wpX_powerLoss (fun r u' => wpY_powerLoss (fun r' v' => r' = r ∧ i_Rel (k + 5) u' v') v v1 v2) u v1 v2) ?_ I
  intro N T B F wc rc hea lf dr ps sb ck st kd fi en ln od bl lm re rn ct wf rf vl bo rd fo ca me nx ol yo os nw tg im va mk h
  obtain ⟨hBas, hX, hB, hSer, hRdd, hsb⟩ := id h
  have hN := hX.1.1.1
  have hT := hX.1.1.2.1
  have hY := pp_yb hX.1
  have hcn : cn (fun q => qq_unf (qq_hs (st q))) N = cn (fun q => qq_unf (st q)) 16 := by
    rw [cn_ext hN (fun q hq w => by have s0 := (hX.1.1.2.2 q).2.1 hq; exact (pp_hs_unf.mp w).1 s0)]
    exact cn_eq (fun q _ => pp_hs_unf)
  obtain ⟨meO, hmeO⟩ : ∃ meO, meO = me := ⟨_, rfl⟩
  have key : ∀ me, (∀ post' : Int32 → SY → Prop, (∃ n, wY_powerLoss_23 post' (nI N) (nI T) (nI B) (nI F) (nI sb) ck (nI hea) (nI lf) (nI dr) (nI ps) (nI (qq_fg rc)) n 0 0 im ca me (ee_N (fun q => qq_hs (st q))) (ee_N kd) (ee_N fi) (ee_N ln) vl bo (ee_N od) va (ee_N mk)) → wpY_powerLoss post' (nI N, nI T, nI B, nI F, nI sb, ck, nI hea, nI lf, nI dr, nI ps, nI (qq_fg rc), im, ca, meO, ee_N (fun q => qq_hs (st q)), ee_N kd, ee_N fi, ee_N ln, vl, bo, ee_N od, va, ee_N mk) v1 v2) → ∃ n, wX_powerLoss_11 (fun r u' => wpY_powerLoss (fun r' v' => r' = r ∧ i_Rel (k + 5) u' v') (nI N, nI T, nI B, nI F, nI sb, ck, nI hea, nI lf, nI dr, nI ps, nI (qq_fg rc), im, ca, meO, ee_N (fun q => qq_hs (st q)), ee_N kd, ee_N fi, ee_N ln, vl, bo, ee_N od, va, ee_N mk) v1 v2) (nI N) (nI T) (nI B) (nI F) (nI wc) (nI rc) (nI hea) (nI lf) (nI dr) (nI ps) ck (nI sb) n 0 0 (ee_N st) (ee_N kd) (ee_N fi) (ee_N en) vl bo (ee_N od) rd (ee_N bl) fo (ee_O nx) (ee_N lm) (ee_N re) (ee_N rn) (ee_N ct) (ee_O ol) (ee_O yo) (ee_O os) (ee_O nw) (ee_N wf) (ee_N rf) (ee_O tg) ca me := by
    intro me HY
    refine xw_powerLoss2 hX (fun st' fo' ct' os' nw' tg' hst hX' hB' => HY _ (yw_powerLoss2 (ys := fun q => qq_hs (st q)) hY (fun ys' y1 y2 => ?_)))
    rw [hcn]
    have hl : ∀ q, (qq_unf (st q) ∧ st' q = 8) ∨ (¬ qq_unf (st q) ∧ st' q = st q) := by
      intro q
      rcases Classical.em (qq_unf (st q)) with w | w
      · exact Or.inl ⟨w, by rw [hst q, pp_lost_u w]⟩
      · exact Or.inr ⟨w, by rw [hst q, pp_lost_n w]⟩
    have hna : ∀ q, ¬ qq_act (st' q) := by
      intro q w
      have a := hl q
      unfold qq_act at w
      unfold qq_unf at a
      omega
    refine ⟨rfl, rr_mk ⟨⟨hBas.1, hBas.2.1, hBas.2.2.1, hBas.2.2.2.1, hBas.2.2.2.2.1, hBas.2.2.2.2.2.1, hBas.2.2.2.2.2.2.1, by omega, by omega, by omega, by omega⟩, hX', hB', ⟨fun x hx => Or.inr ⟨fun w hw => absurd hw.1 (hna w), ?_⟩, fun r hr => absurd hr (hna r)⟩, ⟨fun r hr => ?_, fun r hr => ?_⟩, by omega⟩ ?_ rfl⟩
    · unfold qq_cp; rw [if_pos hx, if_pos hx]
    · have := hl r; exact hRdd.1 r (by omega)
    · have a := hl r
      unfold qq_unf at a
      exact hRdd.2 r (by omega)
    · funext q
      have e : qq_lost (qq_hs (st q)) = qq_hs (st' q) := by
        rcases hl q with ⟨a, b⟩ | ⟨a, b⟩
        · rw [b, pp_lost_u (pp_hs_unf.mpr a)]; rfl
        · rw [b, pp_lost_n (fun w => a (pp_hs_unf.mp w))]
      rcases Nat.lt_or_ge q N with w | w
      · rw [y1 q w, e]
      · rw [y2 q w, ← e, (hX.1.1.2.2 q).2.1 w]; rfl
  rw [hmeO] at key
  unfold wpX_powerLoss
  rcases pk_ix v1 (n := T) (by omega) with z | z | ⟨t, ht, rfl⟩
  · exact br_t z (key me (fun post' w => br_t z w))
  · have z0 : ¬ v1 < 0 := fun w => by
      have a := Int32.le_iff_toInt_le.mp z
      rw [nI_toInt (by omega)] at a
      have b := Int32.lt_iff_toInt_lt.mp w
      rw [show (0 : Int32).toInt = 0 from by decide] at b
      omega
    exact br_f z0 (br_f (Int32.not_lt.mpr z) (key me (fun post' w => br_f z0 (br_t z w))))
  obtain ⟨d1, d2, d3, d4⟩ := hX.2.1.2.2 t (by omega)
  have hys : ∀ q, qq_hs (st q) = 16 + t ↔ st q = 16 + t := fun q => pp_hsk (by omega) (by omega)
  have hdj' : ∀ q r, qq_hs (st q) = 16 + t → qq_hs (st r) = 16 + t → q ≠ r → en q ≤ fi r ∨ en r ≤ fi q := fun q r hq hr hn => pp_go_dj hX.1 (by have := (hys q).mp hq; unfold qq_go; omega) (by have := (hys r).mp hr; unfold qq_go; omega) hn
  have hL : ∀ q, ln q ≤ 8 := fun q => (hX.1.1.2.2 q).2.2.2.1
  refine xw_tear hX.1 hX.2.1.2.2 ht (fun me' m1 m2 => key me' (fun post' w => br_f (nI_pos (by omega)) (br_f (nI_ge (by omega) (by omega)) ?_)))
  refine ⟨N + 1, yw_tr7 (ys := fun q => qq_hs (st q)) (by omega) hY (fun lw l0 l1 l2 => ⟨N + 1, ?_⟩) N 0 (N + 1) 256 (by omega) (by omega) (by omega) (fun q hq => by omega) (Or.inl rfl)⟩
  refine yw_tr58 (ys := fun q => qq_hs (st q)) (me0 := me) (by omega) hY hL l1 hdj' (fun me2 hW => ?_) N 0 (N + 1) me (by omega) (by omega) (pp_Wr_0 (fun q y => by omega))
  have em : me2 = me' := by
    rcases htg : tg t with _ | l
    · rw [m1 htg]
      exact pp_Wr_uniq hW (pp_Wr_0 (fun q y => d1 htg q ((hys q).mp y.2.1)))
    · obtain ⟨e1, e2⟩ := d2 l htg
      obtain ⟨k1, k2, k3, k4, k5, k6, k7⟩ := hX.1.1.2.2 l
      have kl := k7 (by unfold qq_act; omega)
      have hlN := (pp_b3_lt hX.1 (s := l) (by omega)).2
      have a := l1 l hlN ((hys l).mpr e1)
      have elw : lw = fi l := by
        rcases l2 with b | ⟨q, q1, q2, q3⟩
        · omega
        · have := e2 q ((hys q).mp q2); omega
      rw [elw] at hW
      exact pp_Wr_uniq (pp_Wr_congr hW (fun q => ⟨fun y => ⟨(pp_b3_lt hX.1 (s := q) (by have := y.1; omega)).2, (hys q).mpr y.1, y.2⟩, fun y => ⟨(hys q).mp y.2.1, y.2.2⟩⟩)) (m2 l htg)
  subst em
  exact w
end
section
/-! the choice of a run, alike on both sides -/
theorem pp_in_run {E : Nat → Prop} {d c : Nat} {st kd fi en lm re l : Nat → Nat} {nx : Nat → Option Nat} (h : qq_Tab E d st kd fi en nx lm re l c) (hD : qq_Dj st fi en) {p s x : Nat} (hp : p < c) (hs : st s = 4) (hd : qq_dir (kd s) = d) (x1 : fi s ≤ x) (x2 : x < en s) (x3 : fi (l p) ≤ x) (x4 : x < re (l p)) : qq_M st kd fi en d (l p) (re (l p)) s := by
  obtain ⟨h1, h2, h3, h4, h5, h6⟩ := h
  obtain ⟨j, hj, j1, j2, _⟩ := h4 s hs hd
  have : j = p := by
    rcases Nat.lt_trichotomy j p with w | w | w
    · have := h3 j p w hp; omega
    · exact w
    · have := h3 p j w hj; omega
  rw [← this]; exact ⟨hs, hd, j1, j2⟩
theorem pp_M_dur {E : Nat → Prop} {d c : Nat} {st kd fi en lm re l : Nat → Nat} {nx : Nat → Option Nat} (h : qq_Tab E d st kd fi en nx lm re l c) (hD : qq_Dj st fi en) {p s : Nat} (hp : p < c) (hs : qq_M st kd fi en d (l p) (re (l p)) s) : qq_dur (kd s) = qq_dur (kd (l p)) := by
  have hT := h
  obtain ⟨h1, h2, h3, h4, h5, h6⟩ := h
  obtain ⟨j, hj, j1, j2, j3, _⟩ := h4 s hs.1 hs.2.1
  have := pp_run_uniq hT hj hp j1 (hD.1 s hs.1).2.1 j2 hs.2.2.1 hs.2.2.2
  rw [← this]; exact j3
/-- a member that doesn't begin its run has one before it -/
theorem pp_prev {E : Nat → Prop} {d c : Nat} {st kd fi en lm re l : Nat → Nat} {nx : Nat → Option Nat} (h : qq_Tab E d st kd fi en nx lm re l c) (hD : qq_Dj st fi en) {p s : Nat} (hp : p < c) (hs : qq_M st kd fi en d (l p) (re (l p)) s) (hlt : fi (l p) < fi s) : ∃ r, qq_M st kd fi en d (l p) (re (l p)) r ∧ en r = fi s ∧ fi r < fi s := by
  have sz := hD.1 s hs.1
  obtain ⟨r, r1, r2, r3, r4⟩ := h.2.2.2.2.1 p hp (fi s - 1) (by omega) (by have := hs.2.2.2; omega)
  have hne : r ≠ s := fun e => by rw [e] at r3; omega
  have := hD.2 r s r1 hs.1 hne
  exact ⟨r, pp_in_run h hD hp r1 r2 r3 r4 (by omega) (by have := hs.2.2.2; omega), by omega, by omega⟩
theorem pp_conn {d c : Nat} {st kd fi en lm re l : Nat → Nat} {nx : Nat → Option Nat} (h : qq_Tab qq_E0 d st kd fi en nx lm re l c) (hD : qq_Dj st fi en) {p s0 : Nat} (hp : p < c) (h0 : qq_M st kd fi en d (l p) (re (l p)) s0) (S : Nat → Prop) (hS0 : S s0) (hne : ∃ q, qq_M st kd fi en d (l p) (re (l p)) q ∧ ¬ S q) : ∃ a b, S a ∧ qq_M st kd fi en d (l p) (re (l p)) b ∧ ¬ S b ∧ qq_jn kd fi en a b := by
  refine Classical.byContradiction (fun hno => ?_)
  have cl : ∀ a b, S a → qq_M st kd fi en d (l p) (re (l p)) a → qq_M st kd fi en d (l p) (re (l p)) b → (en a = fi b ∨ en b = fi a) → S b := by
    intro a b ha hMa hMb hj
    refine Classical.byContradiction (fun w => hno ⟨a, b, ha, hMb, w, ?_, ?_, hj⟩)
    · rw [hMa.2.1, hMb.2.1]
    · rw [pp_M_dur h hD hp hMa, pp_M_dur h hD hp hMb]
  have same : ∀ q, qq_M st kd fi en d (l p) (re (l p)) q → fi q = fi s0 → q = s0 := by
    intro q hq e
    refine Classical.byContradiction (fun w => ?_)
    have := hD.2 q s0 hq.1 h0.1 w
    have := hD.1 q hq.1
    have := hD.1 s0 h0.1
    omega
  have up : ∀ n q, qq_M st kd fi en d (l p) (re (l p)) q → fi s0 ≤ fi q → fi q ≤ fi s0 + n → S q := by
    intro n
    induction n with
    | zero => intro q hq a b; rw [same q hq (by omega)]; exact hS0
    | succ n ih =>
      intro q hq a b
      by_cases e : fi q = fi s0
      · rw [same q hq e]; exact hS0
      · have := h0.2.2.1
        obtain ⟨r, r1, r2, r3⟩ := pp_prev h hD hp hq (by omega)
        have rz := hD.1 r r1.1
        have hr : fi s0 ≤ fi r := by
          by_cases er : r = s0
          · rw [er]; exact Nat.le_refl _
          · have := hD.2 r s0 r1.1 h0.1 er
            have := hD.1 s0 h0.1
            omega
        exact cl r q (ih r r1 hr (by omega)) r1 hq (Or.inl r2)
  have dn : ∀ n q, qq_M st kd fi en d (l p) (re (l p)) q → fi q ≤ fi s0 → fi s0 ≤ fi q + n → S q := by
    intro n
    induction n with
    | zero => intro q hq a b; rw [same q hq (by omega)]; exact hS0
    | succ n ih =>
      intro q hq a b
      by_cases e : fi q = fi s0
      · rw [same q hq e]; exact hS0
      · have qz := hD.1 q hq.1
        have sz := hD.1 s0 h0.1
        have dj := hD.2 q s0 hq.1 h0.1 (fun z => e (by rw [z]))
        have := h0.2.2.2
        rcases pp_next_in h hD hp hq with ⟨k1, _⟩ | ⟨k1, r, r1, r2, r3⟩
        · omega
        · exact cl r q (ih r r2 (by omega) (by omega)) r2 hq (Or.inr r3.symm)
  obtain ⟨q, q1, q2⟩ := hne
  rcases Nat.le_total (fi s0) (fi q) with w | w
  · exact q2 (up (fi q) q q1 w (by omega))
  · exact q2 (dn (fi s0) q q1 w (by omega))
section
variable {N T B F wc rc hea lf dr ps sb : Nat} {ck : Int32} {st kd fi en ln od bl lm re rn ct wf rf mk : Nat → Nat} {vl bo rd fo ca me im va : Nat → Int32} {nx ol yo os nw tg : Nat → Option Nat}
theorem pp_begins {d c N : Nat} {l : Nat → Nat} (h : qq_Tab qq_E0 d st kd fi en nx lm re l c) (hD : qq_Dj st fi en) (hN : ∀ q, st q = 4 → q < N) {s : Nat} (hs : st s = 4) (hd : qq_dir (kd s) = d) : (∀ q, q < N → st q = 4 → fi q < fi s → ¬ qq_jn kd fi en q s) ↔ ∃ i, i < c ∧ s = l i := by
  constructor
  · intro hb
    obtain ⟨i, hi, k1, k2, k3, _⟩ := h.2.2.2.1 s hs hd
    refine ⟨i, hi, Classical.byContradiction (fun w => ?_)⟩
    have li := (h.2.1 i hi).1.1
    have dj := hD.2 s (l i) hs li w
    have sz := hD.1 s hs
    have lz := hD.1 _ li
    have hM : qq_M st kd fi en d (l i) (re (l i)) s := ⟨hs, hd, k1, k2⟩
    obtain ⟨r, r1, r2, r3⟩ := pp_prev h hD hi hM (by omega)
    refine hb r (hN r r1.1) r1.1 r3 ⟨?_, ?_, Or.inl r2⟩
    · rw [r1.2.1, hd]
    · rw [pp_M_dur h hD hi r1, k3]
  · rintro ⟨i, hi, e⟩ q _ hq hlt hj
    have k := pp_sound h hD (i := i) (p := s) (q := q) hi hs hd (by rw [e]; exact Nat.le_refl _) (by rw [e]; exact pp_lead_in h hD hi) hq (hj.1.trans hd) hj.2.1.symm (hj.2.2.symm)
    rw [← e] at k
    omega
theorem yw_earliest1 {post : Int32 → Prop} {d fl : Nat} (hd : d < 2) (hX : qq_XI N T st kd fi en ln od sb nx lm re rn ct ol yo os nw tg wc wf 0 rc rf) (hB : qq_Blk qq_z st fi en od bl fo) (hp : post (ee_o (os d))) : wpY_earliest post (nI N, nI T, nI B, nI F, nI sb, ck, nI hea, nI lf, nI dr, nI ps, nI fl, im, ca, me, ee_N (fun q => qq_hs (st q)), ee_N kd, ee_N fi, ee_N ln, vl, bo, ee_N od, va, ee_N mk) (nI d) := by
  have hA := (hX.2.1.2.1 d hd).2.1
  refine yw_earliest (Rq := fun q => st q = 4) (Q := fun s => s < N ∧ st s = 4 ∧ qq_dir (kd s) = d) hd (pp_yb hX.1) (fun q hq => pp_ready hX.1 hB hq) (fun s => Iff.rfl) (fun r h1 h2 => ?_)
  have hN : ∀ q, st q = 4 → q < N := fun q hq => (pp_b3_lt hX.1 (s := q) (by omega)).2
  have e : r = os d := by
    rcases ho : os d with _ | a
    · rw [ho, pp_hi_none] at hA
      rcases r with _ | b
      · rfl
      · obtain ⟨⟨_, b2, b3⟩, _⟩ := h2 b rfl
        have := hA b ⟨b2, b3⟩
        omega
    · rw [ho, pp_hi_some] at hA
      obtain ⟨⟨a1, a2⟩, _, a3⟩ := hA
      rcases r with _ | b
      · exact absurd ⟨hN a a1, a1, a2⟩ (h1 rfl a)
      · obtain ⟨⟨b1, b2, b3⟩, b4⟩ := h2 b rfl
        have x := b4 a ⟨hN a a1, a1, a2⟩
        have y := a3 b ⟨b2, b3⟩
        have : od b = od a := by omega
        rw [hX.1.2.1.2.2.2 b a (by rw [b2]; unfold qq_unf; omega) (by rw [a1]; unfold qq_unf; omega) this]
  rw [e]; exact hp
theorem yw_ahead1 {post : Int32 → Prop} {d pos fl : Nat} (hd : d < 2) (hh : hea ≤ 256) (hX : qq_XI N T st kd fi en ln od sb nx lm re rn ct ol yo os nw tg wc wf 0 rc rf) (hB : qq_Blk qq_z st fi en od bl fo) (hp : pos ≤ ct d) (h1 : ∀ i, i < pos → fi (rn (16 * d + i)) < hea) (h2 : ∀ i, pos ≤ i → i < ct d → hea ≤ fi (rn (16 * d + i)))
    (K0 : ¬ pos < ct d → post (ee_o none)) (K1 : pos < ct d → post (nI (rn (16 * d + pos)))) : wpY_ahead post (nI N, nI T, nI B, nI F, nI sb, ck, nI hea, nI lf, nI dr, nI ps, nI fl, im, ca, me, ee_N (fun q => qq_hs (st q)), ee_N kd, ee_N fi, ee_N ln, vl, bo, ee_N od, va, ee_N mk) (nI d) := by
  have hT := hX.2.1.1 d hd
  have hD := pp_dj hX.1
  have hN : ∀ q, st q = 4 → q < N := fun q hq => (pp_b3_lt hX.1 (s := q) (by omega)).2
  obtain ⟨m1, m2⟩ := pp_tab_mono hT hD
  refine yw_ahead (Rq := fun q => st q = 4) (Q := fun s => ∃ i, i < ct d ∧ s = rn (16 * d + i) ∧ hea ≤ fi s) hd hh (pp_yb hX.1) (fun q hq => pp_ready hX.1 hB hq) (fun s => ?_) (fun r r1 r2 => ?_)
  · constructor
    · rintro ⟨i, hi, e, hs⟩
      obtain ⟨⟨a1, a2⟩, _⟩ := hT.2.1 i hi
      dsimp only at a1 a2
      rw [← e] at a1 a2
      exact ⟨hN s a1, a1, a2, hs, (pp_begins hT hD hN a1 a2).mpr ⟨i, hi, e⟩⟩
    · rintro ⟨_, a1, a2, hs, hb⟩
      obtain ⟨i, hi, e⟩ := (pp_begins hT hD hN a1 a2).mp hb
      exact ⟨i, hi, e, hs⟩
  · by_cases z : pos < ct d
    · have hQ : ∃ i, i < ct d ∧ rn (16 * d + pos) = rn (16 * d + i) ∧ hea ≤ fi (rn (16 * d + pos)) := ⟨pos, z, rfl, h2 pos (Nat.le_refl _) z⟩
      rcases r with _ | b
      · exact absurd hQ (r1 rfl _)
      · obtain ⟨⟨i, hi, e, hs⟩, b2⟩ := r2 b rfl
        have x := b2 _ hQ
        have : i = pos := by
          rcases Nat.lt_trichotomy i pos with w | w | w
          · have := h1 i w; rw [e] at hs; omega
          · exact w
          · have := m2 pos i w hi; rw [e] at x; omega
        rw [e, this]; exact K1 z
    · rcases r with _ | b
      · exact K0 z
      · obtain ⟨⟨i, hi, e, hs⟩, b2⟩ := r2 b rfl
        have := h1 i (by omega)
        rw [e] at hs; omega
theorem dd_fin {k t p c : Nat} {Q : (Int32 → SY → Prop) → Prop} (h : qq_Fct k N T B F wc rc hea lf dr ps sb st kd fi en ln od bl lm re rn ct wf rf vl rd fo ca nx ol yo os nw tg im va) (hk : k + 5 ≤ 2564) (ht : t < T) (htg : tg t = none) (hp : p < ct dr) (hl : 1 ≤ lf) (hc : qq_M st kd fi en dr (rn (16 * dr + p)) (re (rn (16 * dr + p))) c)
    (HY : ∀ post' : Int32 → SY → Prop, wY_dispatch_208 post' (nI t) (nI c) (nI N) (nI T) (nI B) (nI F) (nI sb) ck (nI hea) (nI lf) (nI dr) (nI ps) (nI (qq_fg rc)) im ca me (ee_N (fun q => qq_hs (st q))) (ee_N kd) (ee_N fi) (ee_N ln) vl bo (ee_N od) va (ee_N mk) → Q post') : wX_dispatch_73 (fun r u' => Q (fun r' v' => r' = r ∧ i_Rel (k + 5) u' v')) (nI t) (nI p) (nI N) (nI T) (nI B) (nI F) (nI wc) (nI rc) (nI hea) (nI lf) (nI dr) (nI ps) ck (nI sb) (ee_N st) (ee_N kd) (ee_N fi) (ee_N en) vl bo (ee_N od) rd (ee_N bl) fo (ee_O nx) (ee_N lm) (ee_N re) (ee_N rn) (ee_N ct) (ee_O ol) (ee_O yo) (ee_O os) (ee_O nw) (ee_N wf) (ee_N rf) (ee_O tg) ca me := by
  obtain ⟨hBas, hX, hB, hSer, hRdd, hsb⟩ := id h
  obtain ⟨s1, s2, s3, s4, s5, s6, s7, s8, s9, s10, s11⟩ := id hBas
  have hT4 := hX.1.1.2.1
  have hd : dr < 2 := by omega
  have hT := hX.2.1.1 dr hd
  have hD := pp_dj hX.1
  have hN : ∀ q, st q = 4 → q < N := fun q hq => (pp_b3_lt hX.1 (s := q) (by omega)).2
  refine xw_dispatch73 hX hB hd ht htg hp hl (by omega) (fun st' rn' ct' ol' yo' os' nw' L hL hX' hB' hst => HY _ ?_)
  rw [← hL] at hc
  have eM : ∀ q, qq_M st kd fi en dr L (re L) q = qq_M st kd fi en dr ((fun i => rn (16 * dr + i)) p) (re ((fun i => rn (16 * dr + i)) p)) q := fun q => by rw [hL]
  obtain ⟨_, _, ⟨l1, l2⟩, l3⟩ := hT.2.1 p hp
  have l4 := pp_last_in hT hD hp
  dsimp only at l1 l2 l3 l4
  rw [← hL] at l1 l2 l3 l4
  have lz := hD.1 _ l1
  refine yw_dp208 (Rq := fun q => st q = 4) (M := qq_M st kd fi en dr L (re L)) (e := re L) (pp_yb hX.1) (fun q hq => pp_ready hX.1 hB hq) hc (fun q hq => ⟨hN q hq.1, hq.1⟩) (fun a b ha _ hb hj => ?_) (fun S hS0 hS hne => ?_) (by omega) (fun q hq => hq.2.2.2) ⟨lm L, hN _ l1, ⟨l1, l2, l4, by omega⟩, l3⟩ (by omega) hl (fun ys' mk' y1 y2 => ?_)
  · have hbd : qq_dir (kd b) = dr := hj.1.symm.trans ha.2.1
    rw [eM] at ha ⊢
    have k := pp_sound hT hD hp ha.1 ha.2.1 ha.2.2.1 ha.2.2.2 hb hbd hj.2.1 hj.2.2
    exact ⟨hb, hbd, k.1, k.2⟩
  · have hc' := hc
    rw [eM] at hc'
    obtain ⟨q, q1, q2⟩ := hne
    obtain ⟨a, b, a1, b1, b2, b3⟩ := pp_conn hT hD hp hc' S hS0 ⟨q, by rw [eM] at q1; exact q1, q2⟩
    exact ⟨a, b, a1, by rw [eM]; exact b1, b2, b3⟩
  · have cs : ∀ q, (st q = 4 ∧ st' q = 16 + t ∧ qq_M st kd fi en dr L (re L) q) ∨ (st' q = st q ∧ ¬ qq_M st kd fi en dr L (re L) q) := by
      intro q
      rcases Classical.em (qq_M st kd fi en dr L (re L) q) with w | w
      · exact Or.inl ⟨w.1, (hst q).1 w, w⟩
      · exact Or.inr ⟨(hst q).2 w, w⟩
    refine ⟨rfl, rr_mk ⟨⟨s1, s2, s3, s4, s5, s6, s7, by omega, by omega, s10, s11⟩, hX', hB', pp_ser_act hSer (fun q => ?_), ⟨fun r hr => ?_, fun r hr => ?_⟩, by omega⟩ ?_ rfl⟩
    · have := cs q; unfold qq_act; omega
    · have := cs r; exact hRdd.1 r (by omega)
    · have := cs r; exact hRdd.2 r (by omega)
    · funext q
      rcases cs q with ⟨a, b, m⟩ | ⟨a, m⟩
      · rw [(y1 q (hN q a)).1 m, b]
        unfold qq_hs
        rw [if_neg (by omega)]
      · rw [a]
        rcases Nat.lt_or_ge q N with w | w
        · exact (y1 q w).2 m
        · exact y2 q w
end
end
section
/-! the owed statement of dispatch -/
section
variable {N T B F wc rc hea lf dr ps sb : Nat} {ck : Int32} {st kd fi en ln od bl lm re rn ct wf rf mk : Nat → Nat} {vl bo rd fo ca me im va : Nat → Int32} {nx ol yo os nw tg : Nat → Option Nat}
theorem pp_os_ct {d : Nat} (hd : d < 2) (hX : qq_XI N T st kd fi en ln od sb nx lm re rn ct ol yo os nw tg wc wf 0 rc rf) : os d = none ↔ ct d = 0 := by
  have hA := (hX.2.1.2.1 d hd).2.1
  have hT := hX.2.1.1 d hd
  constructor
  · intro e
    rw [e, pp_hi_none] at hA
    refine Classical.byContradiction (fun w => ?_)
    have k := (hT.2.1 0 (by omega)).1
    have := hA _ k
    omega
  · intro e
    rcases ho : os d with _ | a
    · rfl
    · rw [ho, pp_hi_some] at hA
      obtain ⟨i, hi, _⟩ := hT.2.2.2.1 a hA.1.1 hA.1.2
      omega
/-- a new batch: X from beginBatch, the reference from where it looks for a new direction -/
theorem dd_batch {k t : Nat} {Q : (Int32 → SY → Prop) → Prop} (h : qq_Fct k N T B F wc rc hea lf dr ps sb st kd fi en ln od bl lm re rn ct wf rf vl rd fo ca nx ol yo os nw tg im va) (hk : k + 5 ≤ 2564) (ht : t < T) (htg : tg t = none) (hne : ¬ (ct 0 = 0 ∧ ct 1 = 0))
    (HY : ∀ post' : Int32 → SY → Prop, wY_dispatch_81 post' (nI t) (ee_o (os 0)) (ee_o (os 1)) (-1) (nI N) (nI T) (nI B) (nI F) (nI sb) ck (nI hea) (nI lf) (nI dr) (nI ps) (nI (qq_fg rc)) im ca me (ee_N (fun q => qq_hs (st q))) (ee_N kd) (ee_N fi) (ee_N ln) vl bo (ee_N od) va (ee_N mk) → Q post') : wX_dispatch_64 (fun r u' => Q (fun r' v' => r' = r ∧ i_Rel (k + 5) u' v')) (nI t) (nI N) (nI T) (nI B) (nI F) (nI wc) (nI rc) (nI hea) (nI lf) (nI dr) (nI ps) ck (nI sb) (ee_N st) (ee_N kd) (ee_N fi) (ee_N en) vl bo (ee_N od) rd (ee_N bl) fo (ee_O nx) (ee_N lm) (ee_N re) (ee_N rn) (ee_N ct) (ee_O ol) (ee_O yo) (ee_O os) (ee_O nw) (ee_N wf) (ee_N rf) (ee_O tg) ca me := by
  obtain ⟨hBas, hX, hB, hSer, hRdd, hsb⟩ := id h
  obtain ⟨s1, s2, s3, s4, s5, s6, s7, s8, s9, s10, s11⟩ := id hBas
  have hD := pp_dj hX.1
  have c0 := (hX.2.1.1 0 (by omega)).1
  have c1 := (hX.2.1.1 1 (by omega)).1
  have o0 := pp_os_ct (d := 0) (by omega) hX
  have o1 := pp_os_ct (d := 1) (by omega) hX
  have osR : ∀ d o, d < 2 → os d = some o → st o = 4 ∧ qq_dir (kd o) = d := by
    intro d o hd e
    have hA := (hX.2.1.2.1 d hd).2.1
    rw [e, pp_hi_some] at hA
    exact hA.1
  have fin : ∀ dr ps o, dr < 2 → ps ≤ 2 → os dr = some o → (∀ post' : Int32 → SY → Prop, wY_dispatch_170 post' (nI t) (nI o) (if dr = 0 then 8 else 32) (nI N) (nI T) (nI B) (nI F) (nI sb) ck (nI hea) (nI B) (nI dr) (nI ps) (nI (qq_fg rc)) im ca me (ee_N (fun q => qq_hs (st q))) (ee_N kd) (ee_N fi) (ee_N ln) vl bo (ee_N od) va (ee_N mk) → Q post') → wpX_batchStart (fun r => wX_dispatch_73 (fun r u' => Q (fun r' v' => r' = r ∧ i_Rel (k + 5) u' v')) (nI t) r (nI N) (nI T) (nI B) (nI F) (nI wc) (nI rc) (nI hea) (nI B) (nI dr) (nI ps) ck (nI sb) (ee_N st) (ee_N kd) (ee_N fi) (ee_N en) vl bo (ee_N od) rd (ee_N bl) fo (ee_O nx) (ee_N lm) (ee_N re) (ee_N rn) (ee_N ct) (ee_O ol) (ee_O yo) (ee_O os) (ee_O nw) (ee_N wf) (ee_N rf) (ee_O tg) ca me) (nI N, nI T, nI B, nI F, nI wc, nI rc, nI hea, nI B, nI dr, nI ps, ck, nI sb, ee_N st, ee_N kd, ee_N fi, ee_N en, vl, bo, ee_N od, rd, ee_N bl, fo, ee_O nx, ee_N lm, ee_N re, ee_N rn, ee_N ct, ee_O ol, ee_O yo, ee_O os, ee_O nw, ee_N wf, ee_N rf, ee_O tg, ca, me) := by
    intro dr ps o hd hps ho H170
    obtain ⟨ho4, hod⟩ := osR dr o hd ho
    have hT := hX.2.1.1 dr hd
    have hF : qq_Fct k N T B F wc rc hea B dr ps sb st kd fi en ln od bl lm re rn ct wf rf vl rd fo ca nx ol yo os nw tg im va := ⟨⟨s1, s2, s3, s4, s5, s6, s7, s8, s6, by omega, hps⟩, hX, hB, hSer, hRdd, hsb⟩
    have oz := hD.1 o ho4
    refine xw_batchStart hd hT hD ho ho4 hod s8 (fun pos hp h1 h2 => ⟨fun hz hpos => ?_, fun hz i hi hM => ?_⟩)
    · obtain ⟨⟨a1, a2⟩, _⟩ := hT.2.1 pos hpos
      have a3 := pp_lead_in hT hD hpos
      have az := hD.1 _ a1
      refine dd_fin (mk := mk) (c := rn (16 * dr + pos)) hF hk ht htg hpos s5 ⟨a1, a2, Nat.le_refl _, a3⟩ (fun post' w => H170 post' ?_)
      unfold wY_dispatch_170
      refine yw_ahead1 hd s8 hX hB hp h1 h2 (fun z => absurd hpos z) (fun _ => br_f (nI_pos (by have := az.1; dsimp only at this; omega)) (And.intro (vp_in_nI oz.1 (by omega)) (br_t ?_ w)))
      rw [ee_r (f := bo) (by omega)]
      exact Int32.not_le.mp hz
    · refine dd_fin (mk := mk) hF hk ht htg hi s5 hM (fun post' w => H170 post' ?_)
      unfold wY_dispatch_170
      refine yw_ahead1 hd s8 hX hB hp h1 h2 (fun z => br_t ee_o1 w) (fun hpos => ?_)
      obtain ⟨⟨a1, a2⟩, _⟩ := hT.2.1 pos hpos
      have az := hD.1 _ a1
      refine br_f (nI_pos (by have := az.1; dsimp only at this; omega)) (And.intro (vp_in_nI oz.1 (by omega)) (br_f ?_ w))
      rw [ee_r (f := bo) (by omega)]
      exact Int32.not_lt.mpr (hz.resolve_right (fun y => y hpos))
  have sl : ∀ d o, d < 2 → os d = some o → o < 2 ^ 31 := fun d o hd e => by have := hD.1 o (osR d o hd e).1; omega
  unfold wX_dispatch_64
  refine xw_beginBatch c0 c1 s11 (fun hz => ?_) (fun hz => ?_)
  · rcases e0 : os 0 with _ | a
    · exact absurd (o0.mp e0) hz.1
    · refine fin 0 _ a (by omega) (by split <;> omega) e0 (fun post' w => HY post' ?_)
      rw [e0]
      rcases e1 : os 1 with _ | b
      · have z1 : ct 1 = 0 := o1.mp e1
        rw [if_pos z1] at w
        refine br_f (by decide) (br_f (ee_s1 (sl 0 a (by omega) e0)) (br_t ee_o1 (br_t ee_o1 (br_t rfl (br_t rfl w)))))
      · have z1 : ct 1 ≠ 0 := fun y => by have := o1.mpr y; rw [e1] at this; exact nomatch this
        rw [if_neg z1] at w
        have sb1 := sl 1 b (by omega) e1
        refine br_f (by decide) (br_f (ee_s1 (sl 0 a (by omega) e0)) (br_f (ee_s1 sb1) (br_f (nI_ge (b := 2) (by omega) (by omega)) (br_f (ee_s1 sb1) (nm_r (nI_1 ps) (br_t rfl (br_t rfl w)))))))
  · have z1 : ct 1 ≠ 0 := by omega
    rcases e1 : os 1 with _ | b
    · exact absurd (o1.mp e1) z1
    · refine fin 1 0 b (by omega) (by omega) e1 (fun post' w => HY post' ?_)
      rw [e1]
      have sb1 := sl 1 b (by omega) e1
      have n1 : ¬ (nI 1 : Int32) = 0 := by decide
      rcases e0 : os 0 with _ | a
      · exact br_f (by decide) (br_t ee_o1 (br_f n1 (br_f n1 w)))
      · have z0 : ct 0 ≠ 0 := fun y => by have := o0.mpr y; rw [e0] at this; exact nomatch this
        exact br_f (by decide) (br_f (ee_s1 (sl 0 a (by omega) e0)) (br_f (ee_s1 sb1) (br_t (nI_le (a := 2) (by omega) (by omega)) (br_f n1 (br_f n1 w)))))
end
theorem i_vc_dispatch {k : Nat} {u : SX} {v : SY} (I : i_Rel k u v) (hk : k + 5 ≤ 2564) : wpX_dispatch (fun r u' => wpY_dispatch (fun r' v' => r' = r ∧ i_Rel (k + 5) u' v') v) u := by
  refine rr_el (P := fun u v => wpX_dispatch (fun r u' => wpY_dispatch (fun r' v' => r' = r ∧ i_Rel (k + 5) u' v') v) u) ?_ I
  intro N T B F wc rc hea lf dr ps sb ck st kd fi en ln od bl lm re rn ct wf rf vl bo rd fo ca me nx ol yo os nw tg im va mk h
  obtain ⟨hBas, hX, hB, hSer, hRdd, hsb⟩ := id h
  obtain ⟨s1, s2, s3, s4, s5, s6, s7, s8, s9, s10, s11⟩ := id hBas
  have hY := pp_yb hX.1
  have hD := pp_dj hX.1
  have hd : dr < 2 := by omega
  have R := rr_mk (ck := ck) (bo := bo) (me := me) (mk := mk) (pp_fct_up h) rfl rfl
  have hys : ∀ t q, qq_hs (st q) = 16 + t ↔ st q = 16 + t := fun t q => pp_hsk (by omega) (by omega)
  have lt16 : ∀ q t, st q = 16 + t → q < 16 ∧ q < N := fun q t hq => pp_b3_lt hX.1 (s := q) (by omega)
  have hbusy : ∀ t, t < T → tg t ≠ none → ∃ q, q < N ∧ qq_hs (st q) = 16 + t := by
    intro t ht hn
    rcases htg : tg t with _ | l
    · exact absurd htg hn
    · have hl := ((hX.2.1.2.2 t (by omega)).2.1 l htg).1
      exact ⟨l, (lt16 l t hl).2, (hys t l).mpr hl⟩
  have hidle : ∀ t, t < T → tg t = none → ∀ q, qq_hs (st q) ≠ 16 + t := fun t ht hn q hq => (hX.2.1.2.2 t (by omega)).1 hn q ((hys t q).mp hq)
  unfold wpX_dispatch
  refine xw_idleTag s4 (fun t s ht hs => (lt16 s t ((hX.2.1.2.2 t ht).2.1 s hs).1).1) (fun t ht htg hpr => ?_) (fun hall => ?_)
  rotate_left
  · refine br_f (by decide) (yw_dispatch (ys := fun q => qq_hs (st q)) s4 hY (fun t ht hq _ => ?_) (fun _ => ?_))
    · obtain ⟨q, q1, q2⟩ := hbusy t ht (hall t ht)
      exact absurd q2 (hq q q1)
    · unfold wY_dispatch_27
      exact br_f (nI_nlt (Nat.le_refl _) (by omega)) ⟨rfl, R⟩
  have HT : ∀ post' : Int32 → SY → Prop, wY_dispatch_27 post' (nI t) (nI N) (nI T) (nI B) (nI F) (nI sb) ck (nI hea) (nI lf) (nI dr) (nI ps) (nI (qq_fg rc)) im ca me (ee_N (fun q => qq_hs (st q))) (ee_N kd) (ee_N fi) (ee_N ln) vl bo (ee_N od) va (ee_N mk) → wpY_dispatch post' (nI N, nI T, nI B, nI F, nI sb, ck, nI hea, nI lf, nI dr, nI ps, nI (qq_fg rc), im, ca, me, ee_N (fun q => qq_hs (st q)), ee_N kd, ee_N fi, ee_N ln, vl, bo, ee_N od, va, ee_N mk) := by
    intro post' w
    refine yw_dispatch (ys := fun q => qq_hs (st q)) s4 hY (fun t' ht' hq hu => ?_) (fun hu => ?_)
    · have e : t' = t := by
        rcases Nat.lt_trichotomy t' t with y | y | y
        · obtain ⟨q, q1, q2⟩ := hbusy t' ht' (hpr t' y)
          exact absurd q2 (hq q q1)
        · exact y
        · obtain ⟨q, q1, q2⟩ := hu t y
          exact absurd q2 (hidle t ht htg q)
      rw [e]; exact w
    · obtain ⟨q, q1, q2⟩ := hu t ht
      exact absurd q2 (hidle t ht htg q)
  have c0 := (hX.2.1.1 0 (by omega)).1
  have c1 := (hX.2.1.1 1 (by omega)).1
  have o0 := pp_os_ct (d := 0) (by omega) hX
  have o1 := pp_os_ct (d := 1) (by omega) hX
  have osR : ∀ d o, d < 2 → os d = some o → o < 2 ^ 31 := by
    intro d o hd e
    have hA := (hX.2.1.2.1 d hd).2.1
    rw [e, pp_hi_some] at hA
    have := hD.1 o hA.1.1
    omega
  refine br_t (nI_pos' (by omega)) (pk_eq (ct 0 + ct 1) 0 (fun hz => ?_) (fun hz => ?_) (nI_add _ _))
  · refine HT _ ?_
    unfold wY_dispatch_27
    refine br_t (nI_lt ht (by omega)) (yw_earliest1 (d := 0) (by omega) hX hB (yw_earliest1 (d := 1) (by omega) hX hB ?_))
    rw [o0.mpr (by omega), o1.mpr (by omega)]
    exact br_f ee_o0 (br_f ee_o0 ⟨rfl, R⟩)
  have H61 : ∀ post' : Int32 → SY → Prop, wY_dispatch_61 post' (nI t) (ee_o (os 0)) (ee_o (os 1)) (nI N) (nI T) (nI B) (nI F) (nI sb) ck (nI hea) (nI lf) (nI dr) (nI ps) (nI (qq_fg rc)) im ca me (ee_N (fun q => qq_hs (st q))) (ee_N kd) (ee_N fi) (ee_N ln) vl bo (ee_N od) va (ee_N mk) → wpY_dispatch post' (nI N, nI T, nI B, nI F, nI sb, ck, nI hea, nI lf, nI dr, nI ps, nI (qq_fg rc), im, ca, me, ee_N (fun q => qq_hs (st q)), ee_N kd, ee_N fi, ee_N ln, vl, bo, ee_N od, va, ee_N mk) := by
    intro post' w
    refine HT _ ?_
    unfold wY_dispatch_27
    refine br_t (nI_lt ht (by omega)) (yw_earliest1 (d := 0) (by omega) hX hB (yw_earliest1 (d := 1) (by omega) hX hB ?_))
    rcases e0 : os 0 with _ | a
    · rcases e1 : os 1 with _ | b
      · have := o0.mp e0; have := o1.mp e1; omega
      · rw [e0, e1] at w
        exact br_f ee_o0 (br_t (ee_s0 (osR 1 b (by omega) e1)) w)
    · rw [e0] at w
      exact br_t (ee_s0 (osR 0 a (by omega) e0)) w
  have hT := hX.2.1.1 dr hd
  have cdr := hT.1
  obtain ⟨m1, m2⟩ := pp_tab_mono hT hD
  refine xw_lowerBound (c := ct dr) hd rfl hT.1 (by omega) m1 (fun i j a b => Nat.le_of_lt (m2 i j a b)) (fun pos hp h1 h2 => ?_)
  have bt : (∀ post' : Int32 → SY → Prop, wY_dispatch_81 post' (nI t) (ee_o (os 0)) (ee_o (os 1)) (-1) (nI N) (nI T) (nI B) (nI F) (nI sb) ck (nI hea) (nI lf) (nI dr) (nI ps) (nI (qq_fg rc)) im ca me (ee_N (fun q => qq_hs (st q))) (ee_N kd) (ee_N fi) (ee_N ln) vl bo (ee_N od) va (ee_N mk) → wpY_dispatch post' (nI N, nI T, nI B, nI F, nI sb, ck, nI hea, nI lf, nI dr, nI ps, nI (qq_fg rc), im, ca, me, ee_N (fun q => qq_hs (st q)), ee_N kd, ee_N fi, ee_N ln, vl, bo, ee_N od, va, ee_N mk)) → wX_dispatch_64 (fun r u' => wpY_dispatch (fun r' v' => r' = r ∧ i_Rel (k + 5) u' v') (nI N, nI T, nI B, nI F, nI sb, ck, nI hea, nI lf, nI dr, nI ps, nI (qq_fg rc), im, ca, me, ee_N (fun q => qq_hs (st q)), ee_N kd, ee_N fi, ee_N ln, vl, bo, ee_N od, va, ee_N mk)) (nI t) (nI N) (nI T) (nI B) (nI F) (nI wc) (nI rc) (nI hea) (nI lf) (nI dr) (nI ps) ck (nI sb) (ee_N st) (ee_N kd) (ee_N fi) (ee_N en) vl bo (ee_N od) rd (ee_N bl) fo (ee_O nx) (ee_N lm) (ee_N re) (ee_N rn) (ee_N ct) (ee_O ol) (ee_O yo) (ee_O os) (ee_O nw) (ee_N wf) (ee_N rf) (ee_O tg) ca me := fun H => dd_batch (Q := fun post' => wpY_dispatch post' (nI N, nI T, nI B, nI F, nI sb, ck, nI hea, nI lf, nI dr, nI ps, nI (qq_fg rc), im, ca, me, ee_N (fun q => qq_hs (st q)), ee_N kd, ee_N fi, ee_N ln, vl, bo, ee_N od, va, ee_N mk)) h hk ht htg (by omega) H
  refine pk_le lf 0 (fun zl => bt (fun post' w => H61 post' ?_)) (fun zl => And.intro (vp_in_nI hd (by omega)) (pk_lt pos (ct dr) (fun hpos => ?_) (fun hpos => bt (fun post' w => H61 post' ?_)) rfl (ee_rN (by omega))))
  · unfold wY_dispatch_61
    exact pk_le lf 0 (fun _ => w) (fun y => by omega)
  · obtain ⟨⟨a1, a2⟩, _⟩ := hT.2.1 pos hpos
    have a3 := pp_lead_in hT hD hpos
    have az := hD.1 _ a1
    refine dd_fin (mk := mk) (c := rn (16 * dr + pos)) (Q := fun post' => wpY_dispatch post' (nI N, nI T, nI B, nI F, nI sb, ck, nI hea, nI lf, nI dr, nI ps, nI (qq_fg rc), im, ca, me, ee_N (fun q => qq_hs (st q)), ee_N kd, ee_N fi, ee_N ln, vl, bo, ee_N od, va, ee_N mk)) h hk ht htg hpos (by omega) ⟨a1, a2, Nat.le_refl _, a3⟩ (fun post' w => H61 post' ?_)
    unfold wY_dispatch_61
    refine pk_le lf 0 (fun y => by omega) (fun _ => yw_ahead1 hd s8 hX hB hp h1 h2 (fun z => absurd hpos z) (fun _ => br_t (nI_pos' (by have := az.1; dsimp only at this; omega)) w))
  · unfold wY_dispatch_61
    refine pk_le lf 0 (fun y => by omega) (fun _ => yw_ahead1 hd s8 hX hB hp h1 h2 (fun z => w) (fun z => by omega))
end
