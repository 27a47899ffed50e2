section
/-! Plain evaluators of the class's loops: the same expressions as the printed predicates, with fuel. -/
/-- the same value, but the kernel works the number out first -/
def sd_fN {α : Type} : Nat → (Nat → α) → α
  | 0, f => f 0
  | n + 1, f => f (n + 1)
theorem sd_fN_eq {α : Type} (n : Nat) (f : Nat → α) : sd_fN n f = f n := by
  cases n <;> rfl
def sd_fI {α : Type} (x : Int32) (f : Int32 → α) : α := sd_fN x.toBitVec.toNat (fun n => f (Int32.ofNat n))
def sd_fL {α : Type} (x : Int64) (f : Int64 → α) : α := sd_fN x.toBitVec.toNat (fun n => f (Int64.ofNat n))
theorem sd_fI_eq {α : Type} (x : Int32) (f : Int32 → α) : sd_fI x f = f x := by
  unfold sd_fI
  rw [sd_fN_eq]
  have e : BitVec.ofNat 32 x.toBitVec.toNat = x.toBitVec := by
    rw [BitVec.ofNat_toNat, BitVec.setWidth_eq]
  have e2 : Int32.ofNat x.toBitVec.toNat = x := by
    show Int32.ofUInt32 (UInt32.ofBitVec (BitVec.ofNat 32 x.toBitVec.toNat)) = x
    rw [e]
    rfl
  show f (Int32.ofNat x.toBitVec.toNat) = f x
  rw [e2]
theorem sd_fL_eq {α : Type} (x : Int64) (f : Int64 → α) : sd_fL x f = f x := by
  unfold sd_fL
  rw [sd_fN_eq]
  have e : BitVec.ofNat 64 x.toBitVec.toNat = x.toBitVec := by
    rw [BitVec.ofNat_toNat, BitVec.setWidth_eq]
  have e2 : Int64.ofNat x.toBitVec.toNat = x := by
    show Int64.ofUInt64 (UInt64.ofBitVec (BitVec.ofNat 64 x.toBitVec.toNat)) = x
    rw [e]
    rfl
  show f (Int64.ofNat x.toBitVec.toNat) = f x
  rw [e2]
def sd_bd {α β : Type} (o : Option α) (f : α → Option β) : Option β := match o with
  | none => none
  | some y => f y
theorem sd_bd_e {α β : Type} {o : Option α} {f : α → Option β} {r : β} (h : sd_bd o f = some r) : ∃ y, o = some y ∧ f y = some r := by
  cases o with
  | none => exact absurd h (by intro z; exact nomatch z)
  | some y => exact ⟨y, rfl, h⟩
theorem sd_no {α : Type} {r : α} {P : Prop} (h : (none : Option α) = some r) : P := nomatch h
theorem sd_so {α : Type} {a r : α} (h : some a = some r) : a = r := Option.some.inj h

/-- onesIn -/
def sd_on : Nat → Int32 → Int64 → Option Int32
  | 0, _, _ => none
  | n + 1, c, x => if x = 0 then some c else sd_fI (c + 1) (fun c' => sd_fL (x &&& (x - 1)) (fun x' => sd_on n c' x'))
/-- the value that add leaves at its register -/
def sd_av (S : Int32) : Nat → Int32 → Int64 → Option Int64
  | 0, _, _ => none
  | n + 1, p, v => if p ≤ 0 then some v else sd_fL (v ||| ((1 : Int64) <<< (p.toInt64 &&& 63))) (fun v' => sd_fI ((p - 1) &&& S) (fun p' => sd_av S n p' v'))
/-- isIn -/
def sd_in (c : Int64) (s : Int32) : Bool := decide (¬ (((c.toUInt64 >>> (s.toInt64.toUInt64 &&& Int64.toUInt64 63)).toInt64) &&& 1) = 0)
/-- degreeOf -/
def sd_deg (s : Int32) : Option Int32 := sd_bd (sd_on 65 0 s.toInt64) (fun r => some (r - 1))
/-- ofDegree -/
def sd_od (c : Int64) (k : Int32) : Nat → Int64 → Int32 → Option Int64
  | 0, _, _ => none
  | n + 1, a, s => if 63 < s then some a else
      bif sd_in c s then
        sd_bd (sd_deg s) (fun d => if d = k then sd_fL (a ||| ((1 : Int64) <<< (s.toInt64 &&& 63))) (fun a' => sd_fI (s + 1) (fun s' => sd_od c k n a' s'))
          else sd_fI (s + 1) (fun s' => sd_od c k n a s'))
      else sd_fI (s + 1) (fun s' => sd_od c k n a s')
/-- cofaceCount -/
def sd_cc (c : Int64) (s : Int32) : Nat → Int32 → Int32 → Option Int32
  | 0, _, _ => none
  | n + 1, a, v => if 6 ≤ v then some a else
      if ((s >>> (v &&& 31)) &&& 1) = 0 then
        bif sd_in c (s ||| ((1 : Int32) <<< (v &&& 31))) then sd_fI (a + 1) (fun a' => sd_fI (v + 1) (fun v' => sd_cc c s n a' v'))
        else sd_fI (v + 1) (fun v' => sd_cc c s n a v')
      else sd_fI (v + 1) (fun v' => sd_cc c s n a v')
/-- onlyCoface -/
def sd_oc (c : Int64) (s : Int32) : Nat → Int32 → Int32 → Option Int32
  | 0, _, _ => none
  | n + 1, a, v => if 6 ≤ v then some a else
      if ((s >>> (v &&& 31)) &&& 1) = 0 then
        bif sd_in c (s ||| ((1 : Int32) <<< (v &&& 31))) then sd_fI (s ||| ((1 : Int32) <<< (v &&& 31))) (fun a' => sd_fI (v + 1) (fun v' => sd_oc c s n a' v'))
        else sd_fI (v + 1) (fun v' => sd_oc c s n a v')
      else sd_fI (v + 1) (fun v' => sd_oc c s n a v')
/-- freeSet -/
def sd_fs (c : Int64) : Nat → Int32 → Option Int32
  | 0, _ => none
  | n + 1, s => if s ≤ 0 then some 0 else
      bif sd_in c s then
        sd_bd (sd_cc c s 7 0 0) (fun t => if t = 1 then
            sd_bd (sd_oc c s 7 0 0) (fun o => sd_bd (sd_cc c o 7 0 0) (fun q => if q = 0 then some s else sd_fI (s + (-1)) (fun s' => sd_fs c n s')))
          else sd_fI (s + (-1)) (fun s' => sd_fs c n s'))
      else sd_fI (s + (-1)) (fun s' => sd_fs c n s')
/-- prepared -/
def sd_pr : Nat → Int64 → Int32 → Option Int64
  | 0, _, _ => none
  | n + 1, x, g => if g = 0 then some x else
      sd_bd (sd_fs x 64 63) (fun s => if s ≤ 0 then sd_pr n x 0 else
        sd_bd (sd_oc x s 7 0 0) (fun o => sd_fL (x &&& ((((1 : Int64) <<< (s.toInt64 &&& 63)) ||| ((1 : Int64) <<< (o.toInt64 &&& 63))) ^^^ (-1))) (fun x' => sd_pr n x' 1)))
/-- the rows and columns that fillTable counts -/
def sd_ft (c : Int64) (k : Int32) : Nat → Int32 → Int32 → Int32 → Option (Int32 × Int32)
  | 0, _, _, _ => none
  | n + 1, s, rc, cc => if 63 < s then some (rc, cc) else if k ≤ 0 then some (rc, cc) else
      bif sd_in c s then
        sd_bd (sd_deg s) (fun d => if d = k - 1 then (if rc < 0 ∨ 20 ≤ rc.toNatClampNeg then none else sd_fI (rc + 1) (fun rc' => sd_fI (s + 1) (fun s' => sd_ft c k n s' rc' cc)))
          else if d = k then (if cc < 0 ∨ 20 ≤ cc.toNatClampNeg then none else sd_fI (cc + 1) (fun cc' => sd_fI (s + 1) (fun s' => sd_ft c k n s' rc cc')))
          else sd_fI (s + 1) (fun s' => sd_ft c k n s' rc cc))
      else sd_fI (s + 1) (fun s' => sd_ft c k n s' rc cc)
/-- facetsOf -/
def sd_fo (c : Int64) : Nat → Int64 → Int32 → Option Int64
  | 0, _, _ => none
  | n + 1, a, s => if 63 < s then some a else
      bif sd_in c s then
        sd_bd (sd_cc c s 7 0 0) (fun t => if t = 0 then sd_fL (a ||| ((1 : Int64) <<< (s.toInt64 &&& 63))) (fun a' => sd_fI (s + 1) (fun s' => sd_fo c n a' s'))
          else sd_fI (s + 1) (fun s' => sd_fo c n a s'))
      else sd_fI (s + 1) (fun s' => sd_fo c n a s')
/-- the lowest bit -/
def sd_lo (x : Int64) : Nat → Int32 → Option Int32
  | 0, _ => none
  | n + 1, s => bif sd_in x s then some s else sd_fI (s + 1) (fun s' => sd_lo x n s')
/-- commonDegree, the facets given -/
def sd_cd (f : Int64) : Nat → Int32 → Int32 → Int32 → Option Int32
  | 0, _, _, _ => none
  | n + 1, d, s, fc => if 63 < s then some d else
      bif sd_in f s then
        (if fc ≤ 0 then sd_bd (sd_deg s) (fun e => if fc < 0 ∨ 20 ≤ fc.toNatClampNeg then none else sd_fI (fc + 1) (fun fc' => sd_fI (s + 1) (fun s' => sd_cd f n e s' fc')))
          else sd_bd (sd_deg s) (fun e0 => if e0 = d then sd_bd (sd_deg s) (fun e => if fc < 0 ∨ 20 ≤ fc.toNatClampNeg then none else sd_fI (fc + 1) (fun fc' => sd_fI (s + 1) (fun s' => sd_cd f n e s' fc'))) else some (-1)))
      else sd_fI (s + 1) (fun s' => sd_cd f n d s' fc)
/-- the loop of surface meets a set that is no part of just two: the answer is 0 -/
def sd_sf (c : Int64) (d : Int32) : Nat → Int32 → Option Unit
  | 0, _ => none
  | n + 1, s => if 63 < s then none else
      bif sd_in c s then
        sd_bd (sd_deg s) (fun e => if e = d - 1 then sd_bd (sd_cc c s 7 0 0) (fun t => if t = 2 then sd_fI (s + 1) (fun s' => sd_sf c d n s') else some ())
          else sd_fI (s + 1) (fun s' => sd_sf c d n s'))
      else sd_fI (s + 1) (fun s' => sd_sf c d n s')
end
section
/-! What the evaluators answer on the 63 sets: closed tables, by the kernel. -/
/-- the law's n -/
def sd_cn (x1 : Int32) : Int32 := ((((((x1 &&& 1) + ((x1 >>> ((1 : Int32) &&& 31)) &&& 1)) + ((x1 >>> ((2 : Int32) &&& 31)) &&& 1)) + ((x1 >>> ((3 : Int32) &&& 31)) &&& 1)) + ((x1 >>> ((4 : Int32) &&& 31)) &&& 1)) + ((x1 >>> ((5 : Int32) &&& 31)) &&& 1))
/-- the law's ways -/
def sd_wy (k z : Int32) : Int32 := if k = 0 then z else if k = 1 then (z * (z - 1)) / 2 else if k = 2 then ((z * (z - 1)) * (z - 2)) / 6 else if k = 3 then (((z * (z - 1)) * (z - 2)) * (z - 3)) / 24 else if k = 4 then (if z = 6 then 6 else if z = 5 then 1 else 0) else if z = 6 then 1 else 0
/-- the complex that add makes of a set -/
def sd_C (S : Int32) : Int64 := (sd_av S 64 S 0).getD 0
/-- how many sets of a degree -/
def sd_ct (c : Int64) (k : Int32) : Option Int32 := sd_bd (sd_od c k 64 0 1) (fun y => sd_on 65 0 y)
/-- a table with at most one row and no column -/
def sd_tt (v : Int64) (k : Int32) : Bool := decide (sd_ft v k 64 1 0 0 = some (0, 0)) || decide (sd_ft v k 64 1 0 0 = some (1, 0))
def sd_hom (v : Int64) (g : Bool) : Bool := (List.range 6).all (fun k => decide (sd_ct v (nI k) = some (if g = true ∧ k = 0 then 1 else 0)) && (sd_tt v (nI k) && sd_tt v (nI k + 1)))
def sd_sfc (c f : Int64) : Bool := match sd_cd f 64 (-1) 1 0 with
  | none => false
  | some d => decide (¬ 1 ≤ d) || decide (sd_sf c d 64 1 = some ())
def sd_hs (c : Int64) (S : Int32) : Bool := (List.range 64).all (fun o => decide (o = 0) || (sd_in c (nI o) == decide (nI o &&& (S ^^^ (-1)) = 0)))
def sd_vs : List Int64 := [2, 4, 16, 256, 65536, 4294967296]

theorem sd_tAdd : ∀ n, n < 64 → 0 < n → sd_av (nI n) 64 (nI n) 0 = some (sd_C (nI n)) ∧ sd_on 65 0 (sd_C (nI n)) = some (((1 : Int32) <<< (sd_cn (nI n) &&& 31)) - 1) := by decide +kernel
theorem sd_tHas : ∀ n, n < 64 → 0 < n → sd_fL (sd_C (nI n)) (fun c => sd_hs c (nI n)) = true := by decide +kernel
theorem sd_tCt : ∀ n, n < 64 → 0 < n → sd_fL (sd_C (nI n)) (fun c => (List.range 6).all (fun k => decide (sd_ct c (nI k) = some (sd_wy (nI k) (sd_cn (nI n)))))) = true := by decide +kernel
theorem sd_tFo : ∀ n, n < 64 → 0 < n → sd_fL (sd_C (nI n)) (fun c => decide (sd_fo c 64 0 1 = some ((1 : Int64) <<< ((nI n).toInt64 &&& 63)))) = true := by decide +kernel
theorem sd_tLo : ∀ n, n < 64 → 0 < n → sd_fL ((1 : Int64) <<< ((nI n).toInt64 &&& 63)) (fun f => decide (sd_on 65 0 f = some 1) && decide (sd_lo f 65 0 = some (nI n))) = true := by decide +kernel
theorem sd_tSf : ∀ n, n < 64 → 0 < n → sd_fL (sd_C (nI n)) (fun c => sd_fL ((1 : Int64) <<< ((nI n).toInt64 &&& 63)) (fun f => sd_sfc c f)) = true := by decide +kernel
theorem sd_tPr : ∀ n, n < 64 → 0 < n → sd_fL (sd_C (nI n)) (fun c => match sd_pr 65 c 1 with
  | none => false
  | some v => sd_fL v (fun v => decide (v ∈ sd_vs))) = true := by decide +kernel
theorem sd_tHom : ∀ v, v ∈ sd_vs → sd_hom v true = true := by decide +kernel
theorem sd_t0 : sd_hom 0 false = true ∧ sd_pr 65 0 1 = some 0 ∧ sd_fo 0 64 0 1 = some 0 ∧ sd_on 65 0 0 = some 0 ∧ sd_sfc 0 0 = true ∧ ((List.range 6).all (fun k => decide (sd_ct 0 (nI k) = some (sd_wy (nI k) 0)))) = true ∧ ((List.range 64).all (fun o => sd_in 0 (nI o) == false)) = true := by decide +kernel
end
section
/-! The walk: a state's printed loops follow the evaluators. -/
theorem sd_sp {α : Type} {P : α → Prop} {a r : α} (h : some a = some r) (hp : P r) : P a := by
  cases h
  exact hp
theorem sd_wIn {post : Int32 → Prop} {u : St2} {c : Int64} {s : Int32} (h0 : sd_in c s = false → post 0) (h1 : sd_in c s = true → post 1) : wpX_isIn post u c s := by
  obtain ⟨l, rc, cc, fc, a1, a2, a3, a4, a5, a6⟩ := u
  exact br_c (fun g => h0 (decide_eq_false (fun z => z g))) (fun g => h1 (decide_eq_true g))
section
variable {l rc cc fc : Int32} {a1 : Nat → Int64} {a2 a3 : Nat → Int32} {a4 : Nat → Int64} {a5 a6 : Nat → Int32}
theorem sd_w5 {post : Int32 → Prop} {r : Int32} (hp : post r) : ∀ n c x, sd_on n c x = some r → wX_onesIn_5 post l rc cc fc a1 a2 a3 a4 a5 a6 n c x := by
  intro n
  induction n with
  | zero => intro c x h; exact sd_no h
  | succ n ih =>
    intro c x h
    rw [sd_on] at h
    refine br_c (fun g => ?_) (fun g => ?_)
    · rw [if_pos g] at h
      exact sd_sp (P := post) h hp
    · rw [if_neg g, sd_fI_eq, sd_fL_eq] at h
      exact nm_e (nm_e (ih _ _ h))
theorem sd_wOn {post : Int32 → Prop} {u : St2} {x : Int64} {r : Int32} (h : sd_on 65 0 x = some r) (hp : post r) : wpX_onesIn post u x := by
  obtain ⟨l, rc, cc, fc, a1, a2, a3, a4, a5, a6⟩ := u
  exact ⟨65, sd_w5 hp 65 0 x h⟩
theorem sd_wDeg {post : Int32 → Prop} {u : St2} {s d : Int32} (h : sd_deg s = some d) (hp : post d) : wpX_degreeOf post u s := by
  obtain ⟨l, rc, cc, fc, a1, a2, a3, a4, a5, a6⟩ := u
  obtain ⟨y, h1, h2⟩ := sd_bd_e h
  unfold wpX_degreeOf
  dsimp only
  exact sd_wOn h1 (sd_sp (P := post) h2 hp)
theorem sd_w6 {post : Int64 → Prop} {c r : Int64} {k : Int32} (hp : post r) : ∀ n a s, sd_od c k n a s = some r → wX_ofDegree_6 post c k l rc cc fc a1 a2 a3 a4 a5 a6 n a s := by
  intro n
  induction n with
  | zero => intro a s h; exact sd_no h
  | succ n ih =>
    intro a s h
    rw [sd_od] at h
    refine br_c (fun g => ?_) (fun g => ?_)
    · rw [if_pos g] at h
      exact sd_sp (P := post) h hp
    · rw [if_neg g] at h
      refine sd_wIn (fun e => ?_) (fun e => ?_)
      · rw [e, cond_false, sd_fI_eq] at h
        exact br_t rfl (nm_e (ih _ _ h))
      · rw [e, cond_true] at h
        obtain ⟨d, hd, h⟩ := sd_bd_e h
        refine br_f (by decide) (sd_wDeg hd ?_)
        refine br_c (fun g2 => ?_) (fun g2 => ?_)
        · rw [if_pos g2, sd_fL_eq, sd_fI_eq] at h
          exact nm_e (nm_e (ih _ _ h))
        · rw [if_neg g2, sd_fI_eq] at h
          exact nm_e (ih _ _ h)
theorem sd_wOd {post : Int64 → Prop} {u : St2} {c r : Int64} {k : Int32} (h : sd_od c k 64 0 1 = some r) (hp : post r) : wpX_ofDegree post u c k := by
  obtain ⟨l, rc, cc, fc, a1, a2, a3, a4, a5, a6⟩ := u
  exact ⟨64, sd_w6 hp 64 0 1 h⟩
theorem sd_wc6 {post : Int32 → Prop} {c : Int64} {s r : Int32} (hp : post r) : ∀ n a v, sd_cc c s n a v = some r → wX_cofaceCount_6 post c s l rc cc fc a1 a2 a3 a4 a5 a6 n a v := by
  intro n
  induction n with
  | zero => intro a v h; exact sd_no h
  | succ n ih =>
    intro a v h
    rw [sd_cc] at h
    refine br_c (fun g => ?_) (fun g => ?_)
    · rw [if_pos g] at h
      exact sd_sp (P := post) h hp
    · rw [if_neg g] at h
      refine br_c (fun g2 => ?_) (fun g2 => ?_)
      · rw [if_pos g2] at h
        refine sd_wIn (fun e => ?_) (fun e => ?_)
        · rw [e, cond_false, sd_fI_eq] at h
          exact br_t rfl (nm_e (ih _ _ h))
        · rw [e, cond_true, sd_fI_eq, sd_fI_eq] at h
          exact br_f (by decide) (nm_e (nm_e (ih _ _ h)))
      · rw [if_neg g2, sd_fI_eq] at h
        exact nm_e (ih _ _ h)
theorem sd_wCc {post : Int32 → Prop} {u : St2} {c : Int64} {s r : Int32} (h : sd_cc c s 7 0 0 = some r) (hp : post r) : wpX_cofaceCount post u c s := by
  obtain ⟨l, rc, cc, fc, a1, a2, a3, a4, a5, a6⟩ := u
  exact ⟨7, sd_wc6 hp 7 0 0 h⟩
theorem sd_wo6 {post : Int32 → Prop} {c : Int64} {s r : Int32} (hp : post r) : ∀ n a v, sd_oc c s n a v = some r → wX_onlyCoface_6 post c s l rc cc fc a1 a2 a3 a4 a5 a6 n a v := by
  intro n
  induction n with
  | zero => intro a v h; exact sd_no h
  | succ n ih =>
    intro a v h
    rw [sd_oc] at h
    refine br_c (fun g => ?_) (fun g => ?_)
    · rw [if_pos g] at h
      exact sd_sp (P := post) h hp
    · rw [if_neg g] at h
      refine br_c (fun g2 => ?_) (fun g2 => ?_)
      · rw [if_pos g2] at h
        refine sd_wIn (fun e => ?_) (fun e => ?_)
        · rw [e, cond_false, sd_fI_eq] at h
          exact br_t rfl (nm_e (ih _ _ h))
        · rw [e, cond_true, sd_fI_eq, sd_fI_eq] at h
          exact br_f (by decide) (nm_e (nm_e (ih _ _ h)))
      · rw [if_neg g2, sd_fI_eq] at h
        exact nm_e (ih _ _ h)
theorem sd_wOc {post : Int32 → Prop} {u : St2} {c : Int64} {s r : Int32} (h : sd_oc c s 7 0 0 = some r) (hp : post r) : wpX_onlyCoface post u c s := by
  obtain ⟨l, rc, cc, fc, a1, a2, a3, a4, a5, a6⟩ := u
  exact ⟨7, sd_wo6 hp 7 0 0 h⟩
theorem sd_wf3 {post : Int32 → Prop} {c : Int64} {r : Int32} (hp : post r) : ∀ n s, sd_fs c n s = some r → wX_freeSet_3 post c l rc cc fc a1 a2 a3 a4 a5 a6 n s := by
  intro n
  induction n with
  | zero => intro s h; exact sd_no h
  | succ n ih =>
    intro s h
    rw [sd_fs] at h
    refine br_c (fun g => ?_) (fun g => ?_)
    · rw [if_pos g] at h
      exact sd_sp (P := post) h hp
    · rw [if_neg g] at h
      refine sd_wIn (fun e => ?_) (fun e => ?_)
      · rw [e, cond_false, sd_fI_eq] at h
        exact br_t rfl (nm_e (ih _ h))
      · rw [e, cond_true] at h
        obtain ⟨t, ht, h⟩ := sd_bd_e h
        refine br_f (by decide) (sd_wCc ht ?_)
        refine br_c (fun g2 => ?_) (fun g2 => ?_)
        · rw [if_pos g2] at h
          obtain ⟨o, ho, h⟩ := sd_bd_e h
          obtain ⟨q, hq, h⟩ := sd_bd_e h
          refine sd_wOc ho (sd_wCc hq ?_)
          refine br_c (fun g3 => ?_) (fun g3 => ?_)
          · rw [if_pos g3] at h
            exact sd_sp (P := post) h hp
          · rw [if_neg g3, sd_fI_eq] at h
            exact nm_e (ih _ h)
        · rw [if_neg g2, sd_fI_eq] at h
          exact nm_e (ih _ h)
theorem sd_wFs {post : Int32 → Prop} {u : St2} {c : Int64} {r : Int32} (h : sd_fs c 64 63 = some r) (hp : post r) : wpX_freeSet post u c := by
  obtain ⟨l, rc, cc, fc, a1, a2, a3, a4, a5, a6⟩ := u
  exact ⟨64, sd_wf3 hp 64 63 h⟩
theorem sd_wp14 {post : Int64 → Prop} {r : Int64} (hp : post r) : ∀ n x g, sd_pr n x g = some r → wX_prepared_14 post l rc cc fc a1 a2 a3 a4 a5 a6 n x g := by
  intro n
  induction n with
  | zero => intro x g h; exact sd_no h
  | succ n ih =>
    intro x g h
    rw [sd_pr] at h
    refine br_c (fun e => ?_) (fun e => ?_)
    · rw [if_pos e] at h
      exact sd_sp (P := post) h hp
    · rw [if_neg e] at h
      obtain ⟨s, hs, h⟩ := sd_bd_e h
      refine sd_wFs hs ?_
      refine br_c (fun e2 => ?_) (fun e2 => ?_)
      · rw [if_pos e2] at h
        unfold wX_prepared_36
        exact br_t rfl (ih _ _ h)
      · rw [if_neg e2] at h
        obtain ⟨o, ho, h⟩ := sd_bd_e h
        rw [sd_fL_eq] at h
        unfold wX_prepared_36
        exact br_f (by decide) (sd_wOc ho (nm_e (ih _ _ h)))
theorem sd_wPr {post : Int64 → Prop} {c r : Int64} (hl : ¬ l = 0) (h : sd_pr 65 c 1 = some r) (hp : post r) : wpX_prepared post (l, rc, cc, fc, a1, a2, a3, a4, a5, a6) c :=
  br_f hl ⟨65, sd_wp14 hp 65 c 1 h⟩
theorem sd_wfo5 {post : Int64 → Prop} {c r : Int64} (hp : post r) : ∀ n a s, sd_fo c n a s = some r → wX_facetsOf_5 post c l rc cc fc a1 a2 a3 a4 a5 a6 n a s := by
  intro n
  induction n with
  | zero => intro a s h; exact sd_no h
  | succ n ih =>
    intro a s h
    rw [sd_fo] at h
    refine br_c (fun g => ?_) (fun g => ?_)
    · rw [if_pos g] at h
      exact sd_sp (P := post) h hp
    · rw [if_neg g] at h
      refine sd_wIn (fun e => ?_) (fun e => ?_)
      · rw [e, cond_false, sd_fI_eq] at h
        exact br_t rfl (nm_e (ih _ _ h))
      · rw [e, cond_true] at h
        obtain ⟨d, hd, h⟩ := sd_bd_e h
        refine br_f (by decide) (sd_wCc hd ?_)
        refine br_c (fun g2 => ?_) (fun g2 => ?_)
        · rw [if_pos g2, sd_fL_eq, sd_fI_eq] at h
          exact nm_e (nm_e (ih _ _ h))
        · rw [if_neg g2, sd_fI_eq] at h
          exact nm_e (ih _ _ h)
theorem sd_wFo {post : Int64 → Prop} {u : St2} {c r : Int64} (h : sd_fo c 64 0 1 = some r) (hp : post r) : wpX_facetsOf post u c := by
  obtain ⟨l, rc, cc, fc, a1, a2, a3, a4, a5, a6⟩ := u
  exact ⟨64, sd_wfo5 hp 64 0 1 h⟩
theorem sd_w61 {post : Int32 → Prop} {x : Int64} {r : Int32} (hp : post r) : ∀ n s, sd_lo x n s = some r → wX_facet_61 post x l rc cc fc a1 a2 a3 a4 a5 a6 n s := by
  intro n
  induction n with
  | zero => intro s h; exact sd_no h
  | succ n ih =>
    intro s h
    rw [sd_lo] at h
    refine br_c (fun g => ?_) (fun g => ?_)
    · have e : sd_in x s = false := decide_eq_false (fun z => z g)
      rw [e, cond_false, sd_fI_eq] at h
      exact nm_e (ih _ h)
    · have e : sd_in x s = true := decide_eq_true g
      rw [e, cond_true] at h
      exact sd_sp (P := post) h hp
/-- filling counts rows and columns; with no column nothing more happens -/
theorem sd_wt13 {post : St2 → Prop} {c : Int64} {k R C : Int32} : ∀ n s rc cc a2 a3, sd_ft c k n s rc cc = some (R, C) → (∀ b2 b3, ∃ fu, wX_fillTable_115 post l R C fc fu 0 a1 b2 b3 a4 a5 a6) → wX_fillTable_13 post c k l fc n s rc cc a1 a2 a3 a4 a5 a6 := by
  intro n
  induction n with
  | zero => intro s rc cc a2 a3 h H; exact sd_no h
  | succ n ih =>
    intro s rc cc a2 a3 h H
    rw [sd_ft] at h
    refine br_c (fun g => ?_) (fun g => ?_)
    · rw [if_pos g] at h
      have e := sd_so h
      have e1 : rc = R := congrArg Prod.fst e
      have e2 : cc = C := congrArg Prod.snd e
      rw [e1, e2]
      exact H a2 a3
    · rw [if_neg g] at h
      refine br_c (fun g2 => ?_) (fun g2 => ?_)
      · rw [if_pos g2] at h
        have e := sd_so h
        have e1 : rc = R := congrArg Prod.fst e
        have e2 : cc = C := congrArg Prod.snd e
        rw [e1, e2]
        exact H a2 a3
      · rw [if_neg g2] at h
        refine sd_wIn (fun e => ?_) (fun e => ?_)
        · rw [e, cond_false, sd_fI_eq] at h
          exact br_t rfl (nm_e (ih _ _ _ _ _ h H))
        · rw [e, cond_true] at h
          obtain ⟨d, hd, h⟩ := sd_bd_e h
          refine br_f (by decide) (sd_wDeg hd ?_)
          refine br_c (fun g3 => ?_) (fun g3 => ?_)
          · rw [if_pos g3] at h
            by_cases q : rc < 0 ∨ 20 ≤ rc.toNatClampNeg
            · rw [if_pos q] at h
              exact sd_no h
            · rw [if_neg q, sd_fI_eq, sd_fI_eq] at h
              exact ⟨q, nm_e (nm_e (nm_e (ih _ _ _ _ _ h H)))⟩
          · rw [if_neg g3] at h
            refine br_c (fun g4 => ?_) (fun g4 => ?_)
            · rw [if_pos g4] at h
              by_cases q : cc < 0 ∨ 20 ≤ cc.toNatClampNeg
              · rw [if_pos q] at h
                exact sd_no h
              · rw [if_neg q, sd_fI_eq, sd_fI_eq] at h
                exact ⟨q, nm_e (nm_e (nm_e (ih _ _ _ _ _ h H)))⟩
            · rw [if_neg g4, sd_fI_eq] at h
              exact nm_e (ih _ _ _ _ _ h H)
theorem sd_wt115 {post : St2 → Prop} {R : Int32} (hR : R = 0 ∨ R = 1) (hp : post (l, R, 0, fc, a1, a2, a3, a4, a5, a6)) : ∃ fu, wX_fillTable_115 post l R 0 fc fu 0 a1 a2 a3 a4 a5 a6 := by
  rcases hR with rfl | rfl
  · exact ⟨1, br_t (by decide) hp⟩
  · exact ⟨2, br_f (by decide) ⟨1, br_t (by decide) (nm_r (e' := 1) (by decide) (br_t (by decide) hp))⟩⟩
theorem sd_wTab {post : St2 → Prop} {c : Int64} {k : Int32} (h : sd_tt c k = true) (hp : ∀ R b2 b3, R = 0 ∨ R = 1 → post (l, R, 0, fc, a1, b2, b3, a4, a5, a6)) : wpX_fillTable post (l, rc, cc, fc, a1, a2, a3, a4, a5, a6) c k := by
  rcases (Bool.or_eq_true _ _).mp h with h | h
  · exact ⟨64, sd_wt13 64 1 0 0 a2 a3 (of_decide_eq_true h) (fun b2 b3 => sd_wt115 (Or.inl rfl) (hp 0 b2 b3 (Or.inl rfl)))⟩
  · exact ⟨64, sd_wt13 64 1 0 0 a2 a3 (of_decide_eq_true h) (fun b2 b3 => sd_wt115 (Or.inr rfl) (hp 1 b2 b3 (Or.inr rfl)))⟩
theorem sd_wRank {post : Int32 → St2 → Prop} {R p : Int32} (hR : R = 0 ∨ R = 1) (hp : post 0 (l, R, 0, fc, a1, a2, a3, a4, a5, a6)) : wpX_rank post (l, R, 0, fc, a1, a2, a3, a4, a5, a6) p := by
  rcases hR with rfl | rfl
  · exact ⟨1, br_t (by decide) ⟨1, br_t (by decide) hp⟩⟩
  · exact ⟨2, br_f (by decide) ⟨1, br_t (by decide) (nm_r (e' := 1) (by decide) (br_t (by decide) ⟨1, br_t (by decide) hp⟩))⟩⟩
theorem sd_wcd {post : Int32 → St2 → Prop} {f : Int64} {r : Int32} (hp : ∀ fc b5 b6, post r (l, rc, cc, fc, a1, a2, a3, a4, b5, b6)) : ∀ n d s fc a5 a6, sd_cd f n d s fc = some r → wX_commonDegree_17 post f l rc cc n d s fc a1 a2 a3 a4 a5 a6 := by
  intro n
  induction n with
  | zero => intro d s fc a5 a6 h; exact sd_no h
  | succ n ih =>
    intro d s fc a5 a6 h
    rw [sd_cd] at h
    have H57 : sd_bd (sd_deg s) (fun e => if fc < 0 ∨ 20 ≤ fc.toNatClampNeg then none else sd_fI (fc + 1) (fun fc' => sd_fI (s + 1) (fun s' => sd_cd f n e s' fc'))) = some r → wX_commonDegree_57 post (wX_commonDegree_17 post f l rc cc n) f s l rc cc fc a1 a2 a3 a4 a5 a6 := by
      intro h
      obtain ⟨e, he, h⟩ := sd_bd_e h
      unfold wX_commonDegree_57
      refine sd_wDeg he ?_
      by_cases q : fc < 0 ∨ 20 ≤ fc.toNatClampNeg
      · rw [if_pos q] at h
        exact sd_no h
      · rw [if_neg q, sd_fI_eq, sd_fI_eq] at h
        exact ⟨q, nm_e ⟨q, nm_e (nm_e (nm_e (ih _ _ _ _ _ h)))⟩⟩
    refine br_c (fun g => ?_) (fun g => ?_)
    · rw [if_pos g] at h
      exact sd_sp (P := fun z => post z (l, rc, cc, fc, a1, a2, a3, a4, a5, a6)) h (hp fc a5 a6)
    · rw [if_neg g] at h
      refine sd_wIn (fun e => ?_) (fun e => ?_)
      · rw [e, cond_false, sd_fI_eq] at h
        exact br_t rfl (nm_e (ih _ _ _ _ _ h))
      · rw [e, cond_true] at h
        refine br_f (by decide) (br_c (fun g2 => ?_) (fun g2 => ?_))
        · rw [if_pos g2] at h
          exact H57 h
        · rw [if_neg g2] at h
          obtain ⟨e0, he, h⟩ := sd_bd_e h
          refine sd_wDeg he (br_c (fun g3 => ?_) (fun g3 => ?_))
          · rw [if_pos g3] at h
            exact H57 h
          · rw [if_neg g3] at h
            exact sd_sp (P := fun z => post z (l, rc, cc, fc, a1, a2, a3, a4, a5, a6)) h (hp fc a5 a6)
theorem sd_w35 {post : Int32 → St2 → Prop} {c : Int64} {d : Int32} (hp : post 0 (l, rc, cc, fc, a1, a2, a3, a4, a5, a6)) : ∀ n s, sd_sf c d n s = some () → wX_surface_35 post c d l rc cc fc a1 a2 a3 a4 a5 a6 n s := by
  intro n
  induction n with
  | zero => intro s h; exact sd_no h
  | succ n ih =>
    intro s h
    rw [sd_sf] at h
    refine br_c (fun g => ?_) (fun g => ?_)
    · rw [if_pos g] at h
      exact sd_no h
    · rw [if_neg g] at h
      refine sd_wIn (fun e => ?_) (fun e => ?_)
      · rw [e, cond_false, sd_fI_eq] at h
        exact br_t rfl (nm_e (ih _ h))
      · rw [e, cond_true] at h
        obtain ⟨e1, he, h⟩ := sd_bd_e h
        refine br_f (by decide) (sd_wDeg he (br_c (fun g2 => ?_) (fun g2 => ?_)))
        · rw [if_pos g2] at h
          obtain ⟨t, ht, h⟩ := sd_bd_e h
          refine sd_wCc ht (br_c (fun g3 => ?_) (fun g3 => ?_))
          · rw [if_pos g3, sd_fI_eq] at h
            exact nm_e (ih _ h)
          · exact hp
        · rw [if_neg g2, sd_fI_eq] at h
          exact nm_e (ih _ h)
end
end
section
/-! What is known of a complex c that holds the parts of a set S (g: the set is good; z: the law's n), and a lemma a method. -/
def sd_Ok (c : Int64) (S z : Int32) (g : Bool) : Prop :=
  (∀ k, k < 6 → sd_ct c (nI k) = some (sd_wy (nI k) z)) ∧
  (∃ v, sd_pr 65 c 1 = some v ∧ sd_hom v g = true) ∧
  (∀ o, o < 64 → 0 < o → sd_in c (nI o) = (g && decide (nI o &&& (S ^^^ (-1)) = 0))) ∧
  (∃ f, sd_fo c 64 0 1 = some f ∧ (g = true → sd_on 65 0 f = some 1 ∧ sd_lo f 65 0 = some S) ∧ (g = false → sd_on 65 0 f = some 0) ∧ sd_sfc c f = true)
theorem sd_all {N : Nat} {p : Nat → Bool} (h : (List.range N).all p = true) {i : Nat} (hi : i < N) : p i = true := List.all_eq_true.mp h i (List.mem_range.mpr hi)
theorem sd_ok (n : Nat) (hn : n < 64) (h0 : 0 < n) : sd_Ok (sd_C (nI n)) (nI n) (sd_cn (nI n)) true := by
  have h1 := sd_tCt n hn h0
  have h2 := sd_tPr n hn h0
  have h3 := sd_tHas n hn h0
  have h4 := sd_tFo n hn h0
  have h5 := sd_tLo n hn h0
  have h6 := sd_tSf n hn h0
  rw [sd_fL_eq] at h1 h2 h3 h4 h5 h6
  rw [sd_fL_eq] at h6
  refine ⟨fun k hk => of_decide_eq_true (sd_all h1 hk), ?_, fun o ho h => ?_, ?_⟩
  · cases e : sd_pr 65 (sd_C (nI n)) 1 with
    | none => rw [e] at h2; exact absurd h2 Bool.false_ne_true
    | some v =>
      rw [e] at h2
      have h2' : sd_fL v (fun v => decide (v ∈ sd_vs)) = true := h2
      rw [sd_fL_eq] at h2'
      exact ⟨v, rfl, sd_tHom v (of_decide_eq_true h2')⟩
  · have q := sd_all h3 ho
    rcases (Bool.or_eq_true _ _).mp q with q | q
    · exact absurd (of_decide_eq_true q) (by omega)
    · rw [Bool.true_and]
      exact eq_of_beq q
  · have q := (Bool.and_eq_true _ _).mp h5
    exact ⟨_, of_decide_eq_true h4, fun _ => ⟨of_decide_eq_true q.1, of_decide_eq_true q.2⟩, fun z => absurd z.symm Bool.false_ne_true, h6⟩
theorem sd_ok0 (S : Int32) : sd_Ok 0 S 0 false := by
  obtain ⟨h1, h2, h3, h4, h5, h6, h7⟩ := sd_t0
  refine ⟨fun k hk => of_decide_eq_true (sd_all h6 hk), ⟨0, h2, h1⟩, fun o ho h => ?_, ⟨0, h3, fun z => absurd z Bool.false_ne_true, fun _ => h4, h5⟩⟩
  rw [Bool.false_and]
  exact eq_of_beq (sd_all h7 ho)

theorem sd_rg {r : Int32} (h0 : ¬ r < 0) (h3 : ¬ 3 < r) : vp_in r 4 := by
  obtain ⟨j, hj, rfl⟩ := nI_of2 (M := 3) (n := 3) (by decide) h0 (Int32.not_lt.mp h3)
  exact vp_in_nI (by omega) (by decide)
theorem sd_wReg {post : Int32 → Prop} {u : St2} {r : Int32} (h0 : ¬ r < 0) (h3 : ¬ 3 < r) (hp : post 1) : wpX_isRegister post u r := by
  obtain ⟨l, rc, cc, fc, a1, a2, a3, a4, a5, a6⟩ := u
  exact br_f h0 (br_f h3 hp)
theorem sd_wRegB {post : Int32 → Prop} {u : St2} {r : Int32} (h : r < 0 ∨ 3 < r) (hp : post 0) : wpX_isRegister post u r := by
  obtain ⟨l, rc, cc, fc, a1, a2, a3, a4, a5, a6⟩ := u
  exact br_c (fun _ => hp) (fun g => br_t (h.resolve_left g) hp)
theorem sd_wSet {post : Int32 → Prop} {u : St2} {r : Int32} (h0 : ¬ r < 1) (h3 : ¬ 63 < r) (hp : post 1) : wpX_isSet post u r := by
  obtain ⟨l, rc, cc, fc, a1, a2, a3, a4, a5, a6⟩ := u
  exact br_f h0 (br_f h3 hp)
theorem sd_wSetB {post : Int32 → Prop} {u : St2} {r : Int32} (h : r < 1 ∨ 63 < r) (hp : post 0) : wpX_isSet post u r := by
  obtain ⟨l, rc, cc, fc, a1, a2, a3, a4, a5, a6⟩ := u
  exact br_c (fun _ => hp) (fun g => br_t (h.resolve_left g) hp)

section
variable {l rc cc fc : Int32} {a1 : Nat → Int64} {a2 a3 : Nat → Int32} {a4 : Nat → Int64} {a5 a6 : Nat → Int32}
theorem sd_mAddA {post : Int32 → St2 → Prop} {r s : Int32} (h : r < 0 ∨ 3 < r) (hp : post (-1) (l, rc, cc, fc, a1, a2, a3, a4, a5, a6)) : wpX_add post (l, rc, cc, fc, a1, a2, a3, a4, a5, a6) r s := by
  unfold wpX_add
  dsimp only
  exact sd_wRegB h (br_t rfl hp)
theorem sd_mAddB {post : Int32 → St2 → Prop} {r s : Int32} (h0 : ¬ r < 0) (h3 : ¬ 3 < r) (h : s < 1 ∨ 63 < s) (hp : post (-1) (l, rc, cc, fc, a1, a2, a3, a4, a5, a6)) : wpX_add post (l, rc, cc, fc, a1, a2, a3, a4, a5, a6) r s := by
  unfold wpX_add
  dsimp only
  exact sd_wReg h0 h3 (br_f (by decide) (sd_wSetB h (br_t rfl hp)))
theorem sd_wa20 {post : Int32 → St2 → Prop} {r s z : Int32} {v : Int64} (hr : vp_in r 4) (hz : sd_on 65 0 v = some z) (hp : ∀ b1, b1 r.toNatClampNeg = v → post z (l, rc, cc, fc, b1, a2, a3, a4, a5, a6)) : ∀ n p a1, sd_av s n p (a1 r.toNatClampNeg) = some v → wX_add_20 post r s l rc cc fc n p a1 a2 a3 a4 a5 a6 := by
  intro n
  induction n with
  | zero => intro p a1 h; exact sd_no h
  | succ n ih =>
    intro p a1 h
    rw [sd_av] at h
    refine br_c (fun g => ?_) (fun g => ?_)
    · rw [if_pos g] at h
      have e := sd_so h
      exact ⟨hr, sd_wOn (by rw [e]; exact hz) (hp a1 e)⟩
    · rw [if_neg g, sd_fL_eq, sd_fI_eq] at h
      exact ⟨hr, hr, nm_e (nm_e (ih _ _ (by rw [pk_uLs]; exact h)))⟩
theorem sd_mAdd {post : Int32 → St2 → Prop} {r : Int32} {n : Nat} (h0 : ¬ r < 0) (h3 : ¬ 3 < r) (hn : n < 64) (hn0 : 0 < n) (ha : a1 r.toNatClampNeg = 0)
    (hp : ∀ b1, b1 r.toNatClampNeg = sd_C (nI n) → post (((1 : Int32) <<< (sd_cn (nI n) &&& 31)) - 1) (l, rc, cc, fc, b1, a2, a3, a4, a5, a6)) : wpX_add post (l, rc, cc, fc, a1, a2, a3, a4, a5, a6) r (nI n) := by
  obtain ⟨t1, t2⟩ := sd_tAdd n hn hn0
  unfold wpX_add
  dsimp only
  exact sd_wReg h0 h3 (br_f (by decide) (sd_wSet (nI_nlt (b := 1) (by omega) (by omega)) (nI_nlt (a := 63) (by omega) (by decide)) (br_f (by decide) ⟨64, sd_wa20 (sd_rg h0 h3) t2 hp 64 (nI n) a1 (by rw [ha]; exact t1)⟩)))
theorem sd_mCntA {post : Int32 → Prop} {r k : Int32} (h : r < 0 ∨ 3 < r) (hp : post (-1)) : wpX_count post (l, rc, cc, fc, a1, a2, a3, a4, a5, a6) r k := by
  unfold wpX_count
  dsimp only
  exact sd_wRegB h (br_t rfl hp)
theorem sd_mCntB {post : Int32 → Prop} {r k : Int32} (h0 : ¬ r < 0) (h3 : ¬ 3 < r) (h : k < 0 ∨ 5 < k) (hp : post (-1)) : wpX_count post (l, rc, cc, fc, a1, a2, a3, a4, a5, a6) r k := by
  unfold wpX_count
  dsimp only
  exact sd_wReg h0 h3 (br_f (by decide) (br_c (fun _ => hp) (fun g => br_f (Int32.not_le.mpr (h.resolve_left g)) hp)))
theorem sd_mCnt {post : Int32 → Prop} {r z : Int32} {k : Nat} {c : Int64} (h0 : ¬ r < 0) (h3 : ¬ 3 < r) (hk : k < 6) (ha : a1 r.toNatClampNeg = c) (h : sd_ct c (nI k) = some z) (hp : post z) : wpX_count post (l, rc, cc, fc, a1, a2, a3, a4, a5, a6) r (nI k) := by
  obtain ⟨y, h1, h2⟩ := sd_bd_e h
  unfold wpX_count
  dsimp only
  refine sd_wReg h0 h3 (br_f (by decide) (br_f (nI_pos (by omega)) (br_t (nI_le (b := 5) (by omega) (by decide)) ⟨sd_rg h0 h3, ?_⟩)))
  rw [ha]
  exact sd_wOd h1 (sd_wOn h2 hp)
theorem sd_mHom {post : Int32 → St2 → Prop} {v : Int64} {g : Bool} {k : Nat} {p : Int32} (hk : k < 6) (h : sd_hom v g = true) (hp : ∀ R b2 b3, post (if g = true ∧ k = 0 then 1 else 0) (l, R, 0, fc, a1, b2, b3, a4, a5, a6)) : wpX_homology post (l, rc, cc, fc, a1, a2, a3, a4, a5, a6) v (nI k) p := by
  have q := (Bool.and_eq_true _ _).mp (sd_all h hk)
  have q2 := (Bool.and_eq_true _ _).mp q.2
  obtain ⟨y, h1, h2⟩ := sd_bd_e (of_decide_eq_true q.1)
  unfold wpX_homology
  dsimp only
  refine sd_wOd h1 (sd_wOn h2 (sd_wTab q2.1 (fun R b2 b3 hR => sd_wRank hR (sd_wTab q2.2 (fun R' b2' b3' hR' => sd_wRank hR' ?_)))))
  have e : ((if g = true ∧ k = 0 then (1 : Int32) else 0) - 0) - 0 = if g = true ∧ k = 0 then (1 : Int32) else 0 := by
    split <;> decide
  show post (((if g = true ∧ k = 0 then (1 : Int32) else 0) - 0) - 0) (l, R', 0, fc, a1, b2', b3', a4, a5, a6)
  rw [e]
  exact hp R' b2' b3'
theorem sd_mHolA {post : Int32 → St2 → Prop} {r k p : Int32} (h : r < 0 ∨ 3 < r) (hp : post (-1) (l, rc, cc, fc, a1, a2, a3, a4, a5, a6)) : wpX_holes post (l, rc, cc, fc, a1, a2, a3, a4, a5, a6) r k p := by
  unfold wpX_holes
  dsimp only
  exact sd_wRegB h (br_t rfl hp)
theorem sd_mHolB {post : Int32 → St2 → Prop} {r k p : Int32} (h0 : ¬ r < 0) (h3 : ¬ 3 < r) (h : k < 0 ∨ 5 < k) (hp : post (-1) (l, rc, cc, fc, a1, a2, a3, a4, a5, a6)) : wpX_holes post (l, rc, cc, fc, a1, a2, a3, a4, a5, a6) r k p := by
  unfold wpX_holes
  dsimp only
  exact sd_wReg h0 h3 (br_f (by decide) (br_c (fun _ => hp) (fun g => br_t (h.resolve_left g) hp)))
theorem sd_mHolC {post : Int32 → St2 → Prop} {r p : Int32} {k : Nat} (h0 : ¬ r < 0) (h3 : ¬ 3 < r) (hk : k < 6) (p0 : ¬ p = 0) (p2 : ¬ p = 2) (p3 : ¬ p = 3) (p5 : ¬ p = 5) (hp : post (-1) (l, rc, cc, fc, a1, a2, a3, a4, a5, a6)) : wpX_holes post (l, rc, cc, fc, a1, a2, a3, a4, a5, a6) r (nI k) p := by
  unfold wpX_holes
  dsimp only
  exact sd_wReg h0 h3 (br_f (by decide) (br_f (nI_pos (by omega)) (br_f (nI_nlt (a := 5) (by omega) (by decide)) (br_f p0 (br_f p2 (br_f p3 (br_f p5 hp)))))))
theorem sd_mHol {post : Int32 → St2 → Prop} {r p : Int32} {k : Nat} {c v : Int64} {g : Bool} (h0 : ¬ r < 0) (h3 : ¬ 3 < r) (hk : k < 6) (hq : p = 0 ∨ p = 2 ∨ p = 3 ∨ p = 5) (hl : ¬ l = 0) (ha : a1 r.toNatClampNeg = c) (hv : sd_pr 65 c 1 = some v) (h : sd_hom v g = true)
    (hp : ∀ R b2 b3, post (if g = true ∧ k = 0 then 1 else 0) (l, R, 0, fc, a1, b2, b3, a4, a5, a6)) : wpX_holes post (l, rc, cc, fc, a1, a2, a3, a4, a5, a6) r (nI k) p := by
  have H : wX_holes_38 post r (nI k) p l rc cc fc a1 a2 a3 a4 a5 a6 := by
    unfold wX_holes_38
    refine ⟨sd_rg h0 h3, ?_⟩
    rw [ha]
    refine sd_wPr hl hv ?_
    refine br_c (fun _ => ?_) (fun _ => ?_)
    · unfold wX_holes_64
      exact sd_mHom hk h hp
    · unfold wX_holes_64
      exact sd_mHom hk h hp
  unfold wpX_holes
  dsimp only
  exact sd_wReg h0 h3 (br_f (by decide) (br_f (nI_pos (by omega)) (br_f (nI_nlt (a := 5) (by omega) (by decide)) (br_c (fun _ => H) (fun p0 => br_c (fun _ => H) (fun p2 => br_c (fun _ => H) (fun p3 => br_t (((hq.resolve_left p0).resolve_left p2).resolve_left p3) H)))))))
theorem sd_mHasA {post : Int32 → Prop} {r o : Int32} (h : r < 0 ∨ 3 < r) (hp : post 0) : wpX_has post (l, rc, cc, fc, a1, a2, a3, a4, a5, a6) r o := by
  unfold wpX_has
  dsimp only
  exact sd_wRegB h (br_t rfl hp)
theorem sd_mHasB {post : Int32 → Prop} {r o : Int32} (h0 : ¬ r < 0) (h3 : ¬ 3 < r) (h : o < 1 ∨ 63 < o) (hp : post 0) : wpX_has post (l, rc, cc, fc, a1, a2, a3, a4, a5, a6) r o := by
  unfold wpX_has
  dsimp only
  exact sd_wReg h0 h3 (br_f (by decide) (sd_wSetB h (br_t rfl hp)))
theorem sd_mHas {post : Int32 → Prop} {r o : Int32} {c : Int64} (h0 : ¬ r < 0) (h3 : ¬ 3 < r) (o0 : ¬ o < 1) (o3 : ¬ 63 < o) (ha : a1 r.toNatClampNeg = c) (hp0 : sd_in c o = false → post 0) (hp1 : sd_in c o = true → post 1) : wpX_has post (l, rc, cc, fc, a1, a2, a3, a4, a5, a6) r o := by
  unfold wpX_has
  dsimp only
  refine sd_wReg h0 h3 (br_f (by decide) (sd_wSet o0 o3 (br_f (by decide) ⟨sd_rg h0 h3, ?_⟩)))
  rw [ha]
  exact sd_wIn (fun e => br_t rfl (hp0 e)) (fun e => br_f (by decide) (hp1 e))
theorem sd_mFacA {post : Int32 → Prop} {r k : Int32} (h : r < 0 ∨ 3 < r) (hp : post (-1)) : wpX_facet post (l, rc, cc, fc, a1, a2, a3, a4, a5, a6) r k := by
  unfold wpX_facet
  dsimp only
  exact sd_wRegB h (br_t rfl hp)
theorem sd_mFacB {post : Int32 → Prop} {r : Int32} {c f : Int64} (h0 : ¬ r < 0) (h3 : ¬ 3 < r) (ha : a1 r.toNatClampNeg = c) (hf : sd_fo c 64 0 1 = some f) (hn : sd_on 65 0 f = some 0) (hp : post (-2)) : wpX_facet post (l, rc, cc, fc, a1, a2, a3, a4, a5, a6) r 0 := by
  unfold wpX_facet
  dsimp only
  refine sd_wReg h0 h3 (br_f (by decide) ⟨sd_rg h0 h3, ?_⟩)
  rw [ha]
  exact sd_wFo hf (br_f (by decide) (sd_wOn hn (br_f (by decide) hp)))
theorem sd_mFac {post : Int32 → Prop} {r S : Int32} {c f : Int64} (h0 : ¬ r < 0) (h3 : ¬ 3 < r) (ha : a1 r.toNatClampNeg = c) (hf : sd_fo c 64 0 1 = some f) (hn : sd_on 65 0 f = some 1) (hs : sd_lo f 65 0 = some S) (hp : post S) : wpX_facet post (l, rc, cc, fc, a1, a2, a3, a4, a5, a6) r 0 := by
  unfold wpX_facet
  dsimp only
  refine sd_wReg h0 h3 (br_f (by decide) ⟨sd_rg h0 h3, ?_⟩)
  rw [ha]
  exact sd_wFo hf (br_f (by decide) (sd_wOn hn (br_t (by decide) ⟨1, br_t (by decide) ⟨65, sd_w61 hp 65 0 hs⟩⟩)))
theorem sd_mSurA {post : Int32 → St2 → Prop} {r : Int32} (h : r < 0 ∨ 3 < r) (hp : post (-1) (l, rc, cc, fc, a1, a2, a3, a4, a5, a6)) : wpX_surface post (l, rc, cc, fc, a1, a2, a3, a4, a5, a6) r := by
  unfold wpX_surface
  dsimp only
  exact sd_wRegB h (br_t rfl hp)
theorem sd_wCd {post : Int32 → St2 → Prop} {c f : Int64} {d : Int32} (hf : sd_fo c 64 0 1 = some f) (hd : sd_cd f 64 (-1) 1 0 = some d) (hp : ∀ fc b5 b6, post d (l, rc, cc, fc, a1, a2, a3, a4, b5, b6)) : wpX_commonDegree post (l, rc, cc, fc, a1, a2, a3, a4, a5, a6) c := by
  unfold wpX_commonDegree
  dsimp only
  exact sd_wFo hf ⟨64, sd_wcd hp 64 (-1) 1 0 a5 a6 hd⟩
theorem sd_mSur {post : Int32 → St2 → Prop} {r : Int32} {c f : Int64} (h0 : ¬ r < 0) (h3 : ¬ 3 < r) (ha : a1 r.toNatClampNeg = c) (hf : sd_fo c 64 0 1 = some f) (h : sd_sfc c f = true) (hp : ∀ fc b5 b6, post 0 (l, rc, cc, fc, a1, a2, a3, a4, b5, b6)) : wpX_surface post (l, rc, cc, fc, a1, a2, a3, a4, a5, a6) r := by
  unfold sd_sfc at h
  cases e : sd_cd f 64 (-1) 1 0 with
  | none => rw [e] at h; exact absurd h Bool.false_ne_true
  | some d =>
    rw [e] at h
    have h' : (decide (¬ 1 ≤ d) || decide (sd_sf c d 64 1 = some ())) = true := h
    unfold wpX_surface
    dsimp only
    refine sd_wReg h0 h3 (br_f (by decide) ⟨sd_rg h0 h3, nm_r ha ?_⟩)
    refine sd_wCd hf e (fun fc b5 b6 => ?_)
    rcases (Bool.or_eq_true _ _).mp h' with q | q
    · exact br_f (of_decide_eq_true q) (hp fc b5 b6)
    · exact br_c (fun _ => ⟨64, sd_w35 (hp fc b5 b6) 64 1 (of_decide_eq_true q)⟩) (fun _ => hp fc b5 b6)
end
end
section
/-! The law, from its last check back to its first row. -/
/-- the object behind add: a bad register, or a register with a complex that is known -/
def sd_pic (r S x5 x6 z l : Int32) (a1 : Nat → Int64) : Prop :=
  ((r < 0 ∨ 3 < r) ∧ x6 = 0 ∧ x5 = 0) ∨
  (¬ r < 0 ∧ ¬ 3 < r ∧ x6 = 1 ∧ ¬ l = 0 ∧ ∃ g, sd_Ok (a1 r.toNatClampNeg) S z g ∧ ((g = true ∧ x5 = 1) ∨ (g = false ∧ x5 = 0)))
section
variable {post : Int32 → St0 → Prop} {mc ms kc ks : Nat} {r S x5 x6 z : Int32} {l rc cc fc : Int32} {a1 : Nat → Int64} {a2 a3 : Nat → Int32} {a4 : Nat → Int64} {a5 a6 : Nat → Int32}
theorem sd_L433 {z0 z1 : Int32} (hp : post 1 ()) (P : sd_pic r S x5 x6 z l a1) (hz : z1 = z0) : wL_lawOf_433 post mc ms r x6 z0 z1 kc ks l rc cc fc a1 a2 a3 a4 a5 a6 := by
  unfold wL_lawOf_433
  refine br_t hz ?_
  rcases P with ⟨hr, rfl, rfl⟩ | ⟨h0, h3, rfl, hl, g, ⟨_, _, _, f, hf, _, _, hs⟩, _⟩
  · exact sd_mSurA hr (br_t rfl (br_t rfl hp))
  · exact sd_mSur h0 h3 rfl hf hs (fun fc b5 b6 => br_f (by decide) (br_t rfl hp))
theorem sd_L401 {z0 z1 : Int32} (hp : post 1 ()) (P : sd_pic r S x5 x6 z l a1) (hz : z1 = z0) : wL_lawOf_401 post mc ms r S x5 x6 z0 z1 kc ks l rc cc fc a1 a2 a3 a4 a5 a6 := by
  unfold wL_lawOf_401
  refine br_t hz ?_
  have P' := P
  rcases P with ⟨hr, rfl, rfl⟩ | ⟨h0, h3, rfl, hl, g, ⟨_, _, _, f, hf, hg1, hg0, _⟩, ⟨hg, rfl⟩ | ⟨hg, rfl⟩⟩
  · exact sd_mFacA hr (br_t rfl (sd_L433 hp P' rfl))
  · exact sd_mFac h0 h3 rfl hf (hg1 hg).1 (hg1 hg).2 (br_f (by decide) (br_f (by decide) (sd_L433 hp P' rfl)))
  · exact sd_mFacB h0 h3 rfl hf (hg0 hg) (br_f (by decide) (br_t rfl (sd_L433 hp P' rfl)))
theorem sd_L400 (hp : post 1 ()) (P : sd_pic r S x5 x6 z l a1) : wL_lawOf_400 post mc ms r S x5 x6 0 kc ks l rc cc fc a1 a2 a3 a4 a5 a6 := by
  unfold wL_lawOf_400
  exact sd_L401 hp P rfl
theorem sd_L356 {x4 z0 z1 : Int32} (hp : post 1 ()) (P : sd_pic r S x5 x6 z l a1) (hz : z1 = z0) : wL_lawOf_356 post mc ms r S x4 x5 x6 z0 z1 kc ks l rc cc fc a1 a2 a3 a4 a5 a6 := by
  unfold wL_lawOf_356
  refine br_t hz ?_
  have P' := P
  rcases P with ⟨hr, rfl, rfl⟩ | ⟨h0, h3, rfl, hl, g, ⟨_, _, hh, _⟩, hx⟩
  · exact sd_mHasA hr (br_t rfl (sd_L400 hp P'))
  · by_cases ho : x4 < 1 ∨ 63 < x4
    · refine sd_mHasB h0 h3 ho ?_
      exact br_c (fun _ => sd_L400 hp P') (fun _ => br_c (fun _ => sd_L400 hp P') (fun q => br_t (ho.resolve_left q) (sd_L400 hp P')))
    · have o1 : ¬ x4 < 1 := fun q => ho (Or.inl q)
      have o2 : ¬ 63 < x4 := fun q => ho (Or.inr q)
      have hx0 : ¬ x4 < 0 := by
        intro q
        exact o1 (Int32.lt_trans q (by decide))
      obtain ⟨o, ho1, rfl⟩ := nI_of2 (M := 63) (n := 63) (by decide) hx0 (Int32.not_lt.mp o2)
      have ho0 : 0 < o := by
        rcases Nat.eq_zero_or_pos o with q | q
        · rw [q] at o1
          exact absurd (by decide : nI 0 < 1) o1
        · exact q
      have e := hh o (by omega) ho0
      rcases hx with ⟨rfl, rfl⟩ | ⟨rfl, rfl⟩
      · rw [Bool.true_and] at e
        refine sd_mHas h0 h3 o1 o2 rfl (fun q => ?_) (fun q => ?_)
        · have n : ¬ nI o &&& (S ^^^ (-1)) = 0 := of_decide_eq_false (e.symm.trans q)
          exact br_f (by decide) (br_f o1 (br_f o2 (br_f n (sd_L400 hp P'))))
        · have n : nI o &&& (S ^^^ (-1)) = 0 := of_decide_eq_true (e.symm.trans q)
          exact br_f (by decide) (br_f o1 (br_f o2 (br_t n (sd_L401 hp P' rfl))))
      · rw [Bool.false_and] at e
        refine sd_mHas h0 h3 o1 o2 rfl (fun q => ?_) (fun q => ?_)
        · exact br_t rfl (sd_L400 hp P')
        · exact absurd (e.symm.trans q) Bool.false_ne_true
/-- the law's degree, and its field -/
def sd_d9 (k x9 : Int32) : Prop := ((k < 0 ∨ 5 < k) ∧ x9 = 0) ∨ ∃ j, j < 6 ∧ k = nI j ∧ x9 = 1
def sd_d10 (p x10 : Int32) : Prop := ((p = 0 ∨ p = 2 ∨ p = 3 ∨ p = 5) ∧ x10 = 1) ∨ (¬ p = 0 ∧ ¬ p = 2 ∧ ¬ p = 3 ∧ ¬ p = 5 ∧ x10 = 0)
theorem sd_L310 {x2 x3 x4 x9 x10 z0 z1 : Int32} (hp : post 1 ()) (P : sd_pic r S x5 x6 z l a1) (h9 : sd_d9 x2 x9) (h10 : sd_d10 x3 x10) (hz : z1 = z0) : wL_lawOf_310 post mc ms r S x2 x3 x4 x5 x6 x9 x10 z0 z1 kc ks l rc cc fc a1 a2 a3 a4 a5 a6 := by
  unfold wL_lawOf_310
  refine br_t hz ?_
  have P' := P
  rcases P with ⟨hr, rfl, rfl⟩ | ⟨h0, h3, rfl, hl, g, ⟨_, ⟨v, hv, hh⟩, _, _⟩, hx⟩
  · refine sd_mHolA hr (br_t rfl ?_)
    unfold wL_lawOf_338
    exact sd_L356 hp P' rfl
  · rcases h9 with ⟨hk, rfl⟩ | ⟨k, hk, rfl, rfl⟩
    · refine sd_mHolB h0 h3 hk (br_f (by decide) (br_t rfl ?_))
      unfold wL_lawOf_338
      exact sd_L356 hp P' rfl
    · rcases h10 with ⟨hq, rfl⟩ | ⟨q0, q2, q3, q5, rfl⟩
      · refine sd_mHol h0 h3 hk hq hl rfl hv hh (fun R b2 b3 => br_f (by decide) (br_f (by decide) (br_f (by decide) ?_)))
        rcases hx with ⟨rfl, rfl⟩ | ⟨rfl, rfl⟩
        · refine br_f (by decide) ?_
          by_cases e : k = 0
          · rw [e]
            exact br_t rfl (sd_L356 hp P' rfl)
          · refine br_f (nI_ne0 (by omega) (by omega)) ?_
            unfold wL_lawOf_355
            exact sd_L356 hp P' (if_neg (fun q => e q.2))
        · refine br_t rfl ?_
          unfold wL_lawOf_355
          exact sd_L356 hp P' (if_neg (fun q => absurd q.1 Bool.false_ne_true))
      · refine sd_mHolC h0 h3 hk q0 q2 q3 q5 (br_f (by decide) (br_f (by decide) (br_t rfl ?_)))
        unfold wL_lawOf_338
        exact sd_L356 hp P' rfl
theorem sd_L309 {x2 x3 x4 x9 x10 : Int32} (hp : post 1 ()) (P : sd_pic r S x5 x6 z l a1) (h9 : sd_d9 x2 x9) (h10 : sd_d10 x3 x10) : wL_lawOf_309 post mc ms r S x2 x3 x4 x5 x6 x9 x10 (-1) kc ks l rc cc fc a1 a2 a3 a4 a5 a6 := by
  unfold wL_lawOf_309
  exact sd_L310 hp P h9 h10 rfl
theorem sd_L282 {x2 x3 x4 x9 x10 z0 z1 : Int32} (hp : post 1 ()) (P : sd_pic r S x5 x6 z l a1) (h9 : sd_d9 x2 x9) (h10 : sd_d10 x3 x10) (hz : z1 = z0) : wL_lawOf_282 post mc ms r S x2 x3 x4 x5 x6 (sd_wy x2 z) x9 x10 z0 z1 kc ks l rc cc fc a1 a2 a3 a4 a5 a6 := by
  unfold wL_lawOf_282
  refine br_t hz ?_
  have P' := P
  have h9' := h9
  rcases P with ⟨hr, rfl, rfl⟩ | ⟨h0, h3, rfl, hl, g, ⟨hc, _, _, _⟩, hx⟩
  · exact sd_mCntA hr (br_t rfl (sd_L309 hp P' h9 h10))
  · rcases h9 with ⟨hk, rfl⟩ | ⟨k, hk, rfl, rfl⟩
    · exact sd_mCntB h0 h3 hk (br_f (by decide) (br_t rfl (sd_L309 hp P' h9' h10)))
    · exact sd_mCnt h0 h3 hk rfl (hc k hk) (br_f (by decide) (br_f (by decide) (sd_L310 hp P' h9' h10 rfl)))
end
/-- how the law's flags stand to its script -/
def sd_cs (r S x5 x6 : Int32) : Prop :=
  ((r < 0 ∨ 3 < r) ∧ x6 = 0 ∧ x5 = 0) ∨ (¬ r < 0 ∧ ¬ 3 < r ∧ x6 = 1 ∧ (S < 1 ∨ 63 < S) ∧ x5 = 0) ∨ (¬ r < 0 ∧ ¬ 3 < r ∧ x6 = 1 ∧ x5 = 1 ∧ ∃ n, 0 < n ∧ n < 64 ∧ S = nI n)
def sd_n7 (S x5 x7 : Int32) : Prop := (x5 = 0 → x7 = 0) ∧ (¬ x5 = 0 → x7 = sd_cn S)
section
variable {post : Int32 → St0 → Prop} {r S x2 x3 x4 x5 x6 x7 : Int32}
theorem sd_L249 {x9 x10 : Int32} (hp : post 1 ()) (hc : sd_cs r S x5 x6) (h7 : sd_n7 S x5 x7) (h9 : sd_d9 x2 x9) (h10 : sd_d10 x3 x10) : wL_lawOf_249 post 7 494 r S x2 x3 x4 x5 x6 x7 (sd_wy x2 x7) x9 x10 0 0 := by
  unfold wL_lawOf_249
  refine ⟨by decide, by decide, 6, 484, by decide, by decide, ?_⟩
  refine ⟨by decide, by decide, by decide, by decide, by decide, by decide, by decide, by decide, by decide, by decide, by decide, by decide, ?_⟩
  rcases hc with ⟨hr, rfl, rfl⟩ | ⟨h0, h3, rfl, hs, rfl⟩ | ⟨h0, h3, rfl, rfl, n, hn0, hn, rfl⟩
  · have e7 : x7 = 0 := h7.1 rfl
    exact sd_mAddA hr (br_t rfl (sd_L282 hp (Or.inl ⟨hr, rfl, rfl⟩) h9 h10 rfl))
  · have e7 : x7 = 0 := h7.1 rfl
    subst e7
    exact sd_mAddB h0 h3 hs (br_t rfl (sd_L282 hp (Or.inr ⟨h0, h3, rfl, by decide, false, sd_ok0 S, Or.inr ⟨rfl, rfl⟩⟩) h9 h10 rfl))
  · have e7 : x7 = sd_cn (nI n) := h7.2 (by decide)
    subst e7
    exact sd_mAdd h0 h3 hn hn0 rfl (fun b1 hb => br_f (by decide) (sd_L282 hp (Or.inr ⟨h0, h3, rfl, by decide, true, by rw [hb]; exact sd_ok n hn hn0, Or.inl ⟨rfl, rfl⟩⟩) h9 h10 rfl))
theorem sd_L223 {x9 : Int32} (hp : post 1 ()) (hc : sd_cs r S x5 x6) (h7 : sd_n7 S x5 x7) (h9 : sd_d9 x2 x9) : wL_lawOf_223 post 7 494 r S x2 x3 x4 x5 x6 x7 (sd_wy x2 x7) x9 0 0 := by
  have H : (x3 = 0 ∨ x3 = 2 ∨ x3 = 3 ∨ x3 = 5) → wL_lawOf_244 post 7 494 r S x2 x3 x4 x5 x6 x7 (sd_wy x2 x7) x9 0 0 := by
    intro h
    unfold wL_lawOf_244
    exact sd_L249 hp hc h7 h9 (Or.inl ⟨h, rfl⟩)
  unfold wL_lawOf_223
  exact br_c (fun q => H (Or.inl q)) (fun q0 => br_c (fun q => H (Or.inr (Or.inl q))) (fun q2 => br_c (fun q => H (Or.inr (Or.inr (Or.inl q)))) (fun q3 => br_c (fun q => H (Or.inr (Or.inr (Or.inr q)))) (fun q5 => sd_L249 hp hc h7 h9 (Or.inr ⟨q0, q2, q3, q5, rfl⟩)))))
theorem sd_L207 (hp : post 1 ()) (hc : sd_cs r S x5 x6) (h7 : sd_n7 S x5 x7) : wL_lawOf_207 post 7 494 r S x2 x3 x4 x5 x6 x7 (sd_wy x2 x7) 0 0 := by
  have H : (x2 < 0 ∨ 5 < x2) → wL_lawOf_222 post 7 494 r S x2 x3 x4 x5 x6 x7 (sd_wy x2 x7) 0 0 := by
    intro h
    unfold wL_lawOf_222
    exact sd_L223 hp hc h7 (Or.inl ⟨h, rfl⟩)
  unfold wL_lawOf_207
  refine br_c (fun q => H (Or.inl q)) (fun q0 => br_c (fun q => H (Or.inr q)) (fun q1 => ?_))
  obtain ⟨j, hj, e⟩ := nI_of2 (M := 5) (n := 5) (by decide) q0 (Int32.not_lt.mp q1)
  exact sd_L223 hp hc h7 (Or.inr ⟨j, by omega, e, rfl⟩)
theorem sd_L85 (hp : post 1 ()) (hc : sd_cs r S x5 x6) (h7 : sd_n7 S x5 x7) : wL_lawOf_85 post 7 494 r S x2 x3 x4 x5 x6 x7 0 0 := by
  have H : ∀ w, w = sd_wy x2 x7 → wL_lawOf_207 post 7 494 r S x2 x3 x4 x5 x6 x7 w 0 0 := by
    intro w e
    rw [e]
    exact sd_L207 hp hc h7
  unfold wL_lawOf_85
  refine br_c (fun q => H _ ?_) (fun q0 => br_c (fun q => ⟨by decide, H _ ?_⟩) (fun q1 => br_c (fun q => ⟨by decide, H _ ?_⟩) (fun q2 => br_c (fun q => ⟨by decide, H _ ?_⟩) (fun q3 => br_c (fun q => br_c (fun s => H _ ?_) (fun s => br_c (fun t => H _ ?_) (fun t => H _ ?_))) (fun q4 => br_c (fun s => H _ ?_) (fun s => H _ ?_))))))
  · unfold sd_wy
    rw [if_pos q]
  · unfold sd_wy
    rw [if_neg q0, if_pos q]
  · unfold sd_wy
    rw [if_neg q0, if_neg q1, if_pos q]
  · unfold sd_wy
    rw [if_neg q0, if_neg q1, if_neg q2, if_pos q]
  · unfold sd_wy
    rw [if_neg q0, if_neg q1, if_neg q2, if_neg q3, if_pos q, if_pos s]
  · unfold sd_wy
    rw [if_neg q0, if_neg q1, if_neg q2, if_neg q3, if_pos q, if_neg s, if_pos t]
  · unfold sd_wy
    rw [if_neg q0, if_neg q1, if_neg q2, if_neg q3, if_pos q, if_neg s, if_neg t]
  · unfold sd_wy
    rw [if_neg q0, if_neg q1, if_neg q2, if_neg q3, if_neg q4, if_pos s]
  · unfold sd_wy
    rw [if_neg q0, if_neg q1, if_neg q2, if_neg q3, if_neg q4, if_neg s]
theorem sd_L41 (hp : post 1 ()) (hc : sd_cs r S x5 x6) : wL_lawOf_41 post 7 494 r S x2 x3 x4 x5 x6 0 0 := by
  unfold wL_lawOf_41
  exact br_c (fun q => sd_L85 hp hc ⟨fun _ => rfl, fun z => absurd q z⟩) (fun q => sd_L85 hp hc ⟨fun z => absurd z q, fun _ => rfl⟩)
theorem sd_L25 (hp : post 1 ()) (h : (x5 = 0 ∧ ((r < 0 ∨ 3 < r) ∨ (S < 1 ∨ 63 < S))) ∨ (x5 = 1 ∧ ¬ r < 0 ∧ ¬ 3 < r ∧ ¬ S < 1 ∧ ¬ 63 < S)) : wL_lawOf_25 post 7 494 r S x2 x3 x4 x5 0 0 := by
  have H : (r < 0 ∨ 3 < r) → wL_lawOf_40 post 7 494 r S x2 x3 x4 x5 0 0 := by
    intro hr
    have e : x5 = 0 := by
      rcases h with ⟨e, _⟩ | ⟨_, h0, h3, _⟩
      · exact e
      · exact absurd hr (fun q => q.elim h0 h3)
    unfold wL_lawOf_40
    exact sd_L41 hp (Or.inl ⟨hr, rfl, e⟩)
  unfold wL_lawOf_25
  refine br_c (fun q => H (Or.inl q)) (fun h0 => br_c (fun q => H (Or.inr q)) (fun h3 => sd_L41 hp ?_))
  rcases h with ⟨e, hb⟩ | ⟨e, _, _, s0, s3⟩
  · exact Or.inr (Or.inl ⟨h0, h3, rfl, hb.resolve_left (fun q => q.elim h0 h3), e⟩)
  · have hx0 : ¬ S < 0 := fun q => s0 (Int32.lt_trans q (by decide))
    obtain ⟨n, hn, e2⟩ := nI_of2 (M := 63) (n := 63) (by decide) hx0 (Int32.not_lt.mp s3)
    refine Or.inr (Or.inr ⟨h0, h3, rfl, e, n, ?_, by omega, e2⟩)
    rcases Nat.eq_zero_or_pos n with q | q
    · rw [e2, q] at s0
      exact absurd (by decide : nI 0 < 1) s0
    · exact q
theorem sd_law (hp : post 1 ()) : wpL_lawOf post 7 494 () r S x2 x3 x4 := by
  have H : ((r < 0 ∨ 3 < r) ∨ (S < 1 ∨ 63 < S)) → wL_lawOf_24 post 7 494 r S x2 x3 x4 0 0 := by
    intro h
    unfold wL_lawOf_24
    exact sd_L25 hp (Or.inl ⟨rfl, h⟩)
  unfold wpL_lawOf
  exact br_c (fun q => H (Or.inl (Or.inl q))) (fun h0 => br_c (fun q => H (Or.inl (Or.inr q))) (fun h3 => br_c (fun q => H (Or.inr (Or.inl q))) (fun s0 => br_c (fun q => H (Or.inr (Or.inr q))) (fun s3 => sd_L25 hp (Or.inr ⟨rfl, h0, h3, s0, s3⟩)))))
end
theorem sd_cell {post : Int32 → Prop} {L : Nat} {xs : Nat → Int32} {u : St0} {p : Int32} (i : Nat) (hi : i < 5) (hL : L ≤ 5) (e : p = nI i) (h : ∀ x, post x) : wpL_cellAt post L xs u p := by
  subst e
  unfold wpL_cellAt
  refine br_c (fun _ => h 0) (fun q => ⟨?_, h _⟩)
  have q' : i < L := by
    rcases Nat.lt_or_ge i L with z | z
    · exact z
    · exact absurd (nI_le z (by omega)) q
  exact vp_in_nI q' (by omega)
theorem i_vc (xs : Nat → Int32) (L : Nat) (hL : L ≤ 5) : wpL_law (fun r => r = 1) L xs := by
  unfold wpL_law
  exact sd_cell 0 (by decide) hL (by decide) (fun r1 => sd_cell 1 (by decide) hL (by decide) (fun r2 => sd_cell 2 (by decide) hL (by decide) (fun r3 => sd_cell 3 (by decide) hL (by decide) (fun r4 => sd_cell 4 (by decide) hL (by decide) (fun r5 => ⟨7, 494, by decide, by decide, sd_law rfl⟩)))))
end
