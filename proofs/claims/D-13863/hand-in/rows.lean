section
/-! ===== bits of an Int32 (rows of kit/laws/BITS.to-paste, renamed) ===== -/
def tb_t (x : Int32) (i : Nat) : Bool := x.toBitVec.getLsbD i
theorem tb_or (x y : Int32) (i : Nat) : tb_t (x ||| y) i = (tb_t x i || tb_t y i) := by unfold tb_t; rw [Int32.toBitVec_or, BitVec.getLsbD_or]
theorem tb_and (x y : Int32) (i : Nat) : tb_t (x &&& y) i = (tb_t x i && tb_t y i) := by unfold tb_t; rw [Int32.toBitVec_and, BitVec.getLsbD_and]
theorem tb_xor (x y : Int32) (i : Nat) : tb_t (x ^^^ y) i = (tb_t x i ^^ tb_t y i) := by unfold tb_t; rw [Int32.toBitVec_xor, BitVec.getLsbD_xor]
theorem tb_m1 : ∀ i, i < 32 → tb_t (-1) i = true := by decide +kernel
theorem tb_ext {x y : Int32} (h : ∀ i, i < 32 → tb_t x i = tb_t y i) : x = y := Int32.toBitVec_inj.mp (BitVec.eq_of_getLsbD_eq (fun i hi => h i hi))
theorem tb_sl : ∀ n, n < 32 → ((nI n &&& 31).toBitVec.smod 32).toNat = n := by decide +kernel
theorem tb_sshr (n : Nat) (hn : n < 32) (x : Int32) {i : Nat} (hi : i < 32) : tb_t (x >>> (nI n &&& 31)) i = if n + i < 32 then tb_t x (n + i) else tb_t x 31 := by
  unfold tb_t
  rw [Int32.toBitVec_shiftRight]
  show (x.toBitVec.sshiftRight ((nI n &&& 31).toBitVec.smod 32).toNat).getLsbD i = _
  rw [tb_sl n hn, BitVec.getLsbD_sshiftRight, BitVec.msb_eq_getLsbD_last]
  simp [hi]
theorem tb_one : ∀ k, k < 32 → ∀ i, i < 32 → tb_t ((1 : Int32) <<< (nI k &&& 31)) i = decide (i = k) := by decide +kernel
theorem tb_c1 : ∀ i, i < 32 → tb_t 1 i = decide (i = 0) := by decide +kernel
theorem tb_b : ∀ b : Bool, ∀ i, i < 32 → tb_t (nI b.toNat) i = (decide (i = 0) && b) := by decide +kernel
theorem tb_16 (x : Int32) {i : Nat} (hi : i < 16) : tb_t (x.toInt16.toInt32) i = tb_t x i := by
  unfold tb_t
  rw [Int16.toBitVec_toInt32, Int32.toBitVec_toInt16, BitVec.getLsbD_signExtend, if_pos hi, BitVec.getLsbD_signExtend]
  simp [hi, show i < 32 by omega]
/-- one bit read out -/
theorem tb_get (x : Int32) {k : Nat} (hk : k < 31) : (x >>> (nI k &&& 31)) &&& 1 = nI (tb_t x k).toNat := by
  apply tb_ext
  intro i hi
  rw [tb_and, tb_c1 i hi, tb_b _ i hi, tb_sshr k (by omega) x hi]
  by_cases e : i = 0
  · subst e
    simp [show k < 32 by omega]
  · simp [e]
theorem tb_z : ∀ b : Bool, nI b.toNat = 0 ↔ b = false := by decide
theorem tb_g0 (x : Int32) {k : Nat} (hk : k < 31) : ((x >>> (nI k &&& 31)) &&& 1 = 0) ↔ tb_t x k = false := by
  rw [tb_get x hk]
  exact tb_z _
theorem tb_inj : ∀ a b : Bool, nI a.toNat = nI b.toNat ↔ a = b := by decide
theorem tb_set (x : Int32) {k i : Nat} (hk : k < 12) (hi : i < 12) : tb_t ((x ||| ((1 : Int32) <<< (nI k &&& 31))).toInt16.toInt32) i = (tb_t x i || decide (i = k)) := by
  rw [tb_16 _ (by omega), tb_or, tb_one k (by omega) i (by omega)]
theorem tb_clr (x : Int32) {k i : Nat} (hk : k < 12) (hi : i < 12) : tb_t ((x &&& (((1 : Int32) <<< (nI k &&& 31)) ^^^ (-1))).toInt16.toInt32) i = (tb_t x i && !decide (i = k)) := by
  rw [tb_16 _ (by omega), tb_and, tb_xor, tb_one k (by omega) i (by omega), tb_m1 i (by omega)]
  simp
/-! ===== holders and the set of the open ones, as pictures ===== -/
def hc_E (h : Nat) : Int32 := if h < 4 then nI h else -1
theorem hc_eq : ∀ h, h < 5 → ∀ t, t < 4 → (hc_E h = nI t ↔ h = t) := by decide +kernel
theorem hc_m1 : ∀ h, h < 5 → (hc_E h = -1 ↔ h = 4) := by decide +kernel
theorem hc_lt : ∀ t, t < 4 → hc_E t = nI t := by decide +kernel
theorem hc_4 : hc_E 4 = -1 := by decide
theorem hc_b : ∀ t, t < 100 → (nI t).toInt8.toInt32 = nI t := by decide +kernel
theorem hc_nar : ∀ h, h < 5 → vp_nar .byte (hc_E h) = hc_E h := by decide +kernel
theorem hc_inj : ∀ h, h < 5 → ∀ g, g < 5 → (hc_E h = hc_E g ↔ h = g) := by decide +kernel
theorem hc_bit : ∀ h, h < 4 → ∀ p, p < 16 → nI p ||| ((1 : Int32) <<< (hc_E h &&& 31)) = nI (p ||| 2 ^ h) := by decide +kernel
def oc_N (b0 b1 b2 b3 : Bool) : Nat := b0.toNat + 2 * b1.toNat + 4 * b2.toNat + 8 * b3.toNat
def oc_E (o : Nat → Bool) : Int32 := nI (oc_N (o 0) (o 1) (o 2) (o 3))
theorem oc_g0 : ∀ b0 b1 b2 b3 : Bool, (nI (oc_N b0 b1 b2 b3) >>> (nI 0 &&& 31)) &&& 1 = nI b0.toNat := by decide +kernel
theorem oc_g1 : ∀ b0 b1 b2 b3 : Bool, (nI (oc_N b0 b1 b2 b3) >>> (nI 1 &&& 31)) &&& 1 = nI b1.toNat := by decide +kernel
theorem oc_g2 : ∀ b0 b1 b2 b3 : Bool, (nI (oc_N b0 b1 b2 b3) >>> (nI 2 &&& 31)) &&& 1 = nI b2.toNat := by decide +kernel
theorem oc_g3 : ∀ b0 b1 b2 b3 : Bool, (nI (oc_N b0 b1 b2 b3) >>> (nI 3 &&& 31)) &&& 1 = nI b3.toNat := by decide +kernel
theorem oc_get (o : Nat → Bool) {t : Nat} (ht : t < 4) : (oc_E o >>> (nI t &&& 31)) &&& 1 = nI (o t).toNat :=
  co_4 (P := fun t => (oc_E o >>> (nI t &&& 31)) &&& 1 = nI (o t).toNat) (oc_g0 _ _ _ _) (oc_g1 _ _ _ _) (oc_g2 _ _ _ _) (oc_g3 _ _ _ _) ht
theorem oc_z (o : Nat → Bool) {t : Nat} (ht : t < 4) : ((oc_E o >>> (nI t &&& 31)) &&& 1 = 0) ↔ o t = false := by
  rw [oc_get o ht]
  exact tb_z _
def oc_up (o : Nat → Bool) (t : Nat) (b : Bool) : Nat → Bool := fun i => if i = t then b else o i
theorem oc_s0 : ∀ b0 b1 b2 b3 : Bool, nI (oc_N b0 b1 b2 b3) ||| ((1 : Int32) <<< (nI 0 &&& 31)) = nI (oc_N true b1 b2 b3) := by decide +kernel
theorem oc_s1 : ∀ b0 b1 b2 b3 : Bool, nI (oc_N b0 b1 b2 b3) ||| ((1 : Int32) <<< (nI 1 &&& 31)) = nI (oc_N b0 true b2 b3) := by decide +kernel
theorem oc_s2 : ∀ b0 b1 b2 b3 : Bool, nI (oc_N b0 b1 b2 b3) ||| ((1 : Int32) <<< (nI 2 &&& 31)) = nI (oc_N b0 b1 true b3) := by decide +kernel
theorem oc_s3 : ∀ b0 b1 b2 b3 : Bool, nI (oc_N b0 b1 b2 b3) ||| ((1 : Int32) <<< (nI 3 &&& 31)) = nI (oc_N b0 b1 b2 true) := by decide +kernel
theorem oc_set (o : Nat → Bool) {t : Nat} (ht : t < 4) : oc_E o ||| ((1 : Int32) <<< (nI t &&& 31)) = oc_E (oc_up o t true) :=
  co_4 (P := fun t => oc_E o ||| ((1 : Int32) <<< (nI t &&& 31)) = oc_E (oc_up o t true)) (oc_s0 _ _ _ _) (oc_s1 _ _ _ _) (oc_s2 _ _ _ _) (oc_s3 _ _ _ _) ht
theorem oc_c0 : ∀ b0 b1 b2 b3 : Bool, nI (oc_N b0 b1 b2 b3) &&& (((1 : Int32) <<< (nI 0 &&& 31)) ^^^ (-1)) = nI (oc_N false b1 b2 b3) := by decide +kernel
theorem oc_c1 : ∀ b0 b1 b2 b3 : Bool, nI (oc_N b0 b1 b2 b3) &&& (((1 : Int32) <<< (nI 1 &&& 31)) ^^^ (-1)) = nI (oc_N b0 false b2 b3) := by decide +kernel
theorem oc_c2 : ∀ b0 b1 b2 b3 : Bool, nI (oc_N b0 b1 b2 b3) &&& (((1 : Int32) <<< (nI 2 &&& 31)) ^^^ (-1)) = nI (oc_N b0 b1 false b3) := by decide +kernel
theorem oc_c3 : ∀ b0 b1 b2 b3 : Bool, nI (oc_N b0 b1 b2 b3) &&& (((1 : Int32) <<< (nI 3 &&& 31)) ^^^ (-1)) = nI (oc_N b0 b1 b2 false) := by decide +kernel
theorem oc_clr (o : Nat → Bool) {t : Nat} (ht : t < 4) : oc_E o &&& (((1 : Int32) <<< (nI t &&& 31)) ^^^ (-1)) = oc_E (oc_up o t false) :=
  co_4 (P := fun t => oc_E o &&& (((1 : Int32) <<< (nI t &&& 31)) ^^^ (-1)) = oc_E (oc_up o t false)) (oc_c0 _ _ _ _) (oc_c1 _ _ _ _) (oc_c2 _ _ _ _) (oc_c3 _ _ _ _) ht
theorem oc_ext {o o' : Nat → Bool} (h : ∀ t, t < 4 → o t = o' t) : oc_E o = oc_E o' := by
  unfold oc_E
  rw [h 0 (by omega), h 1 (by omega), h 2 (by omega), h 3 (by omega)]
/-! ===== what an array shows ===== -/
def vh_H (b : Nat → Int32) (h : Nat → Nat) : Prop := ∀ k, k < 12 → h k < 5 ∧ b k = hc_E (h k)
def vh_W (b : Nat → Int32) (w : Nat → Nat → Bool) : Prop := ∀ t, t < 4 → ∀ k, k < 12 → tb_t (b t) k = w t k
/-- a condition by another: both roads -/
theorem rd_if {c d A B : Prop} (e : c ↔ d) (f : d → A) (g : ¬ d → B) : (c → A) ∧ (¬ c → B) := ⟨fun z => f (e.mp z), fun z => g (fun y => z (e.mpr y))⟩
theorem rd_b {c A B : Prop} {b : Bool} (e : c ↔ b = false) (f : b = false → A) (g : b = true → B) : (c → A) ∧ (¬ c → B) :=
  ⟨fun z => f (e.mp z), fun z => g (by cases b; exact absurd (e.mpr rfl) z; rfl)⟩
theorem ic_c {α : Type} {c d : Prop} [Decidable c] [Decidable d] {a b : α} (e : c ↔ d) : (if c then a else b) = (if d then a else b) := by
  by_cases h : c
  · rw [if_pos h, if_pos (e.mp h)]
  · rw [if_neg h, if_neg (fun z => h (e.mpr z))]
end
section
/-! ===== small methods ===== -/
section SMALL
variable {z_op z_st z_vo z_he z_ns z_nm z_sl z_pa z_tr z_td z_ha z_cc z_fi z_wa z_se z_lo : Int32} {z_im z_ls z_lk z_lt z_ly z_ln z_nu z_ho z_wk z_wn z_pr z_go z_mk z_mf z_mt z_mn : Nat → Int32}
theorem ix_12 (t k : Nat) : nI t * 12 + nI k = nI (t * 12 + k) := by rw [show (12 : Int32) = nI 12 from rfl, pk_mul, nI_add]
theorem ix_3 (t m : Nat) : nI t * 3 + nI m = nI (t * 3 + m) := by rw [show (3 : Int32) = nI 3 from rfl, pk_mul, nI_add]
theorem ix_64 (m : Nat) : nI m * 64 = nI (m * 64) := by rw [show (64 : Int32) = nI 64 from rfl, pk_mul]
theorem ix_p3 (k : Nat) : nI k + 3 = nI (k + 3) := by rw [show (3 : Int32) = nI 3 from rfl, nI_add]
theorem ml_isOpen {post : Int32 → Prop} {o : Nat → Bool} {t : Nat} (ht : t < 4) (ho : z_op = oc_E o) (H0 : o t = false → post 0) (H1 : o t = true → post 1) : wpX_isOpen post (z_op, z_st, z_vo, z_he, z_ns, z_nm, z_sl, z_pa, z_tr, z_td, z_ha, z_cc, z_fi, z_wa, z_se, z_lo, z_im, z_ls, z_lk, z_lt, z_ly, z_ln, z_nu, z_ho, z_wk, z_wn, z_pr, z_go, z_mk, z_mf, z_mt, z_mn) (nI t) := by
  subst ho
  exact br_f (nI_pos (by omega)) (br_f (nI_ge (b := 4) ht (by decide)) (rd_b (oc_z o ht) H0 H1))
theorem ml_isKey {post : Int32 → Prop} {v : St3} {k : Nat} (hk : k < 12) (H : post 1) : wpX_isKey post v (nI k) :=
  br_f (nI_pos (by omega)) (br_f (nI_ge (b := 12) hk (by decide)) H)
theorem ml_isFree {post : Int32 → Prop} {h : Nat → Nat} {t k : Nat} (ht : t < 4) (hk : k < 12) (hh : vh_H z_ho h) (H1 : h k = 4 ∨ h k = t → post 1) (H0 : ¬ (h k = 4 ∨ h k = t) → post 0) : wpX_isFree post (z_op, z_st, z_vo, z_he, z_ns, z_nm, z_sl, z_pa, z_tr, z_td, z_ha, z_cc, z_fi, z_wa, z_se, z_lo, z_im, z_ls, z_lk, z_lt, z_ly, z_ln, z_nu, z_ho, z_wk, z_wn, z_pr, z_go, z_mk, z_mf, z_mt, z_mn) (nI t) (nI k) := by
  obtain ⟨h5, e⟩ := hh k hk
  have e' : z_ho (nI k).toNatClampNeg = hc_E (h k) := by rw [nI_clamp (by omega)]; exact e
  have g1 : z_ho (nI k).toNatClampNeg = -1 ↔ h k = 4 := by rw [e']; exact hc_m1 _ h5
  have g2 : z_ho (nI k).toNatClampNeg = nI t ↔ h k = t := by rw [e']; exact hc_eq _ h5 _ ht
  exact ⟨pk_in k 12 hk, rd_if g1 (fun z => H1 (Or.inl z)) (fun z => ⟨pk_in k 12 hk, rd_if g2 (fun y => H1 (Or.inr y)) (fun y => H0 (fun q => q.elim z y))⟩)⟩
theorem ml_hasW {post : Int32 → Prop} {w : Nat → Nat → Bool} {t k : Nat} (ht : t < 4) (hk : k < 12) (hw : vh_W z_wk w) (H0 : w t k = false → post 0) (H1 : w t k = true → post 1) : wpX_hasWritten post (z_op, z_st, z_vo, z_he, z_ns, z_nm, z_sl, z_pa, z_tr, z_td, z_ha, z_cc, z_fi, z_wa, z_se, z_lo, z_im, z_ls, z_lk, z_lt, z_ly, z_ln, z_nu, z_ho, z_wk, z_wn, z_pr, z_go, z_mk, z_mf, z_mt, z_mn) (nI t) (nI k) := by
  have e : tb_t (z_wk (nI t).toNatClampNeg) k = w t k := by rw [nI_clamp (by omega)]; exact hw t ht k hk
  have g : ((z_wk (nI t).toNatClampNeg) >>> (nI k &&& 31)) &&& 1 = 0 ↔ w t k = false := by rw [← e]; exact tb_g0 _ (by omega)
  exact ⟨pk_in t 4 ht, rd_b g H0 H1⟩
def sv_v (w : Nat → Nat → Bool) (wn nu : Nat → Int32) (t k : Nat) : Int32 := if w t k = true then wn (t * 12 + k) else nu k
theorem ml_seen {post : Int32 → Prop} {w : Nat → Nat → Bool} {t k : Nat} (ht : t < 4) (hk : k < 12) (hw : vh_W z_wk w) (H : post (sv_v w z_wn z_nu t k)) : wpX_seen post (z_op, z_st, z_vo, z_he, z_ns, z_nm, z_sl, z_pa, z_tr, z_td, z_ha, z_cc, z_fi, z_wa, z_se, z_lo, z_im, z_ls, z_lk, z_lt, z_ly, z_ln, z_nu, z_ho, z_wk, z_wn, z_pr, z_go, z_mk, z_mf, z_mt, z_mn) (nI t) (nI k) := by
  unfold wpX_seen
  refine ml_hasW ht hk hw (fun e => ?_) (fun e => ?_)
  · refine br_t rfl ⟨pk_in k 12 hk, ?_⟩
    unfold sv_v at H
    rw [e, if_neg (by decide)] at H
    rw [nI_clamp (by omega)]
    exact H
  · refine br_f (by decide) ⟨pk_in (t * 12 + k) 48 (by omega) (ix_12 t k), ?_⟩
    unfold sv_v at H
    rw [e, if_pos rfl] at H
    rw [ix_12, nI_clamp (by omega)]
    exact H
def rg_ok (x : Int32) : Prop := ¬ x < (-9999) ∧ ¬ 9999 < x
theorem ml_isNumber {post : Int32 → Prop} {v : St3} {x : Int32} (H1 : rg_ok x → post 1) (H0 : ¬ rg_ok x → post 0) : wpX_isNumber post v x :=
  br_c (fun z => H0 (fun g => g.1 z)) (fun z => br_c (fun y => H0 (fun g => g.2 y)) (fun y => H1 ⟨z, y⟩))
def hu_s (h : Nat → Nat) (k t : Nat) : Nat → Nat := fun i => if i = k then t else h i
def wu_s (w : Nat → Nat → Bool) (t k : Nat) (b : Bool) : Nat → Nat → Bool := fun t' k' => if t' = t ∧ k' = k then b else w t' k'
theorem vh_Hs {b : Nat → Int32} {h : Nat → Nat} {k t : Nat} (hh : vh_H b h) (ht : t < 5) : vh_H (upd b k (hc_E t)) (hu_s h k t) := by
  intro i hi
  unfold hu_s
  by_cases e : i = k
  · subst e
    rw [if_pos rfl, pk_us]
    exact ⟨ht, rfl⟩
  · rw [if_neg e, pk_un e]
    exact hh i hi
theorem vh_Ws {b : Nat → Int32} {w : Nat → Nat → Bool} {k t : Nat} (hw : vh_W b w) (hk : k < 12) : vh_W (upd b t ((b t ||| ((1 : Int32) <<< (nI k &&& 31))).toInt16.toInt32)) (wu_s w t k true) := by
  intro i hi j hj
  unfold wu_s
  by_cases e : i = t
  · subst e
    rw [pk_us, tb_set _ hk hj, hw i hi j hj]
    by_cases e2 : j = k
    · simp [e2]
    · simp [e2]
  · rw [pk_un e, if_neg (fun z => e z.1)]
    exact hw i hi j hj
theorem vh_Wc {b : Nat → Int32} {w : Nat → Nat → Bool} {k t : Nat} (hw : vh_W b w) (hk : k < 12) : vh_W (upd b t ((b t &&& (((1 : Int32) <<< (nI k &&& 31)) ^^^ (-1))).toInt16.toInt32)) (wu_s w t k false) := by
  intro i hi j hj
  unfold wu_s
  by_cases e : i = t
  · subst e
    rw [pk_us, tb_clr _ hk hj, hw i hi j hj]
    by_cases e2 : j = k
    · simp [e2]
    · simp [e2]
  · rw [pk_un e, if_neg (fun z => e z.1)]
    exact hw i hi j hj
theorem ml_writeKey {post : St1 → Prop} {h : Nat → Nat} {w : Nat → Nat → Bool} {t k : Nat} {v : Int32} (ht : t < 4) (hk : k < 12) (hh : vh_H z_ho h) (hw : vh_W z_wk w)
    (H : ∀ b8 b9, vh_H b8 (hu_s h k t) → vh_W b9 (wu_s w t k true) → post (z_op, z_st, z_vo, z_he, z_ns, z_nm, z_sl, z_pa, z_tr, z_td, z_ha, z_cc, z_fi, z_wa, z_se, z_lo, z_im, z_ls, z_lk, z_lt, z_ly, z_ln, z_nu, b8, b9, upd z_wn (t * 12 + k) v, z_pr, z_go, z_mk, z_mf, z_mt, z_mn)) : wpX_writeKey post (z_op, z_st, z_vo, z_he, z_ns, z_nm, z_sl, z_pa, z_tr, z_td, z_ha, z_cc, z_fi, z_wa, z_se, z_lo, z_im, z_ls, z_lk, z_lt, z_ly, z_ln, z_nu, z_ho, z_wk, z_wn, z_pr, z_go, z_mk, z_mf, z_mt, z_mn) (nI t) (nI k) v := by
  refine ⟨pk_in k 12 hk, ?_⟩
  intro b8 e8
  refine ⟨pk_in t 4 ht, pk_in t 4 ht, ?_⟩
  intro b9 e9
  refine ⟨pk_in (t * 12 + k) 48 (by omega) (ix_12 t k), ?_⟩
  intro b10 e10
  rw [ix_12, nI_clamp (by omega)] at e10
  rw [nI_clamp (by omega), hc_b t (by omega), ← hc_lt t ht] at e8
  rw [nI_clamp (by omega)] at e9
  subst e8 e9 e10
  exact H _ _ (vh_Hs hh (by omega)) (vh_Ws hw hk)
/-! ===== get, put, move ===== -/
theorem ml_get {post : Int32 → St1 → Prop} {o : Nat → Bool} {h : Nat → Nat} {w : Nat → Nat → Bool} {t k : Nat} (ht : t < 4) (hk : k < 12) (ho : z_op = oc_E o) (hh : vh_H z_ho h) (hw : vh_W z_wk w)
    (H0 : o t = false → post (-100000) (z_op, z_st, z_vo, z_he, z_ns, z_nm, z_sl, z_pa, z_tr, z_td, z_ha, z_cc, z_fi, z_wa, z_se, z_lo, z_im, z_ls, z_lk, z_lt, z_ly, z_ln, z_nu, z_ho, z_wk, z_wn, z_pr, z_go, z_mk, z_mf, z_mt, z_mn)) (H1 : o t = true → ¬ (h k = 4 ∨ h k = t) → post (-300000) (z_op, z_st, z_vo, z_he, z_ns, z_nm, z_sl, z_pa, z_tr, z_td, z_ha, z_cc, z_fi, z_wa, z_se, z_lo, z_im, z_ls, z_lk, z_lt, z_ly, z_ln, z_nu, z_ho, z_wk, z_wn, z_pr, z_go, z_mk, z_mf, z_mt, z_mn))
    (H2 : o t = true → (h k = 4 ∨ h k = t) → ∀ b8, vh_H b8 (hu_s h k t) → post (sv_v w z_wn z_nu t k) (z_op, z_st, z_vo, z_he, z_ns, z_nm, z_sl, z_pa, z_tr, z_td, z_ha, z_cc, z_fi, z_wa, z_se, z_lo, z_im, z_ls, z_lk, z_lt, z_ly, z_ln, z_nu, b8, z_wk, z_wn, z_pr, z_go, z_mk, z_mf, z_mt, z_mn)) : wpX_get post (z_op, z_st, z_vo, z_he, z_ns, z_nm, z_sl, z_pa, z_tr, z_td, z_ha, z_cc, z_fi, z_wa, z_se, z_lo, z_im, z_ls, z_lk, z_lt, z_ly, z_ln, z_nu, z_ho, z_wk, z_wn, z_pr, z_go, z_mk, z_mf, z_mt, z_mn) (nI t) (nI k) := by
  unfold wpX_get
  refine ml_isOpen ht ho (fun e => br_t rfl (H0 e)) (fun e => br_f (by decide) ?_)
  refine ml_isKey hk (br_f (by decide) ?_)
  refine ml_isFree ht hk hh (fun z => br_f (by decide) ⟨pk_in k 12 hk, ?_⟩) (fun z => br_t rfl (H1 e z))
  intro b8 e8
  rw [nI_clamp (by omega), hc_b t (by omega), ← hc_lt t ht] at e8
  subst e8
  refine ml_seen ht hk hw ?_
  exact H2 e z _ (vh_Hs hh (by omega))
theorem ml_put {post : Int32 → St1 → Prop} {o : Nat → Bool} {h : Nat → Nat} {w : Nat → Nat → Bool} {t k : Nat} {v : Int32} (ht : t < 4) (hk : k < 12) (hv : rg_ok v) (ho : z_op = oc_E o) (hh : vh_H z_ho h) (hw : vh_W z_wk w)
    (H0 : o t = false → post (-100000) (z_op, z_st, z_vo, z_he, z_ns, z_nm, z_sl, z_pa, z_tr, z_td, z_ha, z_cc, z_fi, z_wa, z_se, z_lo, z_im, z_ls, z_lk, z_lt, z_ly, z_ln, z_nu, z_ho, z_wk, z_wn, z_pr, z_go, z_mk, z_mf, z_mt, z_mn)) (H1 : o t = true → ¬ (h k = 4 ∨ h k = t) → post (-300000) (z_op, z_st, z_vo, z_he, z_ns, z_nm, z_sl, z_pa, z_tr, z_td, z_ha, z_cc, z_fi, z_wa, z_se, z_lo, z_im, z_ls, z_lk, z_lt, z_ly, z_ln, z_nu, z_ho, z_wk, z_wn, z_pr, z_go, z_mk, z_mf, z_mt, z_mn))
    (H2 : o t = true → (h k = 4 ∨ h k = t) → ∀ b8 b9, vh_H b8 (hu_s h k t) → vh_W b9 (wu_s w t k true) → post (sv_v w z_wn z_nu t k) (z_op, z_st, z_vo, z_he, z_ns, z_nm, z_sl, z_pa, z_tr, z_td, z_ha, z_cc, z_fi, z_wa, z_se, z_lo, z_im, z_ls, z_lk, z_lt, z_ly, z_ln, z_nu, b8, b9, upd z_wn (t * 12 + k) v, z_pr, z_go, z_mk, z_mf, z_mt, z_mn)) : wpX_put post (z_op, z_st, z_vo, z_he, z_ns, z_nm, z_sl, z_pa, z_tr, z_td, z_ha, z_cc, z_fi, z_wa, z_se, z_lo, z_im, z_ls, z_lk, z_lt, z_ly, z_ln, z_nu, z_ho, z_wk, z_wn, z_pr, z_go, z_mk, z_mf, z_mt, z_mn) (nI t) (nI k) v := by
  unfold wpX_put
  refine ml_isOpen ht ho (fun e => br_t rfl (H0 e)) (fun e => br_f (by decide) ?_)
  refine ml_isKey hk (br_f (by decide) ?_)
  refine ml_isNumber (fun _ => br_f (by decide) ?_) (fun z => absurd hv z)
  refine ml_isFree ht hk hh (fun z => br_f (by decide) ?_) (fun z => br_t rfl (H1 e z))
  refine ml_seen ht hk hw ?_
  refine ml_writeKey ht hk hh hw (fun b8 b9 h8 h9 => ?_)
  exact H2 e z b8 b9 h8 h9
theorem ml_move {post : Int32 → St1 → Prop} {o : Nat → Bool} {h : Nat → Nat} {w : Nat → Nat → Bool} {t k k2 a : Nat} (ht : t < 4) (hk : k < 12) (hk2 : k2 < 12) (hne : k ≠ k2) (ha : a < 128) (ho : z_op = oc_E o) (hh : vh_H z_ho h) (hw : vh_W z_wk w)
    (H0 : o t = false → post (-100000) (z_op, z_st, z_vo, z_he, z_ns, z_nm, z_sl, z_pa, z_tr, z_td, z_ha, z_cc, z_fi, z_wa, z_se, z_lo, z_im, z_ls, z_lk, z_lt, z_ly, z_ln, z_nu, z_ho, z_wk, z_wn, z_pr, z_go, z_mk, z_mf, z_mt, z_mn)) (H1 : o t = true → ¬ ((h k = 4 ∨ h k = t) ∧ (h k2 = 4 ∨ h k2 = t)) → post (-300000) (z_op, z_st, z_vo, z_he, z_ns, z_nm, z_sl, z_pa, z_tr, z_td, z_ha, z_cc, z_fi, z_wa, z_se, z_lo, z_im, z_ls, z_lk, z_lt, z_ly, z_ln, z_nu, z_ho, z_wk, z_wn, z_pr, z_go, z_mk, z_mf, z_mt, z_mn))
    (H2 : o t = true → ((h k = 4 ∨ h k = t) ∧ (h k2 = 4 ∨ h k2 = t)) → ¬ (rg_ok (sv_v w z_wn z_nu t k - nI a) ∧ rg_ok (sv_v w z_wn z_nu t k2 + nI a)) → post (-200000) (z_op, z_st, z_vo, z_he, z_ns, z_nm, z_sl, z_pa, z_tr, z_td, z_ha, z_cc, z_fi, z_wa, z_se, z_lo, z_im, z_ls, z_lk, z_lt, z_ly, z_ln, z_nu, z_ho, z_wk, z_wn, z_pr, z_go, z_mk, z_mf, z_mt, z_mn))
    (H3 : o t = true → ((h k = 4 ∨ h k = t) ∧ (h k2 = 4 ∨ h k2 = t)) → (rg_ok (sv_v w z_wn z_nu t k - nI a) ∧ rg_ok (sv_v w z_wn z_nu t k2 + nI a)) → ∀ b8 b9, vh_H b8 (hu_s (hu_s h k t) k2 t) → vh_W b9 (wu_s (wu_s w t k true) t k2 true) →
      post (sv_v w z_wn z_nu t k - nI a) (z_op, z_st, z_vo, z_he, z_ns, z_nm, z_sl, z_pa, z_tr, z_td, z_ha, z_cc, z_fi, z_wa, z_se, z_lo, z_im, z_ls, z_lk, z_lt, z_ly, z_ln, z_nu, b8, b9, upd (upd z_wn (t * 12 + k) (sv_v w z_wn z_nu t k - nI a)) (t * 12 + k2) (sv_v w z_wn z_nu t k2 + nI a), z_pr, z_go, z_mk, z_mf, z_mt, z_mn)) : wpX_move post (z_op, z_st, z_vo, z_he, z_ns, z_nm, z_sl, z_pa, z_tr, z_td, z_ha, z_cc, z_fi, z_wa, z_se, z_lo, z_im, z_ls, z_lk, z_lt, z_ly, z_ln, z_nu, z_ho, z_wk, z_wn, z_pr, z_go, z_mk, z_mf, z_mt, z_mn) (nI t) (nI k + 12 * nI k2) (nI a) := by
  have eb : nI k + 12 * nI k2 = nI (k + 12 * k2) := by rw [show (12 : Int32) = nI 12 from rfl, pk_mul, nI_add]
  have er : nI (k + 12 * k2) - nI (k + 12 * k2) / 12 * 12 = nI k := by
    rw [show (12 : Int32) = nI 12 from rfl, pk_rem (by omega) (by omega) (by omega), show (k + 12 * k2) % 12 = k by omega]
  have ed : nI (k + 12 * k2) / 12 = nI k2 := by
    rw [show (12 : Int32) = nI 12 from rfl, pk_div (by omega) (by omega) (by omega), show (k + 12 * k2) / 12 = k2 by omega]
  rw [eb]
  unfold wpX_move
  refine ml_isOpen ht ho (fun e => br_t rfl (H0 e)) (fun e => br_f (by decide) (br_f (nI_pos (by omega)) (br_f (nI_ge (b := 144) (by omega) (by decide)) ⟨by decide, by decide, ?_⟩)))
  refine br_f (by rw [er, ed, nI_eq (by omega) (by omega)]; exact hne) (br_f (nI_pos (by omega)) (br_t (nI_le (b := 9999) (by omega) (by decide)) ⟨by decide, nm_r er ⟨by decide, nm_r ed ?_⟩⟩))
  refine ml_isFree ht hk hh (fun z1 => br_f (by decide) ?_) (fun z => br_t rfl (H1 e (fun q => z q.1)))
  refine ml_isFree ht hk2 hh (fun z2 => br_f (by decide) ?_) (fun z => br_t rfl (H1 e (fun q => z q.2)))
  refine ml_seen ht hk hw (nm_e ?_)
  refine ml_seen ht hk2 hw (nm_e ?_)
  refine ml_isNumber (fun r1 => br_f (by decide) ?_) (fun z => br_t rfl (H2 e ⟨z1, z2⟩ (fun q => z q.1)))
  refine ml_isNumber (fun r2 => br_f (by decide) ?_) (fun z => br_t rfl (H2 e ⟨z1, z2⟩ (fun q => z q.2)))
  refine ml_writeKey ht hk hh hw (fun b8 b9 h8 h9 => ?_)
  refine ml_writeKey (h := hu_s h k t) (w := wu_s w t k true) ht hk2 h8 h9 (fun c8 c9 g8 g9 => ?_)
  exact H3 e ⟨z1, z2⟩ ⟨r1, r2⟩ c8 c9 g8 g9
end SMALL
end
section
/-! ===== releaseOn, rollBack ===== -/
section REL
variable {z_op z_st z_vo z_he z_ns z_nm z_sl z_pa z_tr z_td z_ha z_cc z_fi z_wa z_se z_lo : Int32} {z_im z_ls z_lk z_lt z_ly z_ln z_nu z_ho z_wk z_wn z_pr z_go z_mk z_mf z_mt z_mn : Nat → Int32}
theorem vh_Hc {b : Nat → Int32} {h h' : Nat → Nat} (hh : vh_H b h) (e : ∀ k, k < 12 → h' k = h k) : vh_H b h' := fun k hk => by rw [e k hk]; exact hh k hk
theorem vh_Wg {b : Nat → Int32} {w w' : Nat → Nat → Bool} (hw : vh_W b w) (e : ∀ t, t < 4 → ∀ k, k < 12 → w' t k = w t k) : vh_W b w' := fun t ht k hk => by rw [e t ht k hk]; exact hw t ht k hk
def hr_m (h : Nat → Nat) (t m : Nat) : Nat → Nat := fun k => if k % 3 = m ∧ h k = t then 4 else h k
def wr_m (w : Nat → Nat → Bool) (t m : Nat) : Nat → Nat → Bool := fun t' k => if t' = t ∧ k % 3 = m then false else w t' k
theorem ml_rel33 {post : St1 → Prop} {J : Int32 → (Nat → Int32) → (Nat → Int32) → (Nat → Int32) → (Nat → Int32) → (Nat → Int32) → (Nat → Int32) → (Nat → Int32) → (Nat → Int32) → (Nat → Int32) → (Nat → Int32) → (Nat → Int32) → (Nat → Int32) → (Nat → Int32) → (Nat → Int32) → (Nat → Int32) → (Nat → Int32) → Prop} {t m k g : Nat} {h : Nat → Nat} {w : Nat → Nat → Bool} {z : Int32} (ht : t < 4) (hk : k < 12) (hg : g < 5) (hh : vh_H z_ho h) (hw : vh_W z_wk w) (hz : z = hc_E g)
    (H : ∀ b8 b9, vh_H b8 (hu_s h k g) → vh_W b9 (wu_s w t k false) → J (nI (k + 3)) z_im z_ls z_lk z_lt z_ly z_ln z_nu b8 b9 z_wn z_pr z_go z_mk z_mf z_mt z_mn) : wX_releaseOn_33 post J (nI t) (nI m) (nI k) z (nI k) z_op z_st z_vo z_he z_ns z_nm z_sl z_pa z_tr z_td z_ha z_cc z_fi z_wa z_se z_lo z_im z_ls z_lk z_lt z_ly z_ln z_nu z_ho z_wk z_wn z_pr z_go z_mk z_mf z_mt z_mn := by
  subst hz
  refine ⟨pk_in k 12 hk, ?_⟩
  intro b8 e8
  rw [nI_clamp (by omega), hc_nar g hg] at e8
  refine ⟨pk_in t 4 ht, pk_in t 4 ht, ?_⟩
  intro b9 e9
  rw [nI_clamp (by omega)] at e9
  subst e8 e9
  exact nm_r (ix_p3 k) (H _ _ (vh_Hs hh hg) (vh_Wc hw hk))
theorem ml_releaseOn {post : St1 → Prop} {t m : Nat} {h : Nat → Nat} {w : Nat → Nat → Bool} (ht : t < 4) (hm : m < 3) (hh : vh_H z_ho h) (hw : vh_W z_wk w)
    (H : ∀ b8 b9, vh_H b8 (hr_m h t m) → vh_W b9 (wr_m w t m) → post (z_op, z_st, z_vo, z_he, z_ns, z_nm, z_sl, z_pa, z_tr, z_td, z_ha, z_cc, z_fi, z_wa, z_se, z_lo, z_im, z_ls, z_lk, z_lt, z_ly, z_ln, z_nu, b8, b9, z_wn, upd z_pr (t * 3 + m) 0, z_go, z_mk, z_mf, z_mt, z_mn)) : wpX_releaseOn post (z_op, z_st, z_vo, z_he, z_ns, z_nm, z_sl, z_pa, z_tr, z_td, z_ha, z_cc, z_fi, z_wa, z_se, z_lo, z_im, z_ls, z_lk, z_lt, z_ly, z_ln, z_nu, z_ho, z_wk, z_wn, z_pr, z_go, z_mk, z_mf, z_mt, z_mn) (nI t) (nI m) := by
  refine pk_loop (σ := (Nat → Int32) × (Nat → Int32)) (fun n i s => wX_releaseOn_2 post (nI t) (nI m) z_op z_st z_vo z_he z_ns z_nm z_sl z_pa z_tr z_td z_ha z_cc z_fi z_wa z_se z_lo n (nI (m + 3 * i)) z_im z_ls z_lk z_lt z_ly z_ln z_nu s.1 s.2 z_wn z_pr z_go z_mk z_mf z_mt z_mn)
    (fun i s => vh_H s.1 (fun k => if k % 3 = m ∧ k < m + 3 * i ∧ h k = t then 4 else h k) ∧ vh_W s.2 (fun t' k => if t' = t ∧ k % 3 = m ∧ k < m + 3 * i then false else w t' k))
    4 0 (z_ho, z_wk) (by omega) ⟨vh_Hc hh (fun k hk => if_neg (by omega)), vh_Wg hw (fun t ht k hk => if_neg (by omega))⟩ ?_ ?_
  · rintro n ⟨b8, b9⟩ ⟨h8, h9⟩
    show wX_releaseOn_2 post (nI t) (nI m) z_op z_st z_vo z_he z_ns z_nm z_sl z_pa z_tr z_td z_ha z_cc z_fi z_wa z_se z_lo (n + 1) (nI (m + 3 * 4)) z_im z_ls z_lk z_lt z_ly z_ln z_nu b8 b9 z_wn z_pr z_go z_mk z_mf z_mt z_mn
    refine pk_le 12 (m + 3 * 4) (fun _ => ⟨pk_in (t * 3 + m) 12 (by omega) (ix_3 t m), ?_⟩) (fun z => absurd z (by omega))
    intro b11 e11
    rw [ix_3, nI_clamp (by omega)] at e11
    subst e11
    refine H b8 b9 (vh_Hc h8 (fun k hk => ?_)) (vh_Wg h9 (fun t' ht' k hk => ?_))
    · unfold hr_m
      exact ic_c ⟨fun z => ⟨z.1, by omega, z.2⟩, fun z => ⟨z.1, z.2.2⟩⟩
    · unfold wr_m
      exact ic_c ⟨fun z => ⟨z.1, z.2, by omega⟩, fun z => ⟨z.1, z.2.1⟩⟩
  · rintro n i ⟨b8, b9⟩ hi ⟨h8, h9⟩ hn
    have hk : m + 3 * i < 12 := by omega
    show wX_releaseOn_2 post (nI t) (nI m) z_op z_st z_vo z_he z_ns z_nm z_sl z_pa z_tr z_td z_ha z_cc z_fi z_wa z_se z_lo (n + 1) (nI (m + 3 * i)) z_im z_ls z_lk z_lt z_ly z_ln z_nu b8 b9 z_wn z_pr z_go z_mk z_mf z_mt z_mn
    refine pk_le 12 (m + 3 * i) (fun z => absurd z (by omega)) (fun _ => ⟨pk_in (m + 3 * i) 12 hk, ?_⟩)
    dsimp only at h8 h9
    obtain ⟨h5, e⟩ := h8 (m + 3 * i) hk
    dsimp only at h5 e
    rw [if_neg (by omega)] at h5 e
    have e' : b8 (nI (m + 3 * i)).toNatClampNeg = hc_E (h (m + 3 * i)) := by rw [nI_clamp (by omega)]; exact e
    have g2 : b8 (nI (m + 3 * i)).toNatClampNeg = nI t ↔ h (m + 3 * i) = t := by rw [e']; exact hc_eq _ h5 _ ht
    have fin : ∀ g z, g < 5 → z = hc_E g → g = (if h (m + 3 * i) = t then 4 else h (m + 3 * i)) → wX_releaseOn_33 post (wX_releaseOn_2 post (nI t) (nI m) z_op z_st z_vo z_he z_ns z_nm z_sl z_pa z_tr z_td z_ha z_cc z_fi z_wa z_se z_lo n) (nI t) (nI m) (nI (m + 3 * i)) z (nI (m + 3 * i)) z_op z_st z_vo z_he z_ns z_nm z_sl z_pa z_tr z_td z_ha z_cc z_fi z_wa z_se z_lo z_im z_ls z_lk z_lt z_ly z_ln z_nu b8 b9 z_wn z_pr z_go z_mk z_mf z_mt z_mn := by
      intro g z hg hz eg
      refine ml_rel33 ht hk hg h8 h9 hz (fun c8 c9 g8 g9 => ?_)
      refine hn (c8, c9) ⟨vh_Hc g8 (fun k hk => ?_), vh_Wg g9 (fun t' ht' k hk => ?_)⟩
      · unfold hu_s
        by_cases ek : k = m + 3 * i
        · subst ek
          rw [if_pos rfl, eg]
          by_cases eh : h (m + 3 * i) = t
          · rw [if_pos eh, if_pos ⟨by omega, by omega, eh⟩]
          · rw [if_neg eh, if_neg (fun z => eh z.2.2)]
        · rw [if_neg ek]
          exact ic_c ⟨fun z => ⟨z.1, by omega, z.2.2⟩, fun z => ⟨z.1, by omega, z.2.2⟩⟩
      · unfold wu_s
        by_cases ek : t' = t ∧ k = m + 3 * i
        · rw [if_pos ek, if_pos ⟨ek.1, by omega, by omega⟩]
        · rw [if_neg ek]
          exact ic_c ⟨fun z => ⟨z.1, z.2.1, by omega⟩, fun z => ⟨z.1, z.2.1, by omega⟩⟩
    exact rd_if g2 (fun y => fin 4 (-1) (by omega) hc_4.symm (if_pos y).symm) (fun y => ⟨pk_in (m + 3 * i) 12 hk, fin _ _ h5 e' (if_neg y).symm⟩)
theorem rb_h {h : Nat → Nat} {t i k : Nat} (ht : t < 4) : (if k % 3 < i + 1 ∧ h k = t then 4 else h k) = hr_m (fun k => if k % 3 < i ∧ h k = t then 4 else h k) t i k := by
  unfold hr_m
  grind
theorem rb_w {w : Nat → Nat → Bool} {t i t' k : Nat} : (if t' = t ∧ k % 3 < i + 1 then false else w t' k) = wr_m (fun t' k => if t' = t ∧ k % 3 < i then false else w t' k) t i t' k := by
  unfold wr_m
  grind
theorem rb_p {b p : Nat → Int32} {t i j : Nat} (h : ∀ j, j < 12 → b j = if j / 3 = t ∧ j % 3 < i then 0 else p j) (hj : j < 12) (hi : i < 3 := by omega) : upd b (t * 3 + i) 0 j = if j / 3 = t ∧ j % 3 < i + 1 then 0 else p j := by
  by_cases e1 : j = t * 3 + i
  · rw [e1, pk_us, if_pos ⟨by omega, by omega⟩]
  · rw [pk_un e1, h j hj]
    grind
def hr_a (h : Nat → Nat) (t : Nat) : Nat → Nat := fun k => if h k = t then 4 else h k
def wr_a (w : Nat → Nat → Bool) (t : Nat) : Nat → Nat → Bool := fun t' k => if t' = t then false else w t' k
theorem ml_rollBack {post : St1 → Prop} {t : Nat} {o : Nat → Bool} {h : Nat → Nat} {w : Nat → Nat → Bool} (ht : t < 4) (ho : z_op = oc_E o) (hh : vh_H z_ho h) (hw : vh_W z_wk w)
    (H : ∀ b8 b9 b11, vh_H b8 (hr_a h t) → vh_W b9 (wr_a w t) → (∀ j, j < 12 → b11 j = if j / 3 = t then 0 else z_pr j) → post (oc_E (oc_up o t false), z_st, z_vo, z_he, z_ns, z_nm, z_sl, z_pa, z_tr, z_td, z_ha, z_cc, z_fi, z_wa, z_se, z_lo, z_im, z_ls, z_lk, z_lt, z_ly, z_ln, z_nu, b8, b9, z_wn, b11, z_go, z_mk, z_mf, z_mt, z_mn)) : wpX_rollBack post (z_op, z_st, z_vo, z_he, z_ns, z_nm, z_sl, z_pa, z_tr, z_td, z_ha, z_cc, z_fi, z_wa, z_se, z_lo, z_im, z_ls, z_lk, z_lt, z_ly, z_ln, z_nu, z_ho, z_wk, z_wn, z_pr, z_go, z_mk, z_mf, z_mt, z_mn) (nI t) := by
  subst ho
  refine pk_loop (σ := (Nat → Int32) × (Nat → Int32) × (Nat → Int32)) (fun n i s => wX_rollBack_2 post (nI t) n (nI i) (oc_E o) z_st z_vo z_he z_ns z_nm z_sl z_pa z_tr z_td z_ha z_cc z_fi z_wa z_se z_lo z_im z_ls z_lk z_lt z_ly z_ln z_nu s.1 s.2.1 z_wn s.2.2 z_go z_mk z_mf z_mt z_mn)
    (fun i s => vh_H s.1 (fun k => if k % 3 < i ∧ h k = t then 4 else h k) ∧ vh_W s.2.1 (fun t' k => if t' = t ∧ k % 3 < i then false else w t' k) ∧ ∀ j, j < 12 → s.2.2 j = if j / 3 = t ∧ j % 3 < i then 0 else z_pr j)
    3 0 (z_ho, z_wk, z_pr) (by omega) ⟨vh_Hc hh (fun k hk => if_neg (by omega)), vh_Wg hw (fun t ht k hk => if_neg (by omega)), fun j hj => (if_neg (by omega)).symm⟩ ?_ ?_
  · rintro n ⟨b8, b9, b11⟩ ⟨h8, h9, h11⟩
    dsimp only at h8 h9 h11
    show wX_rollBack_2 post (nI t) (n + 1) (nI 3) (oc_E o) z_st z_vo z_he z_ns z_nm z_sl z_pa z_tr z_td z_ha z_cc z_fi z_wa z_se z_lo z_im z_ls z_lk z_lt z_ly z_ln z_nu b8 b9 z_wn b11 z_go z_mk z_mf z_mt z_mn
    refine pk_le 3 3 (fun _ => nm_r (oc_clr o ht) ?_) (fun z => absurd z (by omega))
    refine H b8 b9 b11 (vh_Hc h8 (fun k hk => ?_)) (vh_Wg h9 (fun t' ht' k hk => ?_)) (fun j hj => ?_)
    · unfold hr_a
      exact ic_c ⟨fun z => ⟨by omega, z⟩, fun z => z.2⟩
    · unfold wr_a
      exact ic_c ⟨fun z => ⟨z, by omega⟩, fun z => z.1⟩
    · rw [h11 j hj]
      exact (ic_c ⟨fun z => ⟨z, by omega⟩, fun z => z.1⟩).symm
  · rintro n i ⟨b8, b9, b11⟩ hi ⟨h8, h9, h11⟩ hn
    dsimp only at h8 h9 h11
    show wX_rollBack_2 post (nI t) (n + 1) (nI i) (oc_E o) z_st z_vo z_he z_ns z_nm z_sl z_pa z_tr z_td z_ha z_cc z_fi z_wa z_se z_lo z_im z_ls z_lk z_lt z_ly z_ln z_nu b8 b9 z_wn b11 z_go z_mk z_mf z_mt z_mn
    refine pk_le 3 i (fun z => absurd z (by omega)) (fun _ => ?_)
    refine ml_releaseOn ht hi h8 h9 (fun c8 c9 g8 g9 => ?_)
    refine nm_r (nI_1 i) (hn (c8, c9, upd b11 (t * 3 + i) 0) ⟨vh_Hc g8 (fun k hk => ?_), vh_Wg g9 (fun t' ht' k hk => ?_), fun j hj => ?_⟩)
    · exact rb_h ht
    · exact rb_w
    · exact rb_p h11 hj
/-! ===== begin ===== -/
theorem ml_begin36 {post : Int32 → St1 → Prop} {t : Nat} (ht : t < 4)
    (H : ∀ b11 b12, (∀ j, j < 12 → b11 j = if j / 3 = t then 0 else z_pr j) → (∀ j, j < 12 → b12 j = if j / 3 = t then 0 else z_go j) → post (nI t) (z_op, z_st, z_vo, z_he, z_ns, z_nm, z_sl, z_pa, z_tr, z_td, z_ha, z_cc, z_fi, z_wa, z_se, z_lo, z_im, z_ls, z_lk, z_lt, z_ly, z_ln, z_nu, z_ho, z_wk, z_wn, b11, b12, z_mk, z_mf, z_mt, z_mn)) : ∃ n, wX_begin_36 post (nI t) z_op z_st z_vo z_he z_ns z_nm z_sl z_pa z_tr z_td z_ha z_cc z_fi z_wa z_se z_lo n 0 z_im z_ls z_lk z_lt z_ly z_ln z_nu z_ho z_wk z_wn z_pr z_go z_mk z_mf z_mt z_mn := by
  refine pk_loop (σ := (Nat → Int32) × (Nat → Int32)) (fun n i s => wX_begin_36 post (nI t) z_op z_st z_vo z_he z_ns z_nm z_sl z_pa z_tr z_td z_ha z_cc z_fi z_wa z_se z_lo n (nI i) z_im z_ls z_lk z_lt z_ly z_ln z_nu z_ho z_wk z_wn s.1 s.2 z_mk z_mf z_mt z_mn)
    (fun i s => (∀ j, j < 12 → s.1 j = if j / 3 = t ∧ j % 3 < i then 0 else z_pr j) ∧ (∀ j, j < 12 → s.2 j = if j / 3 = t ∧ j % 3 < i then 0 else z_go j))
    3 0 (z_pr, z_go) (by omega) ⟨fun j hj => (if_neg (by omega)).symm, fun j hj => (if_neg (by omega)).symm⟩ ?_ ?_
  · rintro n ⟨b11, b12⟩ ⟨h11, h12⟩
    dsimp only at h11 h12
    show wX_begin_36 post (nI t) z_op z_st z_vo z_he z_ns z_nm z_sl z_pa z_tr z_td z_ha z_cc z_fi z_wa z_se z_lo (n + 1) (nI 3) z_im z_ls z_lk z_lt z_ly z_ln z_nu z_ho z_wk z_wn b11 b12 z_mk z_mf z_mt z_mn
    refine pk_le 3 3 (fun _ => ?_) (fun z => absurd z (by omega))
    refine H b11 b12 (fun j hj => ?_) (fun j hj => ?_)
    · rw [h11 j hj]
      exact (ic_c ⟨fun z => ⟨z, by omega⟩, fun z => z.1⟩).symm
    · rw [h12 j hj]
      exact (ic_c ⟨fun z => ⟨z, by omega⟩, fun z => z.1⟩).symm
  · rintro n i ⟨b11, b12⟩ hi ⟨h11, h12⟩ hn
    dsimp only at h11 h12
    show wX_begin_36 post (nI t) z_op z_st z_vo z_he z_ns z_nm z_sl z_pa z_tr z_td z_ha z_cc z_fi z_wa z_se z_lo (n + 1) (nI i) z_im z_ls z_lk z_lt z_ly z_ln z_nu z_ho z_wk z_wn b11 b12 z_mk z_mf z_mt z_mn
    refine pk_le 3 i (fun z => absurd z (by omega)) (fun _ => ⟨pk_in (t * 3 + i) 12 (by omega) (ix_3 t i), ?_⟩)
    intro c11 e11
    refine ⟨pk_in (t * 3 + i) 12 (by omega) (ix_3 t i), ?_⟩
    intro c12 e12
    rw [ix_3, nI_clamp (by omega)] at e11 e12
    subst e11 e12
    refine nm_r (nI_1 i) (hn (_, _) ⟨fun j hj => ?_, fun j hj => ?_⟩)
    · exact rb_p h11 hj
    · exact rb_p h12 hj
theorem tb_zero : ∀ k, k < 32 → tb_t 0 k = false := by decide +kernel
theorem ml_begin {post : Int32 → St1 → Prop} {o : Nat → Bool} {w : Nat → Nat → Bool} (ho : z_op = oc_E o) (hw : vh_W z_wk w)
    (H0 : (∀ t, t < 4 → o t = true) → post (-200000) (z_op, z_st, z_vo, z_he, z_ns, z_nm, z_sl, z_pa, z_tr, z_td, z_ha, z_cc, z_fi, z_wa, z_se, z_lo, z_im, z_ls, z_lk, z_lt, z_ly, z_ln, z_nu, z_ho, z_wk, z_wn, z_pr, z_go, z_mk, z_mf, z_mt, z_mn))
    (H1 : ∀ t, t < 4 → (∀ t', t' < t → o t' = true) → o t = false → ∀ b9 b11 b12, vh_W b9 (wr_a w t) → (∀ j, j < 12 → b11 j = if j / 3 = t then 0 else z_pr j) → (∀ j, j < 12 → b12 j = if j / 3 = t then 0 else z_go j) →
      post (nI t) (oc_E (oc_up o t true), z_st, z_vo, z_he, z_ns, z_nm, z_sl, z_pa, z_tr, z_td, z_ha, z_cc, z_fi, z_wa, z_se, z_lo, z_im, z_ls, z_lk, z_lt, z_ly, z_ln, z_nu, z_ho, b9, z_wn, b11, b12, z_mk, z_mf, z_mt, z_mn)) : wpX_begin post (z_op, z_st, z_vo, z_he, z_ns, z_nm, z_sl, z_pa, z_tr, z_td, z_ha, z_cc, z_fi, z_wa, z_se, z_lo, z_im, z_ls, z_lk, z_lt, z_ly, z_ln, z_nu, z_ho, z_wk, z_wn, z_pr, z_go, z_mk, z_mf, z_mt, z_mn) := by
  subst ho
  refine pk_loop (σ := Unit) (fun n i _ => wX_begin_2 post (oc_E o) z_st z_vo z_he z_ns z_nm z_sl z_pa z_tr z_td z_ha z_cc z_fi z_wa z_se z_lo z_im z_ls z_lk z_lt z_ly z_ln z_nu z_ho z_wk z_wn z_pr z_go z_mk z_mf z_mt z_mn n (nI i))
    (fun i _ => ∀ t, t < i → o t = true) 4 0 () (by omega) (fun t ht => absurd ht (by omega)) ?_ ?_
  · intro n _ hI
    exact pk_le 4 4 (fun _ => H0 hI) (fun z => absurd z (by omega))
  · intro n i _ hi hI hn
    refine pk_le 4 i (fun z => absurd z (by omega)) (fun _ => ?_)
    refine ml_isOpen (o := o) hi rfl (fun e => br_t rfl ?_) (fun e => br_f (by decide) (nm_r (nI_1 i) (hn () (fun t ht => ?_))))
    · refine nm_r (oc_set o hi) ⟨pk_in i 4 hi, ?_⟩
      intro b9 e9
      rw [nI_clamp (by omega)] at e9
      have h9 : vh_W b9 (wr_a w i) := by
        subst e9
        intro t' ht' k hk
        unfold wr_a
        by_cases e1 : t' = i
        · rw [e1, pk_us, if_pos rfl]
          exact tb_zero k (by omega)
        · rw [pk_un e1, if_neg e1]
          exact hw t' ht' k hk
      exact ml_begin36 hi (fun b11 b12 h11 h12 => H1 i hi hI e b9 b11 b12 h9 h11 h12)
    · rcases Nat.lt_or_ge t i with z | z
      · exact hI t z
      · rw [show t = i by omega]
        exact e
/-! ===== sums, holders, keys ===== -/
def ts_a (f : Nat → Int32) : Nat → Int32
  | 0 => 0
  | n + 1 => ts_a f n + f n
def ts_m (f : Nat → Int32) (m : Nat) : Nat → Int32
  | 0 => 0
  | n + 1 => ts_m f m n + f (m + 3 * n)
theorem ml_total {post : Int32 → Prop} (H : post (ts_a z_nu 12)) : wpX_total post (z_op, z_st, z_vo, z_he, z_ns, z_nm, z_sl, z_pa, z_tr, z_td, z_ha, z_cc, z_fi, z_wa, z_se, z_lo, z_im, z_ls, z_lk, z_lt, z_ly, z_ln, z_nu, z_ho, z_wk, z_wn, z_pr, z_go, z_mk, z_mf, z_mt, z_mn) := by
  refine pk_loop (σ := Int32) (fun n i s => wX_total_4 post z_op z_st z_vo z_he z_ns z_nm z_sl z_pa z_tr z_td z_ha z_cc z_fi z_wa z_se z_lo z_im z_ls z_lk z_lt z_ly z_ln z_nu z_ho z_wk z_wn z_pr z_go z_mk z_mf z_mt z_mn n s (nI i)) (fun i s => s = ts_a z_nu i) 12 0 0 (by omega) rfl ?_ ?_
  · rintro n s rfl
    exact pk_le 12 12 (fun _ => H) (fun z => absurd z (by omega))
  · rintro n i s hi rfl hn
    refine pk_le 12 i (fun z => absurd z (by omega)) (fun _ => ⟨pk_in i 12 hi, nm_e (nm_r (nI_1 i) (hn _ ?_))⟩)
    rw [nI_clamp (by omega)]
    rfl
theorem ml_sum {post : Int32 → Prop} {m : Nat} (hm : m < 3) (H : post (ts_m z_nu m 4)) : wpX_sum post (z_op, z_st, z_vo, z_he, z_ns, z_nm, z_sl, z_pa, z_tr, z_td, z_ha, z_cc, z_fi, z_wa, z_se, z_lo, z_im, z_ls, z_lk, z_lt, z_ly, z_ln, z_nu, z_ho, z_wk, z_wn, z_pr, z_go, z_mk, z_mf, z_mt, z_mn) (nI m) := by
  refine br_f (nI_pos (by omega)) (br_t (nI_lt (b := 3) hm (by decide)) ?_)
  refine pk_loop (σ := Int32) (fun n i s => wX_sum_16 post z_op z_st z_vo z_he z_ns z_nm z_sl z_pa z_tr z_td z_ha z_cc z_fi z_wa z_se z_lo z_im z_ls z_lk z_lt z_ly z_ln z_nu z_ho z_wk z_wn z_pr z_go z_mk z_mf z_mt z_mn n s (nI (m + 3 * i))) (fun i s => s = ts_m z_nu m i) 4 0 0 (by omega) rfl ?_ ?_
  · rintro n s rfl
    exact pk_le 12 (m + 3 * 4) (fun _ => H) (fun z => absurd z (by omega))
  · rintro n i s hi rfl hn
    refine pk_le 12 (m + 3 * i) (fun z => absurd z (by omega)) (fun _ => ⟨pk_in (m + 3 * i) 12 (by omega), nm_e (nm_r (ix_p3 _) (hn _ ?_))⟩)
    rw [nI_clamp (by omega)]
    rfl
def hs_i (h : Nat → Nat) (m : Nat) : Nat → Nat → Bool
  | 0, _ => false
  | i + 1, t => hs_i h m i t || decide (h (m + 3 * i) = t)
def hs_a (h : Nat → Nat) (m t : Nat) : Bool := hs_i h m 4 t
theorem hs_iff {h : Nat → Nat} {m t : Nat} (hm : m < 3) : hs_a h m t = true ↔ ∃ k, k < 12 ∧ k % 3 = m ∧ h k = t := by
  unfold hs_a hs_i hs_i hs_i hs_i hs_i
  simp only [Bool.or_eq_true, decide_eq_true_eq, Bool.false_eq_true, false_or]
  constructor
  · rintro (((e | e) | e) | e)
    · exact ⟨m + 3 * 0, by omega, by omega, e⟩
    · exact ⟨m + 3 * 1, by omega, by omega, e⟩
    · exact ⟨m + 3 * 2, by omega, by omega, e⟩
    · exact ⟨m + 3 * 3, by omega, by omega, e⟩
  · rintro ⟨k, h1, h2, h3⟩
    have : k = m + 3 * 0 ∨ k = m + 3 * 1 ∨ k = m + 3 * 2 ∨ k = m + 3 * 3 := by omega
    rcases this with e | e | e | e
    · subst e; exact Or.inl (Or.inl (Or.inl h3))
    · subst e; exact Or.inl (Or.inl (Or.inr h3))
    · subst e; exact Or.inl (Or.inr h3)
    · subst e; exact Or.inr h3
theorem ml_holdersOn {post : Int32 → Prop} {h : Nat → Nat} {m : Nat} (hm : m < 3) (hh : vh_H z_ho h) (H : post (oc_E (hs_a h m))) : wpX_holdersOn post (z_op, z_st, z_vo, z_he, z_ns, z_nm, z_sl, z_pa, z_tr, z_td, z_ha, z_cc, z_fi, z_wa, z_se, z_lo, z_im, z_ls, z_lk, z_lt, z_ly, z_ln, z_nu, z_ho, z_wk, z_wn, z_pr, z_go, z_mk, z_mf, z_mt, z_mn) (nI m) := by
  refine pk_loop (σ := Int32) (fun n i s => wX_holdersOn_4 post z_op z_st z_vo z_he z_ns z_nm z_sl z_pa z_tr z_td z_ha z_cc z_fi z_wa z_se z_lo z_im z_ls z_lk z_lt z_ly z_ln z_nu z_ho z_wk z_wn z_pr z_go z_mk z_mf z_mt z_mn n s (nI (m + 3 * i))) (fun i s => s = oc_E (hs_i h m i)) 4 0 0 (by omega) rfl ?_ ?_
  · rintro n s rfl
    exact pk_le 12 (m + 3 * 4) (fun _ => H) (fun z => absurd z (by omega))
  · rintro n i s hi rfl hn
    obtain ⟨h5, e⟩ := hh (m + 3 * i) (by omega)
    have e' : z_ho (nI (m + 3 * i)).toNatClampNeg = hc_E (h (m + 3 * i)) := by rw [nI_clamp (by omega)]; exact e
    have g1 : z_ho (nI (m + 3 * i)).toNatClampNeg = -1 ↔ h (m + 3 * i) = 4 := by rw [e']; exact hc_m1 _ h5
    refine pk_le 12 (m + 3 * i) (fun z => absurd z (by omega)) (fun _ => ⟨pk_in (m + 3 * i) 12 (by omega), rd_if g1 (fun z => ?_) (fun z => ⟨pk_in (m + 3 * i) 12 (by omega), ?_⟩)⟩)
    · refine nm_e (nm_r (ix_p3 _) (hn _ ?_))
      rw [show oc_E (hs_i h m i) ||| 0 = oc_E (hs_i h m i) from Int32.or_zero]
      refine oc_ext (fun t ht => ?_)
      unfold hs_i
      rw [z, decide_eq_false (by omega), Bool.or_false]
      cases i <;> rfl
    · have h4 : h (m + 3 * i) < 4 := by omega
      refine nm_e (nm_r (ix_p3 _) (hn _ ?_))
      rw [e', hc_lt _ h4, oc_set _ h4]
      refine oc_ext (fun t ht => ?_)
      unfold oc_up
      by_cases e1 : t = h (m + 3 * i)
      · rw [if_pos e1, hs_i, decide_eq_true e1.symm, Bool.or_true]
      · rw [if_neg e1, show hs_i h m (i + 1) t = (hs_i h m i t || decide (h (m + 3 * i) = t)) from rfl, decide_eq_false (fun z => e1 z.symm), Bool.or_false]
theorem ml_keys {post : Int32 → Prop} {o : Nat → Bool} {h : Nat → Nat} {t : Nat} (ht : t < 4) (ho : z_op = oc_E o) (hh : vh_H z_ho h) (H : ∀ x, (∀ k, k < 12 → tb_t x k = (o t && decide (h k = t))) → post x) : wpX_keys post (z_op, z_st, z_vo, z_he, z_ns, z_nm, z_sl, z_pa, z_tr, z_td, z_ha, z_cc, z_fi, z_wa, z_se, z_lo, z_im, z_ls, z_lk, z_lt, z_ly, z_ln, z_nu, z_ho, z_wk, z_wn, z_pr, z_go, z_mk, z_mf, z_mt, z_mn) (nI t) := by
  unfold wpX_keys
  refine ml_isOpen ht ho (fun e => br_t rfl (H 0 (fun k hk => by rw [e, tb_zero k (by omega)]; rfl))) (fun e => br_f (by decide) ?_)
  refine pk_loop (σ := Int32) (fun n i s => wX_keys_14 post (nI t) z_op z_st z_vo z_he z_ns z_nm z_sl z_pa z_tr z_td z_ha z_cc z_fi z_wa z_se z_lo z_im z_ls z_lk z_lt z_ly z_ln z_nu z_ho z_wk z_wn z_pr z_go z_mk z_mf z_mt z_mn n s (nI i)) (fun i s => ∀ k, k < 12 → tb_t s k = (decide (k < i) && decide (h k = t))) 12 0 0 (by omega) (fun k hk => by rw [tb_zero k (by omega)]; rfl) ?_ ?_
  · intro n s hs
    refine pk_le 12 12 (fun _ => H s (fun k hk => ?_)) (fun z => absurd z (by omega))
    rw [hs k hk, e, decide_eq_true hk]
  · intro n i s hi hs hn
    obtain ⟨h5, e5⟩ := hh i hi
    have e' : z_ho (nI i).toNatClampNeg = hc_E (h i) := by rw [nI_clamp (by omega)]; exact e5
    have g2 : z_ho (nI i).toNatClampNeg = nI t ↔ h i = t := by rw [e']; exact hc_eq _ h5 _ ht
    refine pk_le 12 i (fun z => absurd z (by omega)) (fun _ => ⟨pk_in i 12 hi, rd_if g2 (fun z => nm_e (nm_r (nI_1 i) (hn _ (fun k hk => ?_)))) (fun z => nm_e (nm_r (nI_1 i) (hn _ (fun k hk => ?_))))⟩)
    · rw [tb_or, hs k hk, tb_one i (by omega) k (by omega)]
      by_cases e1 : k = i
      · subst e1
        simp [z]
      · by_cases e2 : k < i
        · simp [e1, e2, show k < i + 1 by omega]
        · simp [e1, e2, show ¬ k < i + 1 by omega]
    · rw [show s ||| 0 = s from Int32.or_zero, hs k hk]
      by_cases e1 : k = i
      · subst e1
        simp [z]
      · by_cases e2 : k < i
        · simp [e2, show k < i + 1 by omega]
        · simp [e2, show ¬ k < i + 1 by omega]
def cn_i (h : Nat → Nat) (t : Nat) : Nat → Nat
  | 0 => 0
  | i + 1 => cn_i h t i + (if h i = t then 1 else 0)
theorem cn_le (h : Nat → Nat) (t i : Nat) : cn_i h t i ≤ i := by
  induction i with
  | zero => exact Nat.le_refl 0
  | succ i ih =>
    unfold cn_i
    split <;> omega
theorem ml_abort {post : Int32 → St1 → Prop} {t : Nat} {o : Nat → Bool} {h : Nat → Nat} {w : Nat → Nat → Bool} (ht : t < 4) (ho : z_op = oc_E o) (hh : vh_H z_ho h) (hw : vh_W z_wk w)
    (H0 : o t = false → post (-100000) (z_op, z_st, z_vo, z_he, z_ns, z_nm, z_sl, z_pa, z_tr, z_td, z_ha, z_cc, z_fi, z_wa, z_se, z_lo, z_im, z_ls, z_lk, z_lt, z_ly, z_ln, z_nu, z_ho, z_wk, z_wn, z_pr, z_go, z_mk, z_mf, z_mt, z_mn))
    (H1 : o t = true → ∀ b8 b9 b11, vh_H b8 (hr_a h t) → vh_W b9 (wr_a w t) → (∀ j, j < 12 → b11 j = if j / 3 = t then 0 else z_pr j) → post (nI (cn_i h t 12)) (oc_E (oc_up o t false), z_st, z_vo, z_he, z_ns, z_nm, z_sl, z_pa, z_tr, z_td, z_ha, z_cc, z_fi, z_wa, z_se, z_lo, z_im, z_ls, z_lk, z_lt, z_ly, z_ln, z_nu, b8, b9, z_wn, b11, z_go, z_mk, z_mf, z_mt, z_mn)) : wpX_abort post (z_op, z_st, z_vo, z_he, z_ns, z_nm, z_sl, z_pa, z_tr, z_td, z_ha, z_cc, z_fi, z_wa, z_se, z_lo, z_im, z_ls, z_lk, z_lt, z_ly, z_ln, z_nu, z_ho, z_wk, z_wn, z_pr, z_go, z_mk, z_mf, z_mt, z_mn) (nI t) := by
  unfold wpX_abort
  refine ml_isOpen ht ho (fun e => br_t rfl (H0 e)) (fun e => br_f (by decide) ?_)
  refine pk_loop (σ := Int32) (fun n i s => wX_abort_15 post (nI t) z_op z_st z_vo z_he z_ns z_nm z_sl z_pa z_tr z_td z_ha z_cc z_fi z_wa z_se z_lo z_im z_ls z_lk z_lt z_ly z_ln z_nu z_ho z_wk z_wn z_pr z_go z_mk z_mf z_mt z_mn n s (nI i)) (fun i s => s = nI (cn_i h t i)) 12 0 0 (by omega) rfl ?_ ?_
  · rintro n s rfl
    refine pk_le 12 12 (fun _ => ?_) (fun z => absurd z (by omega))
    exact ml_rollBack ht ho hh hw (fun b8 b9 b11 h8 h9 h11 => H1 e b8 b9 b11 h8 h9 h11)
  · rintro n i s hi rfl hn
    obtain ⟨h5, e5⟩ := hh i hi
    have e' : z_ho (nI i).toNatClampNeg = hc_E (h i) := by rw [nI_clamp (by omega)]; exact e5
    have g2 : z_ho (nI i).toNatClampNeg = nI t ↔ h i = t := by rw [e']; exact hc_eq _ h5 _ ht
    refine pk_le 12 i (fun z => absurd z (by omega)) (fun _ => ⟨pk_in i 12 hi, rd_if g2 (fun z => nm_e (nm_r (nI_1 i) (hn _ ?_))) (fun z => nm_e (nm_r (nI_1 i) (hn _ ?_)))⟩)
    · rw [nI_1, cn_i, if_pos z]
    · rw [show nI (cn_i h t i) + 0 = nI (cn_i h t i) from Int32.add_zero _, cn_i, if_neg z]
      rfl
end REL
end
section
/-! ===== a log: one pass, the replay, what is in doubt ===== -/
def pl_v (lk lt ly ln : Nat → Int32) (b : Nat) (x : Int32) (k : Nat) : Nat → Int32 → Int32
  | 0, v => v
  | n + 1, v => if lk (b + n) = 1 ∧ lt (b + n) = x ∧ ly (b + n) = nI k then ln (b + n) else pl_v lk lt ly ln b x k n v
def pl_r (lk lt ly ln : Nat → Int32) (b N k : Nat) : Nat → Int32 → Int32
  | 0, v => v
  | n + 1, v => if lk (b + n) = 3 then pl_v lk lt ly ln b (lt (b + n)) k N (pl_r lk lt ly ln b N k n v) else pl_r lk lt ly ln b N k n v
def pl_o (lk lt : Nat → Int32) (b : Nat) : Nat → Int32
  | 0 => 0
  | n + 1 => if lk (b + n) = 2 then lt (b + n) else if lk (b + n) = 3 then 0 else if lk (b + n) = 4 then 0 else pl_o lk lt b n
def pl_e (lk lt ly : Nat → Int32) (b : Nat) (x : Int32) (k : Nat) : Nat → Bool
  | 0 => false
  | n + 1 => pl_e lk lt ly b x k n || decide (lk (b + n) = 1 ∧ lt (b + n) = x ∧ ly (b + n) = nI k)
theorem pl_v_none {lk lt ly ln : Nat → Int32} {b k : Nat} {x : Int32} : ∀ n v, (∀ i, i < n → lk (b + i) = 1 → ly (b + i) ≠ nI k) → pl_v lk lt ly ln b x k n v = v := by
  intro n
  induction n with
  | zero => intro v _; rfl
  | succ n ih =>
    intro v h
    unfold pl_v
    rw [if_neg (fun z => h n (by omega) z.1 z.2.2)]
    exact ih v (fun i hi => h i (by omega))
theorem pl_e_iff {lk lt ly : Nat → Int32} {b k : Nat} {x : Int32} : ∀ n, pl_e lk lt ly b x k n = true ↔ ∃ i, i < n ∧ lk (b + i) = 1 ∧ lt (b + i) = x ∧ ly (b + i) = nI k := by
  intro n
  induction n with
  | zero => exact ⟨fun z => absurd z Bool.false_ne_true, fun ⟨i, h, _⟩ => absurd h (by omega)⟩
  | succ n ih =>
    unfold pl_e
    rw [Bool.or_eq_true, ih, decide_eq_true_eq]
    constructor
    · rintro (⟨i, h, g⟩ | g)
      · exact ⟨i, by omega, g⟩
      · exact ⟨n, by omega, g⟩
    · rintro ⟨i, h, g⟩
      rcases Nat.lt_or_ge i n with z | z
      · exact Or.inl ⟨i, z, g⟩
      · have : i = n := by omega
        subst this
        exact Or.inr g
/-- what a pass gives for a key: the written number where one is written -/
theorem pl_v_val {lk lt ly ln : Nat → Int32} {b k : Nat} {x c : Int32} : ∀ n v, (∀ i, i < n → lk (b + i) = 1 → lt (b + i) = x → ly (b + i) = nI k → ln (b + i) = c) → pl_v lk lt ly ln b x k n v = if pl_e lk lt ly b x k n = true then c else v := by
  intro n
  induction n with
  | zero => intro v _; exact (if_neg Bool.false_ne_true).symm
  | succ n ih =>
    intro v h
    unfold pl_v pl_e
    by_cases g : lk (b + n) = 1 ∧ lt (b + n) = x ∧ ly (b + n) = nI k
    · rw [if_pos g, decide_eq_true g, Bool.or_true, if_pos rfl]
      exact h n (by omega) g.1 g.2.1 g.2.2
    · rw [if_neg g, decide_eq_false g, Bool.or_false]
      exact ih v (fun i hi => h i (by omega))
section LOGS
variable {lk lt ly ln lk' lt' ly' ln' : Nat → Int32} {b k n : Nat} {x : Int32}
theorem pl_v_eq : ∀ n v, (∀ i, i < n → lk' (b + i) = lk (b + i) ∧ lt' (b + i) = lt (b + i) ∧ ly' (b + i) = ly (b + i) ∧ ln' (b + i) = ln (b + i)) → pl_v lk' lt' ly' ln' b x k n v = pl_v lk lt ly ln b x k n v := by
  intro n
  induction n with
  | zero => intro v _; rfl
  | succ n ih =>
    intro v h
    unfold pl_v
    obtain ⟨h1, h2, h3, h4⟩ := h n (by omega)
    rw [h1, h2, h3, h4, ih v (fun i hi => h i (by omega))]
theorem pl_e_eq : ∀ n, (∀ i, i < n → lk' (b + i) = lk (b + i) ∧ lt' (b + i) = lt (b + i) ∧ ly' (b + i) = ly (b + i) ∧ ln' (b + i) = ln (b + i)) → pl_e lk' lt' ly' b x k n = pl_e lk lt ly b x k n := by
  intro n
  induction n with
  | zero => intro _; rfl
  | succ n ih =>
    intro h
    unfold pl_e
    obtain ⟨h1, h2, h3, h4⟩ := h n (by omega)
    rw [h1, h2, h3, ih (fun i hi => h i (by omega))]
theorem pl_o_eq : ∀ n, (∀ i, i < n → lk' (b + i) = lk (b + i) ∧ lt' (b + i) = lt (b + i) ∧ ly' (b + i) = ly (b + i) ∧ ln' (b + i) = ln (b + i)) → pl_o lk' lt' b n = pl_o lk lt b n := by
  intro n
  induction n with
  | zero => intro _; rfl
  | succ n ih =>
    intro h
    unfold pl_o
    obtain ⟨h1, h2, h3, h4⟩ := h n (by omega)
    rw [h1, h2, ih (fun i hi => h i (by omega))]
theorem pl_r_eq {N N' : Nat} : ∀ n v, (∀ i, i < n → lk' (b + i) = lk (b + i) ∧ lt' (b + i) = lt (b + i) ∧ ly' (b + i) = ly (b + i) ∧ ln' (b + i) = ln (b + i)) →
    (∀ i, i < n → lk (b + i) = 3 → ∀ v, pl_v lk' lt' ly' ln' b (lt (b + i)) k N' v = pl_v lk lt ly ln b (lt (b + i)) k N v) → pl_r lk' lt' ly' ln' b N' k n v = pl_r lk lt ly ln b N k n v := by
  intro n
  induction n with
  | zero => intro v _ _; rfl
  | succ n ih =>
    intro v h g
    unfold pl_r
    obtain ⟨h1, h2, h3, h4⟩ := h n (by omega)
    rw [h1, h2, ih v (fun i hi => h i (by omega)) (fun i hi => g i (by omega))]
    by_cases e : lk (b + n) = 3
    · rw [if_pos e, if_pos e, g n (by omega) e]
    · rw [if_neg e, if_neg e]
/-- one entry more: the replay of what stood there is as it was -/
theorem pl_r_more (h : ∀ i, i < n → lk' (b + i) = lk (b + i) ∧ lt' (b + i) = lt (b + i) ∧ ly' (b + i) = ly (b + i) ∧ ln' (b + i) = ln (b + i))
    (g : lk' (b + n) ≠ 1 ∨ ∀ i, i < n → lk (b + i) = 3 → lt (b + i) ≠ lt' (b + n)) (v : Int32) : pl_r lk' lt' ly' ln' b (n + 1) k n v = pl_r lk lt ly ln b n k n v := by
  refine pl_r_eq n v h (fun i hi e v => ?_)
  unfold pl_v
  rw [if_neg, pl_v_eq n v h]
  · cases n <;> rfl
  · rintro ⟨z1, z2, z3⟩
    rcases g with g | g
    · exact g z1
    · exact g i hi e z2.symm
end LOGS
/-! ===== log, isLogged, applyLogged ===== -/
section LOGM
variable {z_op z_st z_vo z_he z_ns z_nm z_sl z_pa z_tr z_td z_ha z_cc z_fi z_wa z_se z_lo : Int32} {z_im z_ls z_lk z_lt z_ly z_ln z_nu z_ho z_wk z_wn z_pr z_go z_mk z_mf z_mt z_mn : Nat → Int32}
theorem ml_log {post : St1 → Prop} {tx nm : Int32} (m n kd ky : Nat) (hm : m < 4) (hn : n < 64) (hkd : kd < 100) (hky : ky < 100) (hls : z_ls m = nI n) (H : post (z_op, z_st, z_vo, z_he, z_ns, z_nm, z_sl, z_pa, z_tr, z_td, z_ha, z_cc, z_fi, z_wa, z_se, z_lo, z_im, upd z_ls m (nI (n + 1)), upd z_lk (m * 64 + n) (nI kd), upd z_lt (m * 64 + n) tx, upd z_ly (m * 64 + n) (nI ky), upd z_ln (m * 64 + n) nm, z_nu, z_ho, z_wk, z_wn, z_pr, z_go, z_mk, z_mf, z_mt, z_mn)) : wpX_log post (z_op, z_st, z_vo, z_he, z_ns, z_nm, z_sl, z_pa, z_tr, z_td, z_ha, z_cc, z_fi, z_wa, z_se, z_lo, z_im, z_ls, z_lk, z_lt, z_ly, z_ln, z_nu, z_ho, z_wk, z_wn, z_pr, z_go, z_mk, z_mf, z_mt, z_mn) (nI m) (nI kd) tx (nI ky) nm := by
  have hls' : z_ls (nI m).toNatClampNeg = nI n := by rw [nI_clamp (by omega)]; exact hls
  refine ⟨pk_in m 4 hm, ?_⟩
  intro x6 e6
  rw [hls', ix_64, nI_add] at e6
  subst e6
  refine ⟨pk_in (m * 64 + n) 256 (by omega), ?_⟩
  intro b3 e3
  refine ⟨pk_in (m * 64 + n) 256 (by omega), ?_⟩
  intro b4 e4
  refine ⟨pk_in (m * 64 + n) 256 (by omega), ?_⟩
  intro b5 e5
  refine ⟨pk_in (m * 64 + n) 256 (by omega), ?_⟩
  intro b6 e6
  refine ⟨pk_in m 4 hm, pk_in m 4 hm, ?_⟩
  intro b2 e2
  rw [nI_clamp (by omega)] at e3 e4 e5 e6
  rw [hls', nI_clamp (by omega), nI_1] at e2
  rw [hc_b kd hkd] at e3
  rw [hc_b ky hky] at e5
  subst e2 e3 e4 e5 e6
  exact H
theorem ml_isLogged {post : Int32 → Prop} {kd x : Int32} (m n : Nat) (hm : m < 4) (hn : n ≤ 64) (hls : z_ls m = nI n) (H1 : (∃ i, i < n ∧ z_lk (m * 64 + i) = kd ∧ z_lt (m * 64 + i) = x) → post 1) (H0 : (¬ ∃ i, i < n ∧ z_lk (m * 64 + i) = kd ∧ z_lt (m * 64 + i) = x) → post 0) : wpX_isLogged post (z_op, z_st, z_vo, z_he, z_ns, z_nm, z_sl, z_pa, z_tr, z_td, z_ha, z_cc, z_fi, z_wa, z_se, z_lo, z_im, z_ls, z_lk, z_lt, z_ly, z_ln, z_nu, z_ho, z_wk, z_wn, z_pr, z_go, z_mk, z_mf, z_mt, z_mn) (nI m) kd x := by
  have hls' : nI m * 64 + z_ls (nI m).toNatClampNeg = nI (m * 64 + n) := by rw [nI_clamp (by omega), ix_64, show z_ls m = nI n from hls, nI_add]
  intro x4 e4
  rw [ix_64] at e4
  subst e4
  refine pk_loop (σ := Unit) (fun f i _ => wX_isLogged_6 post (nI m) kd x z_op z_st z_vo z_he z_ns z_nm z_sl z_pa z_tr z_td z_ha z_cc z_fi z_wa z_se z_lo z_im z_ls z_lk z_lt z_ly z_ln z_nu z_ho z_wk z_wn z_pr z_go z_mk z_mf z_mt z_mn f (nI (m * 64 + i))) (fun i _ => ∀ j, j < i → ¬ (z_lk (m * 64 + j) = kd ∧ z_lt (m * 64 + j) = x)) n 0 () (by omega) (fun j hj => absurd hj (by omega)) ?_ ?_
  · intro f _ hI
    refine ⟨pk_in m 4 hm, pk_le (m * 64 + n) (m * 64 + n) (fun _ => H0 ?_) (fun z => absurd z (by omega)) hls'⟩
    rintro ⟨i, hi, g⟩
    exact hI i hi g
  · intro f i _ hi hI hn
    refine ⟨pk_in m 4 hm, pk_le (m * 64 + n) (m * 64 + i) (fun z => absurd z (by omega)) (fun _ => ⟨pk_in (m * 64 + i) 256 (by omega), ?_⟩) hls'⟩
    have ec : (nI (m * 64 + i)).toNatClampNeg = m * 64 + i := nI_clamp (by omega)
    refine br_c (fun z1 => ⟨pk_in (m * 64 + i) 256 (by omega), br_c (fun z2 => H1 ⟨i, hi, ?_, ?_⟩) (fun z2 => nm_r (nI_1 _) (hn () (fun j hj => ?_)))⟩) (fun z1 => nm_r (nI_1 _) (hn () (fun j hj => ?_)))
    · rw [ec] at z1; exact z1
    · rw [ec] at z2; exact z2
    · rw [ec] at z2
      rcases Nat.lt_or_ge j i with q | q
      · exact hI j q
      · rw [show j = i by omega]
        exact fun y => z2 y.2
    · rw [ec] at z1
      rcases Nat.lt_or_ge j i with q | q
      · exact hI j q
      · rw [show j = i by omega]
        exact fun y => z1 y.1
theorem ml_apply {post : St1 → Prop} {x : Int32} (m n : Nat) (hm : m < 3) (hn : n ≤ 64) (hls : z_ls m = nI n) (hky : ∀ i, i < n → z_lk (m * 64 + i) = 1 → ∃ k, k < 12 ∧ z_ly (m * 64 + i) = nI k)
    (H : ∀ b7, (∀ k, k < 12 → b7 k = pl_v z_lk z_lt z_ly z_ln (m * 64) x k n (z_nu k)) → post (z_op, z_st, z_vo, z_he, z_ns, z_nm, z_sl, z_pa, z_tr, z_td, z_ha, z_cc, z_fi, z_wa, z_se, z_lo, z_im, z_ls, z_lk, z_lt, z_ly, z_ln, b7, z_ho, z_wk, z_wn, z_pr, z_go, z_mk, z_mf, z_mt, z_mn)) : wpX_applyLogged post (z_op, z_st, z_vo, z_he, z_ns, z_nm, z_sl, z_pa, z_tr, z_td, z_ha, z_cc, z_fi, z_wa, z_se, z_lo, z_im, z_ls, z_lk, z_lt, z_ly, z_ln, z_nu, z_ho, z_wk, z_wn, z_pr, z_go, z_mk, z_mf, z_mt, z_mn) (nI m) x := by
  have hls' : nI m * 64 + z_ls (nI m).toNatClampNeg = nI (m * 64 + n) := by rw [nI_clamp (by omega), ix_64, show z_ls m = nI n from hls, nI_add]
  intro x3 e3
  rw [ix_64] at e3
  subst e3
  refine pk_loop (σ := Nat → Int32) (fun f i s => wX_applyLogged_5 post (nI m) x z_op z_st z_vo z_he z_ns z_nm z_sl z_pa z_tr z_td z_ha z_cc z_fi z_wa z_se z_lo f (nI (m * 64 + i)) z_im z_ls z_lk z_lt z_ly z_ln s z_ho z_wk z_wn z_pr z_go z_mk z_mf z_mt z_mn) (fun i s => ∀ k, k < 12 → s k = pl_v z_lk z_lt z_ly z_ln (m * 64) x k i (z_nu k)) n 0 z_nu (by omega) (fun k hk => rfl) ?_ ?_
  · intro f b7 h7
    exact ⟨pk_in m 4 (by omega), pk_le (m * 64 + n) (m * 64 + n) (fun _ => H b7 h7) (fun z => absurd z (by omega)) hls'⟩
  · intro f i b7 hi h7 hw
    have ec : (nI (m * 64 + i)).toNatClampNeg = m * 64 + i := nI_clamp (by omega)
    have hin : vp_in (nI (m * 64 + i)) 256 := pk_in (m * 64 + i) 256 (by omega)
    have keep : ¬ (z_lk (m * 64 + i) = 1 ∧ z_lt (m * 64 + i) = x) → wX_applyLogged_5 post (nI m) x z_op z_st z_vo z_he z_ns z_nm z_sl z_pa z_tr z_td z_ha z_cc z_fi z_wa z_se z_lo f (nI (m * 64 + (i + 1))) z_im z_ls z_lk z_lt z_ly z_ln b7 z_ho z_wk z_wn z_pr z_go z_mk z_mf z_mt z_mn := by
      intro q
      refine hw b7 (fun k hk => ?_)
      unfold pl_v
      rw [if_neg (fun y => q ⟨y.1, y.2.1⟩)]
      exact h7 k hk
    refine ⟨pk_in m 4 (by omega), pk_le (m * 64 + n) (m * 64 + i) (fun z => absurd z (by omega)) (fun _ => ⟨hin, ?_⟩) hls'⟩
    refine br_c (fun z1 => ⟨hin, br_c (fun z2 => ⟨hin, hin, ?_⟩) (fun z2 => nm_r (nI_1 _) (keep (fun q => ?_)))⟩) (fun z1 => nm_r (nI_1 _) (keep (fun q => ?_)))
    · have z1' : z_lk (m * 64 + i) = 1 := by rw [ec] at z1; exact z1
      have z2' : z_lt (m * 64 + i) = x := by rw [ec] at z2; exact z2
      obtain ⟨k, hk, ek⟩ := hky i hi z1'
      have ek' : z_ly (nI (m * 64 + i)).toNatClampNeg = nI k := by rw [ec]; exact ek
      refine ⟨pk_in k 12 hk ek', ?_⟩
      intro c7 e7
      refine nm_r (nI_1 _) (hw c7 (fun j hj => ?_))
      have e7' : c7 = upd b7 k (z_ln (m * 64 + i)) := by
        refine e7.trans ?_
        show upd b7 (z_ly (nI (m * 64 + i)).toNatClampNeg).toNatClampNeg (z_ln (nI (m * 64 + i)).toNatClampNeg) = _
        rw [ek', ec, nI_clamp (by omega)]
      rw [e7']
      unfold pl_v
      by_cases ej : j = k
      · subst ej
        rw [pk_us, if_pos ⟨z1', z2', ek⟩]
      · have ne : ¬ (z_ly (m * 64 + i) = nI j) := by
          rw [show z_ly (m * 64 + i) = nI k from ek, nI_eq (by omega) (by omega)]
          omega
        rw [pk_un ej, if_neg (fun y => ne y.2.2)]
        exact h7 j hj
    · rw [ec] at z2; exact z2 q.2
    · rw [ec] at z1; exact z1 q.1
theorem ml_hold {post : St1 → Prop} {x : Int32} {h : Nat → Nat} {w : Nat → Nat → Bool} (m n sl : Nat) (hm : m < 3) (hn : n ≤ 64) (hs : sl < 4) (hsl : z_sl = nI sl) (hls : z_ls m = nI n) (hky : ∀ i, i < n → z_lk (m * 64 + i) = 1 → ∃ k, k < 12 ∧ z_ly (m * 64 + i) = nI k)
    (hh : vh_H z_ho h) (hw : vh_W z_wk w)
    (H : ∀ b8 b9 b10, vh_H b8 (fun k => if pl_e z_lk z_lt z_ly (m * 64) x k n = true then sl else h k) → vh_W b9 (fun t k => w t k || (decide (t = sl) && pl_e z_lk z_lt z_ly (m * 64) x k n)) →
      (∀ j, j < 48 → b10 j = if j / 12 = sl then pl_v z_lk z_lt z_ly z_ln (m * 64) x (j % 12) n (z_wn j) else z_wn j) → post (z_op, z_st, z_vo, z_he, z_ns, z_nm, z_sl, z_pa, z_tr, z_td, z_ha, z_cc, z_fi, z_wa, z_se, z_lo, z_im, z_ls, z_lk, z_lt, z_ly, z_ln, z_nu, b8, b9, b10, upd z_pr (sl * 3 + m) x, z_go, z_mk, z_mf, z_mt, z_mn)) : wpX_holdLogged post (z_op, z_st, z_vo, z_he, z_ns, z_nm, z_sl, z_pa, z_tr, z_td, z_ha, z_cc, z_fi, z_wa, z_se, z_lo, z_im, z_ls, z_lk, z_lt, z_ly, z_ln, z_nu, z_ho, z_wk, z_wn, z_pr, z_go, z_mk, z_mf, z_mt, z_mn) (nI m) x := by
  have hls' : nI m * 64 + z_ls (nI m).toNatClampNeg = nI (m * 64 + n) := by rw [nI_clamp (by omega), ix_64, show z_ls m = nI n from hls, nI_add]
  subst hsl
  intro x3 e3
  rw [ix_64] at e3
  subst e3
  refine pk_loop (σ := (Nat → Int32) × (Nat → Int32) × (Nat → Int32)) (fun f i s => wX_holdLogged_5 post (nI m) x f (nI (m * 64 + i)) z_op z_st z_vo z_he z_ns z_nm (nI sl) z_pa z_tr z_td z_ha z_cc z_fi z_wa z_se z_lo z_im z_ls z_lk z_lt z_ly z_ln z_nu s.1 s.2.1 s.2.2 z_pr z_go z_mk z_mf z_mt z_mn)
    (fun i s => vh_H s.1 (fun k => if pl_e z_lk z_lt z_ly (m * 64) x k i = true then sl else h k) ∧ vh_W s.2.1 (fun t k => w t k || (decide (t = sl) && pl_e z_lk z_lt z_ly (m * 64) x k i)) ∧
      ∀ j, j < 48 → s.2.2 j = if j / 12 = sl then pl_v z_lk z_lt z_ly z_ln (m * 64) x (j % 12) i (z_wn j) else z_wn j)
    n 0 (z_ho, z_wk, z_wn) (by omega) ⟨vh_Hc hh (fun k hk => if_neg (by unfold pl_e; decide)), vh_Wg hw (fun t ht k hk => by unfold pl_e; rw [Bool.and_false, Bool.or_false]), fun j hj => by unfold pl_v; split <;> rfl⟩ ?_ ?_
  · rintro f ⟨b8, b9, b10⟩ ⟨h8, h9, h10⟩
    dsimp only at h8 h9 h10
    refine ⟨pk_in m 4 (by omega), pk_le (m * 64 + n) (m * 64 + n) (fun _ => ⟨pk_in (sl * 3 + m) 12 (by omega) (ix_3 sl m), ?_⟩) (fun z => absurd z (by omega)) hls'⟩
    intro b11 e11
    have e11' : b11 = upd z_pr (sl * 3 + m) x := by
      refine e11.trans ?_
      show upd z_pr ((nI sl * 3) + nI m).toNatClampNeg x = _
      rw [ix_3, nI_clamp (by omega)]
    subst e11'
    exact H b8 b9 b10 h8 h9 h10
  · rintro f i ⟨b8, b9, b10⟩ hi ⟨h8, h9, h10⟩ hw
    dsimp only at h8 h9 h10
    have ec : (nI (m * 64 + i)).toNatClampNeg = m * 64 + i := nI_clamp (by omega)
    have hin : vp_in (nI (m * 64 + i)) 256 := pk_in (m * 64 + i) 256 (by omega)
    have keep : ¬ (z_lk (m * 64 + i) = 1 ∧ z_lt (m * 64 + i) = x) → wX_holdLogged_5 post (nI m) x f (nI (m * 64 + (i + 1))) z_op z_st z_vo z_he z_ns z_nm (nI sl) z_pa z_tr z_td z_ha z_cc z_fi z_wa z_se z_lo z_im z_ls z_lk z_lt z_ly z_ln z_nu b8 b9 b10 z_pr z_go z_mk z_mf z_mt z_mn := by
      intro q
      have qe : ∀ k, pl_e z_lk z_lt z_ly (m * 64) x k (i + 1) = pl_e z_lk z_lt z_ly (m * 64) x k i := fun k => by
        show (pl_e z_lk z_lt z_ly (m * 64) x k i || _) = _
        rw [decide_eq_false (fun y => q ⟨y.1, y.2.1⟩), Bool.or_false]
      refine hw (b8, b9, b10) ⟨vh_Hc h8 (fun k hk => by rw [qe k]), vh_Wg h9 (fun t ht k hk => by rw [qe k]), fun j hj => ?_⟩
      dsimp only
      rw [h10 j hj, show pl_v z_lk z_lt z_ly z_ln (m * 64) x (j % 12) (i + 1) (z_wn j) = pl_v z_lk z_lt z_ly z_ln (m * 64) x (j % 12) i (z_wn j) from if_neg (fun y => q ⟨y.1, y.2.1⟩)]
    refine ⟨pk_in m 4 (by omega), pk_le (m * 64 + n) (m * 64 + i) (fun z => absurd z (by omega)) (fun _ => ⟨hin, ?_⟩) hls'⟩
    refine br_c (fun z1 => ⟨hin, br_c (fun z2 => ⟨hin, hin, ?_⟩) (fun z2 => nm_r (nI_1 _) (keep (fun q => ?_)))⟩) (fun z1 => nm_r (nI_1 _) (keep (fun q => ?_)))
    · have z1' : z_lk (m * 64 + i) = 1 := by rw [ec] at z1; exact z1
      have z2' : z_lt (m * 64 + i) = x := by rw [ec] at z2; exact z2
      obtain ⟨k, hk, ek⟩ := hky i hi z1'
      have ek' : z_ly (nI (m * 64 + i)).toNatClampNeg = nI k := by rw [ec]; exact ek
      have ek2 : ∀ j, j < 12 → (decide (z_lk (m * 64 + i) = 1 ∧ z_lt (m * 64 + i) = x ∧ z_ly (m * 64 + i) = nI j) = decide (j = k)) := by
        intro j hj
        apply decide_eq_decide.mpr
        rw [show z_ly (m * 64 + i) = nI k from ek, nI_eq (by omega) (by omega)]
        exact ⟨fun y => y.2.2.symm, fun y => ⟨z1', z2', y.symm⟩⟩
      have qe : ∀ j, j < 12 → pl_e z_lk z_lt z_ly (m * 64) x j (i + 1) = (pl_e z_lk z_lt z_ly (m * 64) x j i || decide (j = k)) := fun j hj => by
        show (pl_e z_lk z_lt z_ly (m * 64) x j i || _) = _
        rw [ek2 j hj]
      show wpX_writeKey _ (z_op, z_st, z_vo, z_he, z_ns, z_nm, nI sl, z_pa, z_tr, z_td, z_ha, z_cc, z_fi, z_wa, z_se, z_lo, z_im, z_ls, z_lk, z_lt, z_ly, z_ln, z_nu, b8, b9, b10, z_pr, z_go, z_mk, z_mf, z_mt, z_mn) (nI sl) (z_ly (nI (m * 64 + i)).toNatClampNeg) (z_ln (nI (m * 64 + i)).toNatClampNeg)
      rw [ek', ec]
      refine ml_writeKey hs hk h8 h9 (fun c8 c9 g8 g9 => ?_)
      refine nm_r (nI_1 _) (hw (c8, c9, upd b10 (sl * 12 + k) (z_ln (m * 64 + i))) ⟨vh_Hc g8 (fun j hj => ?_), vh_Wg g9 (fun t ht j hj => ?_), fun j hj => ?_⟩)
      · rw [qe j hj]
        unfold hu_s
        by_cases ej : j = k
        · rw [if_pos ej, decide_eq_true ej, Bool.or_true, if_pos rfl]
        · rw [if_neg ej, decide_eq_false ej, Bool.or_false]
      · rw [qe j hj]
        unfold wu_s
        dsimp only
        by_cases et : t = sl
        · by_cases ej : j = k
          · rw [if_pos ⟨et, ej⟩, decide_eq_true ej, decide_eq_true et, Bool.or_true, Bool.and_true, Bool.or_true]
          · rw [if_neg (fun y => ej y.2), decide_eq_false ej, Bool.or_false]
        · rw [if_neg (fun y => et y.1), decide_eq_false et, Bool.false_and, Bool.false_and]
      · have pv : pl_v z_lk z_lt z_ly z_ln (m * 64) x (j % 12) (i + 1) (z_wn j) = if z_lk (m * 64 + i) = 1 ∧ z_lt (m * 64 + i) = x ∧ z_ly (m * 64 + i) = nI (j % 12) then z_ln (m * 64 + i) else pl_v z_lk z_lt z_ly z_ln (m * 64) x (j % 12) i (z_wn j) := rfl
        rw [pv]
        dsimp only
        by_cases ej : j = sl * 12 + k
        · rw [ej, pk_us, if_pos (by omega), if_pos ⟨z1', z2', by rw [show (sl * 12 + k) % 12 = k by omega]; exact ek⟩]
        · rw [pk_un ej, h10 j hj]
          by_cases es : j / 12 = sl
          · rw [if_pos es, if_pos es, if_neg]
            rintro ⟨_, _, y⟩
            rw [show z_ly (m * 64 + i) = nI k from ek, nI_eq (by omega) (by omega)] at y
            omega
          · rw [if_neg es, if_neg es]
    · rw [ec] at z2; exact z2 q.2
    · rw [ec] at z1; exact z1 q.1
/-! ===== comeBack ===== -/
theorem ml_back33 {post : St1 → Prop} {h : Nat → Nat} {w : Nat → Nat → Bool} (m n sl : Nat) (hm : m < 3) (hn : n ≤ 64) (hls : z_ls m = nI n)
    (hky : ∀ i, i < n → z_lk (m * 64 + i) = 1 → ∃ k, k < 12 ∧ k % 3 = m ∧ z_ly (m * 64 + i) = nI k)
    (hsl : pl_o z_lk z_lt (m * 64) n ≠ 0 → sl < 4 ∧ z_sl = nI sl) (hh : vh_H z_ho h) (hw : vh_W z_wk w)
    (H0 : pl_o z_lk z_lt (m * 64) n = 0 → ∀ b7, (∀ k, k < 12 → b7 k = if k % 3 = m then pl_r z_lk z_lt z_ly z_ln (m * 64) n k n (z_nu k) else z_nu k) → post (z_op, z_st, z_vo, z_he, z_ns, z_nm, z_sl, z_pa, z_tr, z_td, z_ha, z_cc, z_fi, z_wa, z_se, z_lo, z_im, z_ls, z_lk, z_lt, z_ly, z_ln, b7, z_ho, z_wk, z_wn, z_pr, z_go, z_mk, z_mf, z_mt, z_mn))
    (H1 : pl_o z_lk z_lt (m * 64) n ≠ 0 → ∀ b7 b8 b9 b10, (∀ k, k < 12 → b7 k = if k % 3 = m then pl_r z_lk z_lt z_ly z_ln (m * 64) n k n (z_nu k) else z_nu k) →
      vh_H b8 (fun k => if pl_e z_lk z_lt z_ly (m * 64) (pl_o z_lk z_lt (m * 64) n) k n = true then sl else h k) → vh_W b9 (fun t k => w t k || (decide (t = sl) && pl_e z_lk z_lt z_ly (m * 64) (pl_o z_lk z_lt (m * 64) n) k n)) →
      (∀ j, j < 48 → b10 j = if j / 12 = sl then pl_v z_lk z_lt z_ly z_ln (m * 64) (pl_o z_lk z_lt (m * 64) n) (j % 12) n (z_wn j) else z_wn j) → post (z_op, z_st, z_vo, z_he, z_ns, z_nm, z_sl, z_pa, z_tr, z_td, z_ha, z_cc, z_fi, z_wa, z_se, z_lo, z_im, z_ls, z_lk, z_lt, z_ly, z_ln, b7, b8, b9, b10, upd z_pr (sl * 3 + m) (pl_o z_lk z_lt (m * 64) n), z_go, z_mk, z_mf, z_mt, z_mn)) :
    ∃ f, wX_comeBack_33 post (nI m) f 0 (nI (m * 64)) z_op z_st z_vo z_he z_ns z_nm z_sl z_pa z_tr z_td z_ha z_cc z_fi z_wa z_se z_lo z_im z_ls z_lk z_lt z_ly z_ln z_nu z_ho z_wk z_wn z_pr z_go z_mk z_mf z_mt z_mn := by
  have hls' : nI m * 64 + z_ls (nI m).toNatClampNeg = nI (m * 64 + n) := by rw [nI_clamp (by omega), ix_64, show z_ls m = nI n from hls, nI_add]
  refine pk_loop (σ := Nat → Int32) (fun f i s => wX_comeBack_33 post (nI m) f (pl_o z_lk z_lt (m * 64) i) (nI (m * 64 + i)) z_op z_st z_vo z_he z_ns z_nm z_sl z_pa z_tr z_td z_ha z_cc z_fi z_wa z_se z_lo z_im z_ls z_lk z_lt z_ly z_ln s z_ho z_wk z_wn z_pr z_go z_mk z_mf z_mt z_mn) (fun i s => ∀ k, k < 12 → s k = if k % 3 = m then pl_r z_lk z_lt z_ly z_ln (m * 64) n k i (z_nu k) else z_nu k) n 0 z_nu (by omega)
    (fun k hk => by unfold pl_r; split <;> rfl) ?_ ?_
  · intro f b7 h7
    refine ⟨pk_in m 4 (by omega), pk_le (m * 64 + n) (m * 64 + n) (fun _ => br_c (fun z => H0 z b7 h7) (fun z => ?_)) (fun z => absurd z (by omega)) hls'⟩
    obtain ⟨hs4, hsl'⟩ := hsl z
    refine ml_hold m n sl hm hn hs4 hsl' hls (fun i hi e => ?_) hh hw (fun b8 b9 b10 h8 h9 h10 => ?_)
    · obtain ⟨k, h1, h2, h3⟩ := hky i hi e
      exact ⟨k, h1, h3⟩
    · exact H1 z b7 b8 b9 b10 h7 h8 h9 h10
  · intro f i b7 hi h7 hw
    have ec : (nI (m * 64 + i)).toNatClampNeg = m * 64 + i := nI_clamp (by omega)
    have hin : vp_in (nI (m * 64 + i)) 256 := pk_in (m * 64 + i) 256 (by omega)
    have po : pl_o z_lk z_lt (m * 64) (i + 1) = if z_lk (m * 64 + i) = 2 then z_lt (m * 64 + i) else if z_lk (m * 64 + i) = 3 then 0 else if z_lk (m * 64 + i) = 4 then 0 else pl_o z_lk z_lt (m * 64) i := rfl
    have keep : z_lk (m * 64 + i) ≠ 3 → ∀ x, x = pl_o z_lk z_lt (m * 64) (i + 1) → wX_comeBack_33 post (nI m) f x (nI (m * 64 + (i + 1))) z_op z_st z_vo z_he z_ns z_nm z_sl z_pa z_tr z_td z_ha z_cc z_fi z_wa z_se z_lo z_im z_ls z_lk z_lt z_ly z_ln b7 z_ho z_wk z_wn z_pr z_go z_mk z_mf z_mt z_mn := by
      intro q x ex
      subst ex
      refine hw b7 (fun k hk => ?_)
      rw [h7 k hk, show pl_r z_lk z_lt z_ly z_ln (m * 64) n k (i + 1) (z_nu k) = pl_r z_lk z_lt z_ly z_ln (m * 64) n k i (z_nu k) from if_neg q]
    refine ⟨pk_in m 4 (by omega), pk_le (m * 64 + n) (m * 64 + i) (fun z => absurd z (by omega)) (fun _ => ⟨hin, ?_⟩) hls'⟩
    intro x4 e4
    have e4' : x4 = z_lt (m * 64 + i) := by rw [← ec]; exact e4
    subst e4'
    refine ⟨hin, br_c (fun z1 => nm_r (nI_1 _) ?_) (fun z1 => ⟨hin, br_c (fun z2 => ?_) (fun z2 => ⟨hin, br_c (fun z3 => nm_r (nI_1 _) ?_) (fun z3 => nm_r (nI_1 _) ?_)⟩)⟩)⟩
    · have y1 : z_lk (m * 64 + i) = 2 := by rw [← ec]; exact z1
      refine keep (by rw [y1]; decide) _ ?_
      rw [po, if_pos y1]
    · have y1 : z_lk (m * 64 + i) = 3 := by rw [← ec]; exact z2
      refine ml_apply m n hm hn hls (fun i hi e => ?_) (fun c7 g7 => ?_)
      · obtain ⟨k, h1, h2, h3⟩ := hky i hi e
        exact ⟨k, h1, h3⟩
      · have e0 : (0 : Int32) = pl_o z_lk z_lt (m * 64) (i + 1) := by rw [po, if_neg (by rw [y1]; decide), if_pos y1]
        show ∀ x3, x3 = nI (m * 64 + i) + 1 → wX_comeBack_33 post (nI m) f 0 x3 z_op z_st z_vo z_he z_ns z_nm z_sl z_pa z_tr z_td z_ha z_cc z_fi z_wa z_se z_lo z_im z_ls z_lk z_lt z_ly z_ln c7 z_ho z_wk z_wn z_pr z_go z_mk z_mf z_mt z_mn
        refine nm_r (nI_1 _) ?_
        rw [e0]
        refine hw c7 (fun k hk => ?_)
        have g7' : c7 k = pl_v z_lk z_lt z_ly z_ln (m * 64) (z_lt (m * 64 + i)) k n (b7 k) := g7 k hk
        rw [g7', h7 k hk]
        by_cases ek : k % 3 = m
        · rw [if_pos ek, if_pos ek]
          exact (if_pos y1).symm
        · rw [if_neg ek, if_neg ek]
          refine pl_v_none n _ (fun j hj e => ?_)
          obtain ⟨k', h1, h2, h3⟩ := hky j hj e
          have h3' : z_ly (m * 64 + j) = nI k' := h3
          rw [h3', Ne, nI_eq (by omega) (by omega)]
          rintro rfl
          exact ek h2
    · have y1 : z_lk (m * 64 + i) = 4 := by rw [← ec]; exact z3
      refine keep (by rw [y1]; decide) _ ?_
      rw [po, if_neg (by rw [y1]; decide), if_neg (by rw [y1]; decide), if_pos y1]
    · rw [ec] at z1 z2 z3
      refine keep z2 _ ?_
      rw [po, if_neg z1, if_neg z2, if_neg z3]
theorem ml_comeBack {post : St1 → Prop} {h : Nat → Nat} {w : Nat → Nat → Bool} (m n sl : Nat) (hm : m < 3) (hn : n ≤ 64) (hls : z_ls m = nI n)
    (hky : ∀ i, i < n → z_lk (m * 64 + i) = 1 → ∃ k, k < 12 ∧ k % 3 = m ∧ z_ly (m * 64 + i) = nI k)
    (hsl : pl_o z_lk z_lt (m * 64) n ≠ 0 → sl < 4 ∧ z_sl = nI sl) (hh : vh_H z_ho h) (hw : vh_W z_wk w)
    (H0 : pl_o z_lk z_lt (m * 64) n = 0 → ∀ b7, (∀ k, k < 12 → b7 k = if k % 3 = m then pl_r z_lk z_lt z_ly z_ln (m * 64) n k n (z_im k) else z_nu k) → post (z_op, z_st, z_vo, z_he, z_ns, z_nm, z_sl, z_pa, z_tr, z_td, z_ha, z_cc, z_fi, z_wa, z_se, z_lo, z_im, z_ls, z_lk, z_lt, z_ly, z_ln, b7, z_ho, z_wk, z_wn, z_pr, z_go, z_mk, z_mf, z_mt, z_mn))
    (H1 : pl_o z_lk z_lt (m * 64) n ≠ 0 → ∀ b7 b8 b9 b10, (∀ k, k < 12 → b7 k = if k % 3 = m then pl_r z_lk z_lt z_ly z_ln (m * 64) n k n (z_im k) else z_nu k) →
      vh_H b8 (fun k => if pl_e z_lk z_lt z_ly (m * 64) (pl_o z_lk z_lt (m * 64) n) k n = true then sl else h k) → vh_W b9 (fun t k => w t k || (decide (t = sl) && pl_e z_lk z_lt z_ly (m * 64) (pl_o z_lk z_lt (m * 64) n) k n)) →
      (∀ j, j < 48 → b10 j = if j / 12 = sl then pl_v z_lk z_lt z_ly z_ln (m * 64) (pl_o z_lk z_lt (m * 64) n) (j % 12) n (z_wn j) else z_wn j) → post (z_op, z_st, z_vo, z_he, z_ns, z_nm, z_sl, z_pa, z_tr, z_td, z_ha, z_cc, z_fi, z_wa, z_se, z_lo, z_im, z_ls, z_lk, z_lt, z_ly, z_ln, b7, b8, b9, b10, upd z_pr (sl * 3 + m) (pl_o z_lk z_lt (m * 64) n), z_go, z_mk, z_mf, z_mt, z_mn)) :
    wpX_comeBack post (z_op, z_st, z_vo, z_he, z_ns, z_nm, z_sl, z_pa, z_tr, z_td, z_ha, z_cc, z_fi, z_wa, z_se, z_lo, z_im, z_ls, z_lk, z_lt, z_ly, z_ln, z_nu, z_ho, z_wk, z_wn, z_pr, z_go, z_mk, z_mf, z_mt, z_mn) (nI m) := by
  refine pk_loop (σ := Nat → Int32) (fun f i s => wX_comeBack_2 post (nI m) z_op z_st z_vo z_he z_ns z_nm z_sl z_pa z_tr z_td z_ha z_cc z_fi z_wa z_se z_lo f (nI (m + 3 * i)) z_im z_ls z_lk z_lt z_ly z_ln s z_ho z_wk z_wn z_pr z_go z_mk z_mf z_mt z_mn) (fun i s => ∀ k, k < 12 → s k = if k % 3 = m ∧ k < m + 3 * i then z_im k else z_nu k) 4 0 z_nu (by omega)
    (fun k hk => (if_neg (by omega)).symm) ?_ ?_
  · intro f b7 h7
    refine pk_le 12 (m + 3 * 4) (fun _ => nm_r (ix_64 m) ?_) (fun z => absurd z (by omega))
    have cv : ∀ c : Nat → Int32, (∀ k, k < 12 → c k = if k % 3 = m then pl_r z_lk z_lt z_ly z_ln (m * 64) n k n (b7 k) else b7 k) → ∀ k, k < 12 → c k = if k % 3 = m then pl_r z_lk z_lt z_ly z_ln (m * 64) n k n (z_im k) else z_nu k := by
      intro c hc k hk
      rw [hc k hk, h7 k hk]
      by_cases e : k % 3 = m
      · rw [if_pos e, if_pos e, if_pos ⟨e, by omega⟩]
      · rw [if_neg e, if_neg e, if_neg (fun y => e y.1)]
    refine ml_back33 m n sl hm hn hls hky hsl hh hw (fun z c7 g7 => ?_) (fun z c7 b8 b9 b10 g7 h8 h9 h10 => ?_)
    · exact H0 z c7 (cv c7 g7)
    · exact H1 z c7 b8 b9 b10 (cv c7 g7) h8 h9 h10
  · intro f i b7 hi h7 hw
    refine pk_le 12 (m + 3 * i) (fun z => absurd z (by omega)) (fun _ => ⟨pk_in (m + 3 * i) 12 (by omega), pk_in (m + 3 * i) 12 (by omega), ?_⟩)
    intro c7 e7
    have e7' : c7 = upd b7 (m + 3 * i) (z_im (m + 3 * i)) := by
      refine e7.trans ?_
      show upd b7 (nI (m + 3 * i)).toNatClampNeg (z_im (nI (m + 3 * i)).toNatClampNeg) = _
      rw [nI_clamp (by omega)]
    refine nm_r (ix_p3 _) (hw c7 (fun k hk => ?_))
    rw [e7']
    by_cases e : k = m + 3 * i
    · rw [e, pk_us, if_pos ⟨by omega, by omega⟩]
    · rw [pk_un e, h7 k hk]
      exact ic_c ⟨fun z => ⟨z.1, by omega⟩, fun z => ⟨z.1, by omega⟩⟩
end LOGM
end
section
/-! ===== breakDown ===== -/
def hb_i (h : Nat → Nat) (m s i t q : Nat) : Bool := decide (t < i) && hs_a h m t && (!decide (t = s) || decide (q = m))
def cb_i (h : Nat → Nat) (m s : Nat) : Nat → Nat
  | 0 => 0
  | i + 1 => cb_i h m s i + (if hs_a h m i = true ∧ i ≠ s then 1 else 0)
def ob_i (o : Nat → Bool) (h : Nat → Nat) (m s i : Nat) : Nat → Bool := fun t => o t && !(decide (t < i) && hs_a h m t && !decide (t = s))
def hh_i (h : Nat → Nat) (m s i : Nat) : Nat → Nat := fun k => if hb_i h m s i (h k) (k % 3) = true then 4 else h k
def wh_i (w : Nat → Nat → Bool) (h : Nat → Nat) (m s i : Nat) : Nat → Nat → Bool := fun t k => w t k && !(hb_i h m s i t (k % 3))
def ph_i (p : Nat → Int32) (h : Nat → Nat) (m s i : Nat) : Nat → Int32 := fun j => if hb_i h m s i (j / 3) (j % 3) = true then 0 else p j
def gh_i (g : Nat → Int32) (h : Nat → Nat) (m s i : Nat) : Nat → Int32 := fun j => if j / 3 = s ∧ s < i ∧ hs_a h m s = true ∧ j % 3 = m then 1 else g j
section BD
variable {o : Nat → Bool} {h : Nat → Nat} {w : Nat → Nat → Bool} {p g : Nat → Int32} {m s i : Nat}
theorem hb_0 (t q : Nat) : hb_i h m s 0 t q = false := by unfold hb_i; simp
theorem hb_no (hi : hs_a h m i = false) (t q : Nat) : hb_i h m s (i + 1) t q = hb_i h m s i t q := by
  unfold hb_i
  by_cases e : t = i
  · subst e
    rw [hi]
    simp
  · rw [show decide (t < i + 1) = decide (t < i) from decide_eq_decide.mpr (by omega)]
theorem hb_yes (hi : hs_a h m i = true) (t q : Nat) : hb_i h m s (i + 1) t q = (hb_i h m s i t q || (decide (t = i) && (!decide (t = s) || decide (q = m)))) := by
  unfold hb_i
  by_cases e : t = i
  · subst e
    rw [hi]
    simp
  · rw [show decide (t < i + 1) = decide (t < i) from decide_eq_decide.mpr (by omega)]
    simp [e]
theorem hb_lt {t q : Nat} (e : hb_i h m s i t q = true) : t < i := by
  unfold hb_i at e
  simp at e
  exact e.1.1
theorem bd_h1 (hi : hs_a h m i = true) (h4 : i < 4) (es : i = s) (k : Nat) : hh_i h m s (i + 1) k = hr_m (hh_i h m s i) i m k := by
  unfold hr_m hh_i
  rw [hb_yes hi]
  by_cases e : hb_i h m s i (h k) (k % 3) = true
  · have := hb_lt e
    simp [e]
  · simp only [Bool.not_eq_true] at e
    simp only [e, Bool.false_or, Bool.false_eq_true, if_false]
    by_cases e1 : h k = i
    · by_cases e2 : k % 3 = m
      · simp [e1, e2]
      · simp [e1, e2, es]
    · simp [e1]
theorem bd_h2 (hi : hs_a h m i = true) (h4 : i < 4) (es : i ≠ s) (k : Nat) : hh_i h m s (i + 1) k = hr_a (hr_m (hh_i h m s i) i m) i k := by
  unfold hr_a hr_m hh_i
  rw [hb_yes hi]
  by_cases e : hb_i h m s i (h k) (k % 3) = true
  · have := hb_lt e
    simp [e]
  · simp only [Bool.not_eq_true] at e
    simp only [e, Bool.false_or, Bool.false_eq_true, if_false]
    by_cases e1 : h k = i
    · by_cases e2 : k % 3 = m
      · simp [e1, e2, es]
      · simp [e1, e2, es]
    · simp [e1]
theorem bd_w1 (hi : hs_a h m i = true) (es : i = s) (t k : Nat) : wh_i w h m s (i + 1) t k = wr_m (wh_i w h m s i) i m t k := by
  unfold wr_m wh_i
  rw [hb_yes hi]
  by_cases e1 : t = i
  · by_cases e2 : k % 3 = m
    · simp [e1, e2]
    · simp [e1, e2, es]
  · simp [e1]
theorem bd_w2 (hi : hs_a h m i = true) (es : i ≠ s) (t k : Nat) : wh_i w h m s (i + 1) t k = wr_a (wr_m (wh_i w h m s i) i m) i t k := by
  unfold wr_a wr_m wh_i
  rw [hb_yes hi]
  by_cases e1 : t = i
  · simp [e1, es]
  · simp [e1]
theorem bd_p1 (hi : hs_a h m i = true) (es : i = s) {b : Nat → Int32} (hm : m < 3) (hb : ∀ j, j < 12 → b j = ph_i p h m s i j) (j : Nat) (hj : j < 12) : upd b (i * 3 + m) 0 j = ph_i p h m s (i + 1) j := by
  unfold ph_i
  rw [hb_yes hi]
  by_cases e : j = i * 3 + m
  · have e1 : j / 3 = i := by omega
    have e2 : j % 3 = m := by omega
    rw [e, pk_us, ← e, e1, e2]
    simp
  · rw [pk_un e, hb j hj]
    unfold ph_i
    by_cases e1 : j / 3 = i
    · have e2 : ¬ j % 3 = m := by omega
      simp [e1, e2, es]
    · simp [e1]
theorem bd_p2 (hi : hs_a h m i = true) (es : i ≠ s) {b c : Nat → Int32} (hm : m < 3) (hb : ∀ j, j < 12 → b j = ph_i p h m s i j) (hc : ∀ j, j < 12 → c j = if j / 3 = i then 0 else upd b (i * 3 + m) 0 j) (j : Nat) (hj : j < 12) : c j = ph_i p h m s (i + 1) j := by
  rw [hc j hj]
  unfold ph_i
  rw [hb_yes hi]
  by_cases e1 : j / 3 = i
  · simp [e1, es]
  · rw [if_neg e1, pk_un (by omega), hb j hj]
    unfold ph_i
    simp [e1]
theorem bd_g1 (hi : hs_a h m i = true) (es : i = s) {b : Nat → Int32} (hm : m < 3) (hb : ∀ j, j < 12 → b j = gh_i g h m s i j) (j : Nat) (hj : j < 12) : upd b (i * 3 + m) 1 j = gh_i g h m s (i + 1) j := by
  subst es
  unfold gh_i
  by_cases e : j = i * 3 + m
  · rw [e, pk_us, if_pos ⟨by omega, by omega, hi, by omega⟩]
  · rw [pk_un e, hb j hj]
    unfold gh_i
    rw [if_neg (fun z => by omega), if_neg (fun z => by omega)]
theorem bd_g2 (es : i ≠ s) (j : Nat) : gh_i g h m s (i + 1) j = gh_i g h m s i j := by
  unfold gh_i
  exact ic_c ⟨fun z => ⟨z.1, by omega, z.2.2⟩, fun z => ⟨z.1, by omega, z.2.2⟩⟩
theorem bd_g0 (hi : hs_a h m i = false) (j : Nat) : gh_i g h m s (i + 1) j = gh_i g h m s i j := by
  by_cases es : i = s
  · subst es
    unfold gh_i
    rw [if_neg (fun z => by rw [hi] at z; exact absurd z.2.2.1 (by decide)), if_neg (fun z => by rw [hi] at z; exact absurd z.2.2.1 (by decide))]
  · exact bd_g2 es j
theorem bd_o1 (hi : hs_a h m i = true) (es : i = s) (t : Nat) : ob_i o h m s (i + 1) t = ob_i o h m s i t := by
  unfold ob_i
  by_cases e1 : t = i
  · simp [e1, es]
  · rw [show decide (t < i + 1) = decide (t < i) from decide_eq_decide.mpr (by omega)]
theorem bd_o0 (hi : hs_a h m i = false) (t : Nat) : ob_i o h m s (i + 1) t = ob_i o h m s i t := by
  unfold ob_i
  by_cases e1 : t = i
  · simp [e1, hi]
  · rw [show decide (t < i + 1) = decide (t < i) from decide_eq_decide.mpr (by omega)]
theorem bd_o2 (hi : hs_a h m i = true) (es : i ≠ s) (t : Nat) : ob_i o h m s (i + 1) t = oc_up (ob_i o h m s i) i false t := by
  unfold oc_up ob_i
  by_cases e1 : t = i
  · subst e1
    simp [hi, es]
  · rw [show decide (t < i + 1) = decide (t < i) from decide_eq_decide.mpr (by omega)]
    simp [e1]
theorem hh_lt {k : Nat} (hk : h k < 5) : hh_i h m s i k < 5 := by
  unfold hh_i
  split <;> omega
end BD
section BRK
variable {z_op z_st z_vo z_he z_ns z_nm z_sl z_pa z_tr z_td z_ha z_cc z_fi z_wa z_se z_lo : Int32} {z_im z_ls z_lk z_lt z_ly z_ln z_nu z_ho z_wk z_wn z_pr z_go z_mk z_mf z_mt z_mn : Nat → Int32}
theorem ml_breakDown {post : Int32 → St1 → Prop} {o : Nat → Bool} {h : Nat → Nat} {w : Nat → Nat → Bool} (m n s : Nat) (hm : m < 3) (hn : n ≤ 64) (hls : z_ls m = nI n)
    (hky : ∀ i, i < n → z_lk (m * 64 + i) = 1 → ∃ k, k < 12 ∧ k % 3 = m ∧ z_ly (m * 64 + i) = nI k)
    (hst : (z_st = 0 ∧ s = 4 ∧ pl_o z_lk z_lt (m * 64) n = 0) ∨ (z_st ≠ 0 ∧ s < 4 ∧ z_sl = nI s)) (ho : z_op = oc_E o) (hh : vh_H z_ho h) (hw : vh_W z_wk w)
    (H : ∀ o' b7 b8 b9 b10 b11 b12, (∀ t, t < 4 → o' t = ob_i o h m s 4 t) →
      (∀ k, k < 12 → b7 k = if k % 3 = m then pl_r z_lk z_lt z_ly z_ln (m * 64) n k n (z_im k) else z_nu k) →
      vh_H b8 (fun k => if pl_o z_lk z_lt (m * 64) n ≠ 0 ∧ pl_e z_lk z_lt z_ly (m * 64) (pl_o z_lk z_lt (m * 64) n) k n = true then s else hh_i h m s 4 k) →
      vh_W b9 (fun t k => wh_i w h m s 4 t k || (decide (pl_o z_lk z_lt (m * 64) n ≠ 0 ∧ t = s) && pl_e z_lk z_lt z_ly (m * 64) (pl_o z_lk z_lt (m * 64) n) k n)) →
      (∀ j, j < 48 → b10 j = if pl_o z_lk z_lt (m * 64) n ≠ 0 ∧ j / 12 = s then pl_v z_lk z_lt z_ly z_ln (m * 64) (pl_o z_lk z_lt (m * 64) n) (j % 12) n (z_wn j) else z_wn j) →
      (∀ j, j < 12 → b11 j = if pl_o z_lk z_lt (m * 64) n ≠ 0 ∧ j = s * 3 + m then pl_o z_lk z_lt (m * 64) n else ph_i z_pr h m s 4 j) →
      (∀ j, j < 12 → b12 j = gh_i z_go h m s 4 j) →
      post (nI (cb_i h m s 4)) (oc_E o', z_st, z_vo, z_he, z_ns, z_nm, z_sl, z_pa, z_tr, z_td, z_ha, z_cc, z_fi, z_wa, z_se, z_lo, z_im, z_ls, z_lk, z_lt, z_ly, z_ln, b7, b8, b9, b10, b11, b12, z_mk, z_mf, z_mt, z_mn)) : wpX_breakDown post (z_op, z_st, z_vo, z_he, z_ns, z_nm, z_sl, z_pa, z_tr, z_td, z_ha, z_cc, z_fi, z_wa, z_se, z_lo, z_im, z_ls, z_lk, z_lt, z_ly, z_ln, z_nu, z_ho, z_wk, z_wn, z_pr, z_go, z_mk, z_mf, z_mt, z_mn) (nI m) := by
  refine ml_holdersOn hm hh ?_
  subst ho
  refine pk_loop (σ := (Nat → Bool) × (Nat → Int32) × (Nat → Int32) × (Nat → Int32) × (Nat → Int32)) (fun f i s' => wX_breakDown_11 post (nI m) (oc_E (hs_a h m)) f (nI (cb_i h m s i)) (nI i) (oc_E s'.1) z_st z_vo z_he z_ns z_nm z_sl z_pa z_tr z_td z_ha z_cc z_fi z_wa z_se z_lo z_im z_ls z_lk z_lt z_ly z_ln z_nu s'.2.1 s'.2.2.1 z_wn s'.2.2.2.1 s'.2.2.2.2 z_mk z_mf z_mt z_mn)
    (fun i s' => (∀ t, t < 4 → s'.1 t = ob_i o h m s i t) ∧ vh_H s'.2.1 (hh_i h m s i) ∧ vh_W s'.2.2.1 (wh_i w h m s i) ∧ (∀ j, j < 12 → s'.2.2.2.1 j = ph_i z_pr h m s i j) ∧ (∀ j, j < 12 → s'.2.2.2.2 j = gh_i z_go h m s i j))
    4 0 (o, z_ho, z_wk, z_pr, z_go) (by omega) ?_ ?_ ?_
  · refine ⟨fun t ht => ?_, vh_Hc hh (fun k hk => ?_), vh_Wg hw (fun t ht k hk => ?_), fun j hj => ?_, fun j hj => ?_⟩
    · unfold ob_i
      simp
    · unfold hh_i
      rw [hb_0]
      rfl
    · unfold wh_i
      rw [hb_0]
      simp
    · unfold ph_i
      rw [hb_0]
      rfl
    · unfold gh_i
      rw [if_neg (by omega)]
  · rintro f ⟨o', b8, b9, b11, b12⟩ ⟨ho', h8, h9, h11, h12⟩
    dsimp only at ho' h8 h9 h11 h12
    show wX_breakDown_11 post (nI m) (oc_E (hs_a h m)) (f + 1) (nI (cb_i h m s 4)) (nI 4) (oc_E o') z_st z_vo z_he z_ns z_nm z_sl z_pa z_tr z_td z_ha z_cc z_fi z_wa z_se z_lo z_im z_ls z_lk z_lt z_ly z_ln z_nu b8 b9 z_wn b11 b12 z_mk z_mf z_mt z_mn
    refine pk_le 4 4 (fun _ => ?_) (fun z => absurd z (by omega))
    refine ml_comeBack (h := hh_i h m s 4) (w := wh_i w h m s 4) m n s hm hn hls hky (fun z => ?_) h8 h9 (fun z b7 h7 => ?_) (fun z b7 c8 c9 c10 h7 g8 g9 g10 => ?_)
    · rcases hst with q | q
      · exact absurd q.2.2 z
      · exact q.2
    · have z' : pl_o z_lk z_lt (m * 64) n = 0 := z
      refine H o' b7 b8 b9 z_wn b11 b12 ho' h7 (vh_Hc h8 (fun k hk => ?_)) (vh_Wg h9 (fun t ht k hk => ?_)) (fun j hj => ?_) (fun j hj => ?_) h12
      · rw [if_neg (fun y => y.1 z')]
      · rw [decide_eq_false (fun y => y.1 z')]
        simp
      · rw [if_neg (fun y => y.1 z')]
      · rw [if_neg (fun y => y.1 z')]
        exact h11 j hj
    · have z' : pl_o z_lk z_lt (m * 64) n ≠ 0 := z
      refine H o' b7 c8 c9 c10 (upd b11 (s * 3 + m) (pl_o z_lk z_lt (m * 64) n)) b12 ho' h7 (vh_Hc g8 (fun k hk => ?_)) (vh_Wg g9 (fun t ht k hk => ?_)) (fun j hj => ?_) (fun j hj => ?_) h12
      · exact ic_c ⟨fun y => y.2, fun y => ⟨z', y⟩⟩
      · rw [show decide (pl_o z_lk z_lt (m * 64) n ≠ 0 ∧ t = s) = decide (t = s) from decide_eq_decide.mpr ⟨fun y => y.2, fun y => ⟨z', y⟩⟩]
      · rw [g10 j hj]
        exact ic_c ⟨fun y => ⟨z', y⟩, fun y => y.2⟩
      · by_cases e : j = s * 3 + m
        · rw [e, pk_us, if_pos ⟨z', rfl⟩]
        · rw [pk_un e, if_neg (fun y => e y.2)]
          exact h11 j hj
  · rintro f i ⟨o', b8, b9, b11, b12⟩ hi ⟨ho', h8, h9, h11, h12⟩ hw'
    dsimp only at ho' h8 h9 h11 h12
    have hw2 : ∀ o' b8 b9 b11 b12 c, c = nI (cb_i h m s (i + 1)) → (∀ t, t < 4 → o' t = ob_i o h m s (i + 1) t) → vh_H b8 (hh_i h m s (i + 1)) → vh_W b9 (wh_i w h m s (i + 1)) → (∀ j, j < 12 → b11 j = ph_i z_pr h m s (i + 1) j) → (∀ j, j < 12 → b12 j = gh_i z_go h m s (i + 1) j) →
        wX_breakDown_11 post (nI m) (oc_E (hs_a h m)) f c (nI (i + 1)) (oc_E o') z_st z_vo z_he z_ns z_nm z_sl z_pa z_tr z_td z_ha z_cc z_fi z_wa z_se z_lo z_im z_ls z_lk z_lt z_ly z_ln z_nu b8 b9 z_wn b11 b12 z_mk z_mf z_mt z_mn := by
      intro o' b8 b9 b11 b12 c hc e1 e2 e3 e4 e5
      subst hc
      exact hw' (o', b8, b9, b11, b12) ⟨e1, e2, e3, e4, e5⟩
    clear hw'
    show wX_breakDown_11 post (nI m) (oc_E (hs_a h m)) (f + 1) (nI (cb_i h m s i)) (nI i) (oc_E o') z_st z_vo z_he z_ns z_nm z_sl z_pa z_tr z_td z_ha z_cc z_fi z_wa z_se z_lo z_im z_ls z_lk z_lt z_ly z_ln z_nu b8 b9 z_wn b11 b12 z_mk z_mf z_mt z_mn
    refine pk_le 4 i (fun z => absurd z (by omega)) (fun _ => rd_b (oc_z (hs_a h m) hi) (fun e => nm_r (nI_1 i) ?_) (fun e => ?_))
    · refine hw2 o' b8 b9 b11 b12 _ ?_ (fun t ht => ?_) (vh_Hc h8 (fun k hk => ?_)) (vh_Wg h9 (fun t ht k hk => ?_)) (fun j hj => ?_) (fun j hj => ?_)
      · rw [cb_i, if_neg (fun y => by rw [e] at y; exact absurd y.1 (by decide))]
        rfl
      · rw [bd_o0 e]; exact ho' t ht
      · unfold hh_i; rw [hb_no e]
      · unfold wh_i; rw [hb_no e]
      · unfold ph_i; rw [hb_no e]; exact h11 j hj
      · rw [bd_g0 e]; exact h12 j hj
    · refine ml_releaseOn hi hm h8 h9 (fun c8 c9 g8 g9 => ?_)
      have F64 : i ≠ s → wX_breakDown_64 post (wX_breakDown_11 post (nI m) (oc_E (hs_a h m)) f) (nI m) (oc_E (hs_a h m)) (nI (cb_i h m s i)) (nI i) (oc_E o') z_st z_vo z_he z_ns z_nm z_sl z_pa z_tr z_td z_ha z_cc z_fi z_wa z_se z_lo z_im z_ls z_lk z_lt z_ly z_ln z_nu c8 c9 z_wn (upd b11 (i * 3 + m) 0) b12 z_mk z_mf z_mt z_mn := by
        intro es
        refine ml_rollBack (o := o') hi rfl g8 g9 (fun d8 d9 d11 f8 f9 f11 => ?_)
        show ∀ x3, x3 = nI (cb_i h m s i) + 1 → ∀ x4, x4 = nI i + 1 → wX_breakDown_11 post (nI m) (oc_E (hs_a h m)) f x3 x4 (oc_E (oc_up o' i false)) z_st z_vo z_he z_ns z_nm z_sl z_pa z_tr z_td z_ha z_cc z_fi z_wa z_se z_lo z_im z_ls z_lk z_lt z_ly z_ln z_nu d8 d9 z_wn d11 b12 z_mk z_mf z_mt z_mn
        refine nm_e (nm_r (nI_1 i) ?_)
        refine hw2 (oc_up o' i false) d8 d9 d11 b12 _ ?_ (fun t ht => ?_) (vh_Hc f8 (fun k hk => bd_h2 e hi es k)) (vh_Wg f9 (fun t ht k hk => bd_w2 e es t k)) (bd_p2 e es hm h11 f11) (fun j hj => ?_)
        · rw [nI_1, cb_i, if_pos ⟨e, es⟩]
        · rw [bd_o2 e es]
          unfold oc_up
          by_cases et : t = i
          · rw [if_pos et, if_pos et]
          · rw [if_neg et, if_neg et]
            exact ho' t ht
        · rw [bd_g2 es]; exact h12 j hj
      show (z_st = 0 → _) ∧ (¬ z_st = 0 → _)
      rcases hst with q | q
      · exact br_t q.1 (F64 (by omega))
      · refine br_f q.1 ?_
        have qs : z_sl = nI s := q.2.2
        by_cases es : i = s
        · refine br_t (by show nI i = z_sl; rw [qs, es]) ⟨pk_in (i * 3 + m) 12 (by omega) (ix_3 i m), ?_⟩
          intro d12 e12
          have e12' : d12 = upd b12 (i * 3 + m) 1 := by
            refine e12.trans ?_
            show upd b12 (nI i * 3 + nI m).toNatClampNeg 1 = _
            rw [ix_3, nI_clamp (by omega)]
          refine nm_r (nI_1 i) ?_
          refine hw2 o' c8 c9 (upd b11 (i * 3 + m) 0) d12 _ ?_ (fun t ht => ?_) (vh_Hc g8 (fun k hk => bd_h1 e hi es k)) (vh_Wg g9 (fun t ht k hk => bd_w1 e es t k)) (bd_p1 e es hm h11) ?_
          · rw [cb_i, if_neg (fun y => y.2 es)]
            rfl
          · rw [bd_o1 e es]; exact ho' t ht
          · rw [e12']
            exact bd_g1 e es hm h12
        · exact br_f (by show ¬ nI i = z_sl; rw [qs, nI_eq (by omega) (by omega)]; exact es) (F64 es)
/-! ===== breakLeader ===== -/
def kl_i (o : Nat → Bool) (s i t : Nat) : Bool := decide (t < i) && o t && !decide (t = s)
def cl_i (o : Nat → Bool) (s : Nat) : Nat → Nat
  | 0 => 0
  | i + 1 => cl_i o s i + (if o i = true ∧ i ≠ s then 1 else 0)
/-- transactions of a set K are rolled back -/
def ko_K (o : Nat → Bool) (K : Nat → Bool) : Nat → Bool := fun t => o t && !K t
def kh_K (h : Nat → Nat) (K : Nat → Bool) : Nat → Nat := fun k => if K (h k) = true then 4 else h k
def kw_K (w : Nat → Nat → Bool) (K : Nat → Bool) : Nat → Nat → Bool := fun t k => w t k && !K t
def kp_K (p : Nat → Int32) (K : Nat → Bool) : Nat → Int32 := fun j => if K (j / 3) = true then 0 else p j
theorem kl_no {o : Nat → Bool} {s i t : Nat} (e : ¬ (o i = true ∧ i ≠ s)) : kl_i o s (i + 1) t = kl_i o s i t := by
  unfold kl_i
  by_cases et : t = i
  · subst et
    by_cases es : t = s
    · simp [es]
    · have : o t = false := by
        cases ho : o t
        · rfl
        · exact absurd ⟨ho, es⟩ e
      simp [this]
  · rw [show decide (t < i + 1) = decide (t < i) from decide_eq_decide.mpr (by omega)]
theorem kl_yes {o : Nat → Bool} {s i t : Nat} (e : o i = true ∧ i ≠ s) : kl_i o s (i + 1) t = (kl_i o s i t || decide (t = i)) := by
  unfold kl_i
  by_cases et : t = i
  · subst et
    simp [e.1, e.2]
  · rw [show decide (t < i + 1) = decide (t < i) from decide_eq_decide.mpr (by omega)]
    simp [et]
theorem kl_lt {o : Nat → Bool} {s i t : Nat} (e : kl_i o s i t = true) : t < i := by
  unfold kl_i at e
  simp at e
  exact e.1.1
theorem kl_0 (o : Nat → Bool) (s t : Nat) : kl_i o s 0 t = false := by unfold kl_i; simp
theorem ml_breakLeader {post : Int32 → St1 → Prop} {o : Nat → Bool} {h : Nat → Nat} {w : Nat → Nat → Bool} {d : Bool} (n s : Nat) (hn : n ≤ 64) (hls : z_ls 3 = nI n)
    (hd : d = true ↔ ∃ i, i < n ∧ z_lk (3 * 64 + i) = 5 ∧ z_lt (3 * 64 + i) = z_nm)
    (hst : (z_st = 0 ∧ s = 4) ∨ (z_st ≠ 0 ∧ s < 4 ∧ z_sl = nI s)) (ho : z_op = oc_E o) (hh : vh_H z_ho h) (hw : vh_W z_wk w)
    (H0 : z_st = 0 → ∀ o' b8 b9 b11, (∀ t, t < 4 → o' t = ko_K o (kl_i o s 4) t) → vh_H b8 (kh_K h (kl_i o s 4)) → vh_W b9 (kw_K w (kl_i o s 4)) → (∀ j, j < 12 → b11 j = kp_K z_pr (kl_i o s 4) j) → post (nI (cl_i o s 4)) (oc_E o', z_st, z_vo, z_he, z_ns, z_nm, z_sl, z_pa, z_tr, z_td, z_ha, z_cc, z_fi, z_wa, z_se, z_lo, z_im, z_ls, z_lk, z_lt, z_ly, z_ln, z_nu, b8, b9, z_wn, b11, z_go, z_mk, z_mf, z_mt, z_mn))
    (H1 : z_st ≠ 0 → ∀ o' b8 b9 b11, (∀ t, t < 4 → o' t = ko_K o (kl_i o s 4) t) → vh_H b8 (kh_K h (kl_i o s 4)) → vh_W b9 (kw_K w (kl_i o s 4)) → (∀ j, j < 12 → b11 j = kp_K z_pr (kl_i o s 4) j) → post (nI (cl_i o s 4)) (oc_E o', nI (if d = true then 2 else 3), 0, 0, z_ns, z_nm, z_sl, z_pa, z_tr, z_td, z_ha, z_cc, z_fi, z_wa, z_se, z_lo, z_im, z_ls, z_lk, z_lt, z_ly, z_ln, z_nu, b8, b9, z_wn, b11, z_go, z_mk, z_mf, z_mt, z_mn)) :
    wpX_breakLeader post (z_op, z_st, z_vo, z_he, z_ns, z_nm, z_sl, z_pa, z_tr, z_td, z_ha, z_cc, z_fi, z_wa, z_se, z_lo, z_im, z_ls, z_lk, z_lt, z_ly, z_ln, z_nu, z_ho, z_wk, z_wn, z_pr, z_go, z_mk, z_mf, z_mt, z_mn) := by
  subst ho
  refine pk_loop (σ := (Nat → Bool) × (Nat → Int32) × (Nat → Int32) × (Nat → Int32)) (fun f i s' => wX_breakLeader_4 post f (nI (cl_i o s i)) (nI i) (oc_E s'.1) z_st z_vo z_he z_ns z_nm z_sl z_pa z_tr z_td z_ha z_cc z_fi z_wa z_se z_lo z_im z_ls z_lk z_lt z_ly z_ln z_nu s'.2.1 s'.2.2.1 z_wn s'.2.2.2 z_go z_mk z_mf z_mt z_mn)
    (fun i s' => (∀ t, t < 4 → s'.1 t = ko_K o (kl_i o s i) t) ∧ vh_H s'.2.1 (kh_K h (kl_i o s i)) ∧ vh_W s'.2.2.1 (kw_K w (kl_i o s i)) ∧ (∀ j, j < 12 → s'.2.2.2 j = kp_K z_pr (kl_i o s i) j))
    4 0 (o, z_ho, z_wk, z_pr) (by omega) ?_ ?_ ?_
  · refine ⟨fun t ht => ?_, vh_Hc hh (fun k hk => ?_), vh_Wg hw (fun t ht k hk => ?_), fun j hj => ?_⟩
    · unfold ko_K; rw [kl_0]; simp
    · unfold kh_K; rw [kl_0]; rfl
    · unfold kw_K; rw [kl_0]; simp
    · unfold kp_K; rw [kl_0]; rfl
  · rintro f ⟨o', b8, b9, b11⟩ ⟨ho', h8, h9, h11⟩
    dsimp only at ho' h8 h9 h11
    show wX_breakLeader_4 post (f + 1) (nI (cl_i o s 4)) (nI 4) (oc_E o') z_st z_vo z_he z_ns z_nm z_sl z_pa z_tr z_td z_ha z_cc z_fi z_wa z_se z_lo z_im z_ls z_lk z_lt z_ly z_ln z_nu b8 b9 z_wn b11 z_go z_mk z_mf z_mt z_mn
    refine pk_le 4 4 (fun _ => br_c (fun z => H0 z o' b8 b9 b11 ho' h8 h9 h11) (fun z => ?_)) (fun z => absurd z (by omega))
    have R := H1 z o' b8 b9 b11 ho' h8 h9 h11
    refine ml_isLogged 3 n (by omega) hn hls (fun q => ?_) (fun q => ?_)
    · rw [if_pos (hd.mpr q)] at R
      exact br_f (by decide) R
    · rw [if_neg (fun y => q (hd.mp y))] at R
      exact br_t rfl R
  · rintro f i ⟨o', b8, b9, b11⟩ hi ⟨ho', h8, h9, h11⟩ hw'
    dsimp only at ho' h8 h9 h11
    have hw2 : ∀ o' b8 b9 b11 c, c = nI (cl_i o s (i + 1)) → (∀ t, t < 4 → o' t = ko_K o (kl_i o s (i + 1)) t) → vh_H b8 (kh_K h (kl_i o s (i + 1))) → vh_W b9 (kw_K w (kl_i o s (i + 1))) → (∀ j, j < 12 → b11 j = kp_K z_pr (kl_i o s (i + 1)) j) →
        wX_breakLeader_4 post f c (nI (i + 1)) (oc_E o') z_st z_vo z_he z_ns z_nm z_sl z_pa z_tr z_td z_ha z_cc z_fi z_wa z_se z_lo z_im z_ls z_lk z_lt z_ly z_ln z_nu b8 b9 z_wn b11 z_go z_mk z_mf z_mt z_mn := by
      intro o' b8 b9 b11 c hc e1 e2 e3 e4
      subst hc
      exact hw' (o', b8, b9, b11) ⟨e1, e2, e3, e4⟩
    clear hw'
    have oi : o' i = o i := by
      rw [ho' i hi]
      unfold ko_K kl_i
      simp
    have skip : ¬ (o i = true ∧ i ≠ s) → wX_breakLeader_4 post f (nI (cl_i o s i)) (nI (i + 1)) (oc_E o') z_st z_vo z_he z_ns z_nm z_sl z_pa z_tr z_td z_ha z_cc z_fi z_wa z_se z_lo z_im z_ls z_lk z_lt z_ly z_ln z_nu b8 b9 z_wn b11 z_go z_mk z_mf z_mt z_mn := by
      intro e
      refine hw2 o' b8 b9 b11 _ ?_ (fun t ht => ?_) (vh_Hc h8 (fun k hk => ?_)) (vh_Wg h9 (fun t ht k hk => ?_)) (fun j hj => ?_)
      · rw [cl_i, if_neg e]; rfl
      · unfold ko_K; rw [kl_no e]; exact ho' t ht
      · unfold kh_K; rw [kl_no e]
      · unfold kw_K; rw [kl_no e]
      · unfold kp_K; rw [kl_no e]; exact h11 j hj
    have F32 : (o i = true ∧ i ≠ s) → wX_breakLeader_32 post (wX_breakLeader_4 post f) (nI (cl_i o s i)) (nI i) (oc_E o') z_st z_vo z_he z_ns z_nm z_sl z_pa z_tr z_td z_ha z_cc z_fi z_wa z_se z_lo z_im z_ls z_lk z_lt z_ly z_ln z_nu b8 b9 z_wn b11 z_go z_mk z_mf z_mt z_mn := by
      intro e
      refine ml_rollBack (o := o') hi rfl h8 h9 (fun d8 d9 d11 f8 f9 f11 => ?_)
      show ∀ x3, x3 = nI (cl_i o s i) + 1 → ∀ x4, x4 = nI i + 1 → wX_breakLeader_4 post f x3 x4 (oc_E (oc_up o' i false)) z_st z_vo z_he z_ns z_nm z_sl z_pa z_tr z_td z_ha z_cc z_fi z_wa z_se z_lo z_im z_ls z_lk z_lt z_ly z_ln z_nu d8 d9 z_wn d11 z_go z_mk z_mf z_mt z_mn
      refine nm_e (nm_r (nI_1 i) ?_)
      refine hw2 (oc_up o' i false) d8 d9 d11 _ ?_ (fun t ht => ?_) (vh_Hc f8 (fun k hk => ?_)) (vh_Wg f9 (fun t ht k hk => ?_)) (fun j hj => ?_)
      · rw [nI_1, cl_i, if_pos e]
      · unfold oc_up ko_K
        rw [kl_yes e]
        by_cases et : t = i
        · simp [et]
        · rw [if_neg et, ho' t ht]
          unfold ko_K
          simp [et]
      · unfold hr_a kh_K
        rw [kl_yes e]
        by_cases ek : kl_i o s i (h k) = true
        · simp [ek]
        · simp only [Bool.not_eq_true] at ek
          rw [ek]
          by_cases e1 : h k = i
          · simp [e1]
          · simp [e1]
      · unfold wr_a kw_K
        rw [kl_yes e]
        by_cases et : t = i
        · simp [et]
        · simp [et]
      · rw [f11 j hj]
        unfold kp_K
        rw [kl_yes e]
        by_cases et : j / 3 = i
        · simp [et]
        · rw [if_neg et]
          refine (h11 j hj).trans ?_
          unfold kp_K
          simp [et]
    show wX_breakLeader_4 post (f + 1) (nI (cl_i o s i)) (nI i) (oc_E o') z_st z_vo z_he z_ns z_nm z_sl z_pa z_tr z_td z_ha z_cc z_fi z_wa z_se z_lo z_im z_ls z_lk z_lt z_ly z_ln z_nu b8 b9 z_wn b11 z_go z_mk z_mf z_mt z_mn
    refine pk_le 4 i (fun z => absurd z (by omega)) (fun _ => ?_)
    refine ml_isOpen (o := o') hi rfl (fun e => br_t rfl (nm_r (nI_1 i) (skip (fun y => by rw [oi, y.1] at e; exact absurd e (by decide))))) (fun e => br_f (by decide) ?_)
    rw [oi] at e
    show (z_st = 0 → _) ∧ (¬ z_st = 0 → _)
    rcases hst with q | q
    · exact br_t q.1 (F32 ⟨e, by omega⟩)
    · refine br_f q.1 ?_
      have qs : z_sl = nI s := q.2.2
      by_cases es : i = s
      · exact br_t (by show nI i = z_sl; rw [qs, es]) (nm_r (nI_1 i) (skip (fun y => y.2 es)))
      · exact br_f (by show ¬ nI i = z_sl; rw [qs, nI_eq (by omega) (by omega)]; exact es) (F32 ⟨e, es⟩)
end BRK
end
section
/-! ===== the control of a commit: leader's state, votes, heard, happened, decided, the queue, sent, lost, each machine's status ===== -/
abbrev cs_C : Type := Nat × Nat × Nat × Bool × Bool × List (Nat × Nat × Nat) × Nat × Nat × (Nat → Nat)
def cs_up (f : Nat → Nat) (m v : Nat) : Nat → Nat := fun i => if i = m then v else f i
def cs_lost (tr se lo : Nat) : Bool := decide (tr = 6) && decide (lo < 10) && decide ((se + 1) * 7 % 5 < 3)
def cs_many (tr : Nat) (l : Bool) (e : Nat × Nat × Nat) : List (Nat × Nat × Nat) := if l = true then [] else if tr = 7 then [e, e] else [e]
def cs_send (tr k f t : Nat) : cs_C → Option cs_C
  | (st, vo, he, ha, de, q, se, lo, ms) =>
    if q.length < 60 ∧ se < 1000 ∧ lo < 1000 then some (st, vo, he, ha, de, q ++ cs_many tr (cs_lost tr se lo) (k, f, t), se + 1, lo + (cs_lost tr se lo).toNat, ms) else none
def cs_rem1 (pa tr m : Nat) : cs_C → Option cs_C
  | (st, vo, he, ha, de, q, se, lo, ms) =>
    if pa.testBit m = true then
      if st = 1 then (if vo.testBit m = false then cs_send tr 1 3 m (st, vo, he, ha, de, q, se, lo, ms) else some (st, vo, he, ha, de, q, se, lo, ms))
      else if he.testBit m = true then some (st, vo, he, ha, de, q, se, lo, ms)
      else if st = 2 then cs_send tr 4 3 m (st, vo, he, ha, de, q, se, lo, ms)
      else if st = 3 then (if ms m = 1 ∨ ms m = 4 then cs_send tr 7 m 3 (st, vo, he, ha, de, q, se, lo, ms) else cs_send tr 5 3 m (st, vo, he, ha, de, q, se, lo, ms))
      else some (st, vo, he, ha, de, q, se, lo, ms)
    else some (st, vo, he, ha, de, q, se, lo, ms)
def cs_rem (pa tr : Nat) (c : cs_C) : Option cs_C := (cs_rem1 pa tr 0 c).bind (fun c => (cs_rem1 pa tr 1 c).bind (cs_rem1 pa tr 2))
/-- a machine's status after it has broken down -/
def cs_bs (v : Nat) : Option Nat := if v = 0 then some 3 else if v = 1 then some 4 else if v = 2 then some 2 else if v = 5 then some 5 else none
def cs_brk (m : Nat) : cs_C → Option cs_C
  | (st, vo, he, ha, de, q, se, lo, ms) => if ha = false ∧ st ≠ 0 then (cs_bs (ms m)).bind (fun v => some (st, vo, he, true, de, q, se, lo, cs_up ms m v)) else none
def cs_ldr : cs_C → Option cs_C
  | (st, vo, he, ha, de, q, se, lo, ms) => if ha = false ∧ st ≠ 0 then some (if de = true then 2 else 3, 0, 0, true, de, q, se, lo, ms) else none
def cs_dec3 (pa tr td : Nat) : cs_C → Option cs_C
  | (st, vo, he, ha, de, q, se, lo, ms) =>
    if pa.testBit td = false ∧ (tr = 4 ∨ tr = 5) ∧ ha = false then (cs_brk td (st, vo, he, ha, de, q, se, lo, ms)).bind (cs_rem pa tr) else cs_rem pa tr (st, vo, he, ha, de, q, se, lo, ms)
def cs_dec (pa tr td : Nat) : cs_C → Option cs_C
  | (st, vo, he, ha, de, q, se, lo, ms) =>
    if vo ≠ pa then some (st, vo, he, ha, de, q, se, lo, ms)
    else if tr = 2 ∧ ha = false then cs_ldr (st, vo, he, ha, de, q, se, lo, ms)
    else if de = true then none
    else if tr = 3 ∧ ha = false then (cs_ldr (2, vo, he, ha, true, q, se, lo, ms)).bind (cs_dec3 pa tr td)
    else cs_dec3 pa tr td (2, vo, he, ha, true, q, se, lo, ms)
def cs_prep (tr td m : Nat) : cs_C → Option cs_C
  | (st, vo, he, ha, de, q, se, lo, ms) =>
    if tr = 1 ∧ ha = false ∧ m = td then cs_brk m (st, vo, he, ha, de, q, se, lo, ms)
    else if ms m = 3 then cs_send tr 3 m 3 (st, vo, he, ha, de, q, se, lo, ms)
    else if ms m = 1 then cs_send tr 2 m 3 (st, vo, he, ha, de, q, se, lo, ms)
    else if ms m = 0 then cs_send tr 2 m 3 (st, vo, he, ha, de, q, se, lo, cs_up ms m 1)
    else none
def cs_com2 (tr td m : Nat) : cs_C → Option cs_C
  | (st, vo, he, ha, de, q, se, lo, ms) =>
    if tr = 5 ∧ ha = false ∧ m = td then cs_brk m (st, vo, he, ha, de, q, se, lo, ms)
    else cs_send tr 6 m 3 (st, vo, he, ha, de, q, se, lo, ms)
def cs_com (tr td m : Nat) : cs_C → Option cs_C
  | (st, vo, he, ha, de, q, se, lo, ms) =>
    if tr = 4 ∧ ha = false ∧ m = td then cs_brk m (st, vo, he, ha, de, q, se, lo, ms)
    else if ms m = 1 ∨ ms m = 4 then cs_com2 tr td m (st, vo, he, ha, de, q, se, lo, cs_up ms m 2)
    else if ms m = 2 then cs_com2 tr td m (st, vo, he, ha, de, q, se, lo, ms)
    else none
def cs_ref (tr m : Nat) : cs_C → Option cs_C
  | (st, vo, he, ha, de, q, se, lo, ms) =>
    if ms m = 1 ∨ ms m = 3 then cs_send tr 6 m 3 (st, vo, he, ha, de, q, se, lo, cs_up ms m 6) else none
def cs_led (pa tr td k f : Nat) : cs_C → Option cs_C
  | (st, vo, he, ha, de, q, se, lo, ms) =>
    if k = 2 ∧ st = 1 then (if f < 3 then cs_dec pa tr td (st, vo ||| 2 ^ f, he, ha, de, q, se, lo, ms) else none)
    else if k = 3 ∧ st = 1 then some (3, vo, he, ha, de, q, se, lo, ms)
    else if k = 6 ∧ (st = 2 ∨ st = 3) then (if f < 3 then some (st, vo, he ||| 2 ^ f, ha, de, q, se, lo, ms) else none)
    else if k = 7 then (if f < 3 then cs_send tr (if de = true then 4 else 5) 3 f (st, vo, he, ha, de, q, se, lo, ms) else none)
    else some (st, vo, he, ha, de, q, se, lo, ms)
def cs_dlv (pa tr td : Nat) : cs_C → Option cs_C
  | (st, vo, he, ha, de, [], se, lo, ms) => none
  | (st, vo, he, ha, de, (k, f, t) :: q, se, lo, ms) =>
    if t = 3 then cs_led pa tr td k f (st, vo, he, ha, de, q, se, lo, ms)
    else if t < 3 then
      (if k = 1 then cs_prep tr td t (st, vo, he, ha, de, q, se, lo, ms)
       else if k = 4 then cs_com tr td t (st, vo, he, ha, de, q, se, lo, ms)
       else cs_ref tr t (st, vo, he, ha, de, q, se, lo, ms))
    else none
def cs_over (pa : Nat) : cs_C → Bool
  | (st, vo, he, ha, de, q, se, lo, ms) => (decide (st = 2) || decide (st = 3)) && decide (he = pa)
def cs_step (pa tr td : Nat) : cs_C → Option cs_C
  | (st, vo, he, ha, de, [], se, lo, ms) => cs_rem pa tr (st, vo, he, ha, de, [], se, lo, ms)
  | (st, vo, he, ha, de, e :: q, se, lo, ms) => cs_dlv pa tr td (st, vo, he, ha, de, e :: q, se, lo, ms)
/-- does the commit come off? -/
def cs_res (pa tr td : Nat) : Bool := !(decide (tr = 2) || (decide (tr = 1) && pa.testBit td))
def cs_hap (tr : Nat) : Bool := decide (1 ≤ tr ∧ tr ≤ 5)
def cs_fin (pa tr td : Nat) : cs_C → Bool
  | (st, vo, he, ha, de, q, se, lo, ms) => (de == cs_res pa tr td) && (ha == cs_hap tr) &&
    (List.range 3).all (fun m => if pa.testBit m then ms m == (if cs_res pa tr td then 2 else 6) else ms m == 5)
def cs_run (pa tr td : Nat) : Nat → cs_C → Bool
  | 0, _ => false
  | n + 1, c => if cs_over pa c = true then cs_fin pa tr td c else match cs_step pa tr td c with
    | none => false
    | some c' => cs_run pa tr td n c'
def cs_c0 (pa : Nat) : cs_C := (1, 0, 0, false, false, [], 0, 0, fun m => if pa.testBit m = true then 0 else 5)
def cs_ini (pa tr td : Nat) : Option cs_C :=
  if pa.testBit td = false ∧ tr = 1 then (cs_brk td (cs_c0 pa)).bind (cs_dec pa tr td) else cs_dec pa tr td (cs_c0 pa)
def cs_all (pa tr td : Nat) : Bool := match cs_ini pa tr td with
  | none => false
  | some c => cs_run pa tr td 64 c
theorem cs_ok : ∀ pa, pa < 8 → ∀ tr, tr < 8 → ∀ td, td < 3 → cs_all pa tr td = true := by decide +kernel
end
section
/-! ===== what a commit starts from (P), and the relation between the control and the state ===== -/
abbrev cp_P : Type := Nat × Nat × Nat × Nat × Nat × (Nat → Bool) × (Nat → Nat) × (Nat → Nat → Bool) × (Nat → Int32) × (Nat → Int32) × (Nat → Int32) × (Nat → Int32) × Int32
def pp_N (P : cp_P) : Nat := P.1
def pp_sl (P : cp_P) : Nat := P.2.1
def pp_pa (P : cp_P) : Nat := P.2.2.1
def pp_tr (P : cp_P) : Nat := P.2.2.2.1
def pp_td (P : cp_P) : Nat := P.2.2.2.2.1
def pp_o (P : cp_P) : Nat → Bool := P.2.2.2.2.2.1
def pp_h (P : cp_P) : Nat → Nat := P.2.2.2.2.2.2.1
def pp_w (P : cp_P) : Nat → Nat → Bool := P.2.2.2.2.2.2.2.1
def pp_wn (P : cp_P) : Nat → Int32 := P.2.2.2.2.2.2.2.2.1
def pp_nu (P : cp_P) : Nat → Int32 := P.2.2.2.2.2.2.2.2.2.1
def pp_im (P : cp_P) : Nat → Int32 := P.2.2.2.2.2.2.2.2.2.2.1
def pp_go (P : cp_P) : Nat → Int32 := P.2.2.2.2.2.2.2.2.2.2.2.1
def pp_cc (P : cp_P) : Int32 := P.2.2.2.2.2.2.2.2.2.2.2.2
def mb_B (P : cp_P) : Prop := 1 ≤ pp_N P ∧ pp_N P < 1000 ∧ pp_sl P < 4 ∧ pp_pa P < 8 ∧ pp_tr P < 8 ∧ pp_td P < 3 ∧ pp_o P (pp_sl P) = true ∧ (∀ m, m < 3 → (pp_pa P).testBit m = hs_a (pp_h P) m (pp_sl P)) ∧ (∀ k, k < 12 → pp_h P k < 5) ∧ (∀ k, k < 12 → pp_w P (pp_sl P) k = true → pp_h P k = pp_sl P)
/-- the number of a key when the commit is done -/
def pp_nw (P : cp_P) (k : Nat) : Int32 := if pp_w P (pp_sl P) k = true then pp_wn P (pp_sl P * 12 + k) else pp_nu P k
/-- the others that are rolled back when the trouble strikes -/
def pp_kl (P : cp_P) (t : Nat) : Bool := !decide (t = pp_sl P) && (if pp_tr P = 2 ∨ pp_tr P = 3 then pp_o P t else hs_a (pp_h P) (pp_td P) t)
def pp_dd (P : cp_P) (ha : Bool) (t : Nat) : Bool := ha && pp_kl P t
/-- machine m's log when its status is s -/
def mx_LF (P : cp_P) (m s : Nat) (im ls lk lt ly ln : Nat → Int32) : Prop :=
  ∃ n, n ≤ 46 ∧ (s = 0 ∨ s = 3 ∨ s = 5 → n ≤ 40) ∧ (s = 1 ∨ s = 4 → n ≤ 45) ∧ ls m = nI n ∧
    (∀ i, i < n → ∃ x, 1 ≤ x ∧ x ≤ pp_N P ∧ lt (m * 64 + i) = nI x ∧ (lk (m * 64 + i) = 1 → ∃ k, k < 12 ∧ k % 3 = m ∧ ly (m * 64 + i) = nI k ∧ (x = pp_N P → pp_w P (pp_sl P) k = true ∧ ln (m * 64 + i) = pp_wn P (pp_sl P * 12 + k))) ∧
      (lk (m * 64 + i) = 3 → s ≠ 2 → x < pp_N P) ∧ (s = 0 ∨ s = 3 ∨ s = 5 → x < pp_N P)) ∧
    (s = 1 ∨ s = 4 → ∀ k, k < 12 → k % 3 = m → pp_w P (pp_sl P) k = true → pl_e lk lt ly (m * 64) (nI (pp_N P)) k n = true) ∧
    (∀ k, k < 12 → k % 3 = m → pl_r lk lt ly ln (m * 64) n k n (im k) = if s = 2 then pp_nw P k else pp_nu P k) ∧
    pl_o lk lt (m * 64) n = if s = 1 ∨ s = 4 then nI (pp_N P) else 0
def mx_hw (P : cp_P) (dd : Nat → Bool) (ms : Nat → Nat) (h : Nat → Nat) (w : Nat → Nat → Bool) : Prop :=
  (∀ k, k < 12 → pp_h P k ≠ pp_sl P → h k = kh_K (pp_h P) dd k) ∧ (∀ k, k < 12 → pp_h P k = pp_sl P → (h k = pp_sl P ∨ h k = 4) ∧ (ms (k % 3) = 0 → h k = pp_sl P)) ∧
  (∀ t, t < 4 → t ≠ pp_sl P → dd t = false → ∀ k, k < 12 → w t k = pp_w P t k) ∧ (∀ k, k < 12 → ms (k % 3) = 0 → w (pp_sl P) k = pp_w P (pp_sl P) k)
/-- numbers, promises, gone, as the statuses say -/
def mx_nu (P : cp_P) (ms : Nat → Nat) (nu : Nat → Int32) : Prop := ∀ k, k < 12 → nu k = if ms (k % 3) = 2 then pp_nw P k else pp_nu P k
def mx_pr (P : cp_P) (ms : Nat → Nat) (pr : Nat → Int32) : Prop := ∀ j, j < 12 → pr j = if j / 3 = pp_sl P ∧ (ms (j % 3) = 1 ∨ ms (j % 3) = 4) then nI (pp_N P) else 0
def mx_go (P : cp_P) (ms : Nat → Nat) (go : Nat → Int32) : Prop := (∀ j, j < 12 → j / 3 ≠ pp_sl P → go j = pp_go P j) ∧ (∀ m, m < 3 → (ms m = 0 ∨ ms m = 1) → go (pp_sl P * 3 + m) = 0) ∧ (∀ m, m < 3 → ms m = 3 → go (pp_sl P * 3 + m) ≠ 0)
def mx_D (P : cp_P) (dd : Nat → Bool) (ms : Nat → Nat) (op : Int32) (im ls lk lt ly ln nu ho wk wn pr go : Nat → Int32) : Prop :=
  op = oc_E (ko_K (pp_o P) dd) ∧ (∃ h w, vh_H ho h ∧ vh_W wk w ∧ mx_hw P dd ms h w) ∧ (∀ j, j < 48 → wn j = pp_wn P j) ∧ mx_nu P ms nu ∧ (∀ k, k < 12 → im k = pp_im P k) ∧ mx_pr P ms pr ∧ mx_go P ms go ∧
  (∀ m, m < 3 → mx_LF P m (ms m) im ls lk lt ly ln) ∧ (∀ m, m < 3 → ms m = 0 → hs_a (pp_h P) m (pp_sl P) = true)
/-- the leader's log -/
def mx_L (P : cp_P) (de : Bool) (ls lk lt : Nat → Int32) : Prop :=
  ∃ n, n ≤ 41 ∧ (de = false → n ≤ 40) ∧ ls 3 = nI n ∧ (de = true ↔ ∃ i, i < n ∧ lk (3 * 64 + i) = 5 ∧ lt (3 * 64 + i) = nI (pp_N P)) ∧ (∀ i, i < n → ∃ x, x ≤ pp_N P ∧ lt (3 * 64 + i) = nI x)
/-- the queue, from place p on -/
def mx_q (N : Nat) (mk mf mt mn : Nat → Int32) : Nat → List (Nat × Nat × Nat) → Prop
  | _, [] => True
  | p, e :: q => (mk p = nI e.1 ∧ mf p = nI e.2.1 ∧ mt p = nI e.2.2 ∧ mn p = nI N ∧ e.1 < 8 ∧ e.2.1 < 4 ∧ e.2.2 < 4) ∧ mx_q N mk mf mt mn ((p + 1) % 64) q
def mx_Q (P : cp_P) (q : List (Nat × Nat × Nat)) (se lo : Nat) (fi wa zse zlo : Int32) (mk mf mt mn : Nat → Int32) : Prop :=
  ∃ p, p < 64 ∧ fi = nI p ∧ wa = nI q.length ∧ q.length ≤ 62 ∧ zse = nI se ∧ se ≤ 1000 ∧ zlo = nI lo ∧ lo ≤ 1000 ∧ mx_q (pp_N P) mk mf mt mn p q
def mx_K (P : cp_P) (st vo he : Nat) (ha : Bool) (zst zvo zhe zns znm zsl zpa ztr ztd zha zcc : Int32) : Prop :=
  (zst = nI st ∧ st < 4) ∧ (zvo = nI vo ∧ vo < 8) ∧ (zhe = nI he ∧ he < 8) ∧ zns = nI (pp_N P) ∧ znm = nI (pp_N P) ∧ zsl = nI (pp_sl P) ∧ zpa = nI (pp_pa P) ∧ ztr = nI (pp_tr P) ∧ ztd = nI (pp_td P) ∧ zha = nI ha.toNat ∧ zcc = pp_cc P
def mx_M (P : cp_P) (dd : Nat → Bool) (c : cs_C) (u : St1) : Prop := match c, u with
  | (st, vo, he, ha, de, q, se, lo, ms), (z_op, z_st, z_vo, z_he, z_ns, z_nm, z_sl, z_pa, z_tr, z_td, z_ha, z_cc, z_fi, z_wa, z_se, z_lo, z_im, z_ls, z_lk, z_lt, z_ly, z_ln, z_nu, z_ho, z_wk, z_wn, z_pr, z_go, z_mk, z_mf, z_mt, z_mn) =>
    mx_K P st vo he ha z_st z_vo z_he z_ns z_nm z_sl z_pa z_tr z_td z_ha z_cc ∧ mx_Q P q se lo z_fi z_wa z_se z_lo z_mk z_mf z_mt z_mn ∧ mx_D P dd ms z_op z_im z_ls z_lk z_lt z_ly z_ln z_nu z_ho z_wk z_wn z_pr z_go ∧ mx_L P de z_ls z_lk z_lt
/-! ===== the queue ===== -/
theorem mq_upd {N : Nat} {mk mf mt mn : Nat → Int32} {a b c d : Int32} {j : Nat} : ∀ q p, p < 64 → (∀ i, i < q.length → (p + i) % 64 ≠ j) → mx_q N mk mf mt mn p q → mx_q N (upd mk j a) (upd mf j b) (upd mt j c) (upd mn j d) p q := by
  intro q
  induction q with
  | nil => intro p _ _ _; trivial
  | cons e q ih =>
    intro p hp hj h
    obtain ⟨⟨h1, h2, h3, h4, h5⟩, h6⟩ := h
    have e0 : p ≠ j := by
      have := hj 0 (by simp)
      rw [show (p + 0) % 64 = p by omega] at this
      exact this
    refine ⟨⟨by rw [pk_un e0]; exact h1, by rw [pk_un e0]; exact h2, by rw [pk_un e0]; exact h3, by rw [pk_un e0]; exact h4, h5⟩, ih _ (by omega) (fun i hi => ?_) h6⟩
    have := hj (i + 1) (by simp; omega)
    rw [show ((p + 1) % 64 + i) % 64 = (p + (i + 1)) % 64 by omega]
    exact this
theorem mq_push {N : Nat} {mk mf mt mn : Nat → Int32} (e : Nat × Nat × Nat) (he : e.1 < 8 ∧ e.2.1 < 4 ∧ e.2.2 < 4) : ∀ q p, p < 64 → q.length < 64 → mx_q N mk mf mt mn p q →
    mx_q N (upd mk ((p + q.length) % 64) (nI e.1)) (upd mf ((p + q.length) % 64) (nI e.2.1)) (upd mt ((p + q.length) % 64) (nI e.2.2)) (upd mn ((p + q.length) % 64) (nI N)) p (q ++ [e]) := by
  intro q
  induction q with
  | nil =>
    intro p hp _ _
    rw [show (p + ([] : List (Nat × Nat × Nat)).length) % 64 = p by simp; omega]
    exact ⟨⟨pk_us, pk_us, pk_us, pk_us, he⟩, trivial⟩
  | cons d q ih =>
    intro p hp hl h
    obtain ⟨⟨h1, h2, h3, h4, h5⟩, h6⟩ := h
    have hl' : q.length + 1 < 64 := by simpa using hl
    have ej : (p + (d :: q).length) % 64 = ((p + 1) % 64 + q.length) % 64 := by simp; omega
    rw [ej]
    have e0 : p ≠ ((p + 1) % 64 + q.length) % 64 := by omega
    exact ⟨⟨by rw [pk_un e0]; exact h1, by rw [pk_un e0]; exact h2, by rw [pk_un e0]; exact h3, by rw [pk_un e0]; exact h4, h5⟩, ih _ (by omega) (by omega) h6⟩
section SEND
variable {z_op z_st z_vo z_he z_ns z_nm z_sl z_pa z_tr z_td z_ha z_cc z_fi z_wa z_se z_lo : Int32} {z_im z_ls z_lk z_lt z_ly z_ln z_nu z_ho z_wk z_wn z_pr z_go z_mk z_mf z_mt z_mn : Nat → Int32}
theorem ml_s95 {post : St1 → Prop} {P : cp_P} {lo se : Nat} (k f t : Nat) (hk : k < 8) (hf : f < 4) (ht : t < 4) (hnm : z_nm = nI (pp_N P)) (times : Nat) (h2 : times ≤ 2) :
    ∀ r q, r ≤ times → q.length + r ≤ 62 → ∀ wa mk mf mt mn, mx_Q P q se lo z_fi wa z_se z_lo mk mf mt mn →
    (∀ wa mk mf mt mn, mx_Q P (q ++ List.replicate r (k, f, t)) se lo z_fi wa z_se z_lo mk mf mt mn → post (z_op, z_st, z_vo, z_he, z_ns, z_nm, z_sl, z_pa, z_tr, z_td, z_ha, z_cc, z_fi, wa, z_se, z_lo, z_im, z_ls, z_lk, z_lt, z_ly, z_ln, z_nu, z_ho, z_wk, z_wn, z_pr, z_go, mk, mf, mt, mn)) →
    wX_send_95 post (nI k) (nI f) (nI t) (nI times) z_op z_st z_vo z_he z_ns z_nm z_sl z_pa z_tr z_td z_ha z_cc z_fi z_se z_lo (r + 1) (nI (times - r)) wa z_im z_ls z_lk z_lt z_ly z_ln z_nu z_ho z_wk z_wn z_pr z_go mk mf mt mn := by
  intro r
  induction r with
  | zero =>
    intro q _ _ wa mk mf mt mn hQ H
    refine pk_le times (times - 0) (fun _ => ?_) (fun z => absurd z (by omega))
    exact H wa mk mf mt mn (by simpa using hQ)
  | succ r ih =>
    intro q hr hq wa mk mf mt mn hQ H
    obtain ⟨p, hp, e1, e2, e3, e4, e5, e6, e7, e8⟩ := hQ
    refine pk_le times (times - (r + 1)) (fun z => absurd z (by omega)) (fun _ => pk_le 64 q.length (fun z => absurd z (by omega)) (fun _ => ⟨by decide, ?_⟩) rfl e2)
    have ea : z_fi + wa - (z_fi + wa) / 64 * 64 = nI ((p + q.length) % 64) := by
      rw [e1, e2, nI_add, show (64 : Int32) = nI 64 from rfl, pk_rem (by omega) (by omega) (by omega)]
    refine nm_r ea ⟨pk_in ((p + q.length) % 64) 64 (by omega), ?_⟩
    intro b13 e13
    refine ⟨pk_in ((p + q.length) % 64) 64 (by omega), ?_⟩
    intro b14 e14
    refine ⟨pk_in ((p + q.length) % 64) 64 (by omega), ?_⟩
    intro b15 e15
    refine ⟨pk_in ((p + q.length) % 64) 64 (by omega), ?_⟩
    intro b16 e16
    rw [nI_clamp (by omega), hc_b k (by omega)] at e13
    rw [nI_clamp (by omega), hc_b f (by omega)] at e14
    rw [nI_clamp (by omega), hc_b t (by omega)] at e15
    rw [nI_clamp (by omega), hnm] at e16
    have ew : wa + 1 = nI (q.length + 1) := by rw [e2, nI_1]
    have ex : nI (times - (r + 1)) + 1 = nI (times - r) := by rw [nI_1, show times - (r + 1) + 1 = times - r by omega]
    refine nm_r ew (nm_r ex ?_)
    refine ih (q ++ [(k, f, t)]) (by omega) (by simp; omega) _ _ _ _ _ ?_ ?_
    · refine ⟨p, hp, e1, by simp, by simp; omega, e4, e5, e6, e7, ?_⟩
      rw [e13, e14, e15, e16]
      exact mq_push (k, f, t) ⟨hk, hf, ht⟩ q p hp (by omega) e8
    · intro wa mk mf mt mn hQ
      refine H wa mk mf mt mn ?_
      rw [show q ++ List.replicate (r + 1) (k, f, t) = (q ++ [(k, f, t)]) ++ List.replicate r (k, f, t) by rw [List.append_assoc]; rfl]
      exact hQ
theorem ml_send {post : St1 → Prop} {P : cp_P} {q : List (Nat × Nat × Nat)} {lo se : Nat} (k f t : Nat) (hk : k < 8) (hf : f < 4) (ht : t < 4) (hnm : z_nm = nI (pp_N P)) (htr : z_tr = nI (pp_tr P)) (h8 : pp_tr P < 8) (hq : q.length < 60) (hse : se < 1000) (hlo : lo < 1000)
    (hQ : mx_Q P q se lo z_fi z_wa z_se z_lo z_mk z_mf z_mt z_mn)
    (H : ∀ wa zse zlo mk mf mt mn, mx_Q P (q ++ cs_many (pp_tr P) (cs_lost (pp_tr P) se lo) (k, f, t)) (se + 1) (lo + (cs_lost (pp_tr P) se lo).toNat) z_fi wa zse zlo mk mf mt mn → post (z_op, z_st, z_vo, z_he, z_ns, z_nm, z_sl, z_pa, z_tr, z_td, z_ha, z_cc, z_fi, wa, zse, zlo, z_im, z_ls, z_lk, z_lt, z_ly, z_ln, z_nu, z_ho, z_wk, z_wn, z_pr, z_go, mk, mf, mt, mn)) :
    wpX_send post (z_op, z_st, z_vo, z_he, z_ns, z_nm, z_sl, z_pa, z_tr, z_td, z_ha, z_cc, z_fi, z_wa, z_se, z_lo, z_im, z_ls, z_lk, z_lt, z_ly, z_ln, z_nu, z_ho, z_wk, z_wn, z_pr, z_go, z_mk, z_mf, z_mt, z_mn) (nI k) (nI f) (nI t) := by
  obtain ⟨p, hp, e1, e2, e3, e4, e5, e6, e7, e8⟩ := hQ
  have F63 : ∀ (l : Bool) (z : Int32), z = nI l.toNat → l = cs_lost (pp_tr P) se lo → wX_send_63 post (nI k) (nI f) (nI t) z z z_lo z_op z_st z_vo z_he z_ns z_nm z_sl z_pa z_tr z_td z_ha z_cc z_fi z_wa (nI (se + 1)) z_lo z_im z_ls z_lk z_lt z_ly z_ln z_nu z_ho z_wk z_wn z_pr z_go z_mk z_mf z_mt z_mn := by
    intro l z hz hl
    subst hz
    have el : z_lo + nI l.toNat = nI (lo + l.toNat) := by rw [e6, nI_add]
    refine nm_r el ?_
    have base : mx_Q P q (se + 1) (lo + l.toNat) z_fi z_wa (nI (se + 1)) (nI (lo + l.toNat)) z_mk z_mf z_mt z_mn := ⟨p, hp, e1, e2, e3, rfl, by omega, rfl, by cases l <;> simp <;> omega, e8⟩
    cases l with
    | true =>
      refine br_f (by decide) ⟨0 + 1, ?_⟩
      refine ml_s95 k f t hk hf ht hnm 0 (by omega) 0 q (by omega) (by omega) _ _ _ _ _ base (fun wa mk mf mt mn h => ?_)
      refine H wa _ _ mk mf mt mn ?_
      rw [← hl]
      exact h
    | false =>
      refine br_t rfl ?_
      refine pk_eq (pp_tr P) 7 (fun z => ⟨2 + 1, ?_⟩) (fun z => ⟨1 + 1, ?_⟩) htr
      · refine ml_s95 k f t hk hf ht hnm 2 (by omega) 2 q (by omega) (by omega) _ _ _ _ _ base (fun wa mk mf mt mn h => ?_)
        refine H wa _ _ mk mf mt mn ?_
        rw [← hl]
        unfold cs_many
        rw [if_neg (by decide), if_pos z]
        exact h
      · refine ml_s95 k f t hk hf ht hnm 1 (by omega) 1 q (by omega) (by omega) _ _ _ _ _ base (fun wa mk mf mt mn h => ?_)
        refine H wa _ _ mk mf mt mn ?_
        rw [← hl]
        unfold cs_many
        rw [if_neg (by decide), if_neg z]
        exact h
  have F46 : ∀ (l : Bool) (z : Int32), z = nI l.toNat → l = cs_lost (pp_tr P) se lo → wX_send_46 post (nI k) (nI f) (nI t) z z_op z_st z_vo z_he z_ns z_nm z_sl z_pa z_tr z_td z_ha z_cc z_fi z_wa (nI (se + 1)) z_lo z_im z_ls z_lk z_lt z_ly z_ln z_nu z_ho z_wk z_wn z_pr z_go z_mk z_mf z_mt z_mn := by
    intro l z hz hl
    cases l with
    | true => exact br_f (by rw [hz]; decide) (by rw [hz]; exact F63 true _ rfl hl)
    | false => exact br_t (by rw [hz]; rfl) (by rw [hz]; exact F63 false _ rfl hl)
  have es : z_se + 1 = nI (se + 1) := by rw [e4, nI_1]
  refine nm_r es ?_
  have er : nI (se + 1) * 7 - nI (se + 1) * 7 / 5 * 5 = nI ((se + 1) * 7 % 5) := by
    rw [show (7 : Int32) = nI 7 from rfl, pk_mul, show (5 : Int32) = nI 5 from rfl, pk_rem (by omega) (by omega) (by omega)]
  refine pk_eq (pp_tr P) 6 (fun z => ?_) (fun z => F46 false 0 rfl (by unfold cs_lost; simp [z])) htr
  refine pk_le 10 lo (fun y => F46 false 0 rfl (by unfold cs_lost; simp [show ¬ lo < 10 by omega])) (fun y => ⟨by decide, ?_⟩) rfl e6
  refine pk_le 3 ((se + 1) * 7 % 5) (fun x => F46 false 0 rfl (by unfold cs_lost; simp [show ¬ (se + 1) * 7 % 5 < 3 by omega])) (fun x => F46 true 1 rfl (by unfold cs_lost; simp [z, y, x])) rfl er
end SEND
end
section
/-! ===== logs, by status ===== -/
theorem nn_inj {a b : Nat} (ha : a < 1000) (hb : b < 1000) : nI a = nI b ↔ a = b := nI_eq (by omega) (by omega)
section LF
variable {P : cp_P} {m s n : Nat} {im ls lk lt ly ln ls' lk' lt' ly' ln' : Nat → Int32}
/-- entries i < n of machine m are the same -/
def la_A (b n : Nat) (lk lt ly ln lk' lt' ly' ln' : Nat → Int32) : Prop := ∀ i, i < n → lk' (b + i) = lk (b + i) ∧ lt' (b + i) = lt (b + i) ∧ ly' (b + i) = ly (b + i) ∧ ln' (b + i) = ln (b + i)
theorem la_upd {b n : Nat} {a c d e : Int32} : la_A b n lk lt ly ln (upd lk (b + n) a) (upd lt (b + n) c) (upd ly (b + n) d) (upd ln (b + n) e) :=
  fun i hi => ⟨pk_un (by omega), pk_un (by omega), pk_un (by omega), pk_un (by omega)⟩
theorem la_oth {b' b n : Nat} {a c d e : Int32} (hb : b' + 64 ≤ b ∨ b + 64 ≤ b') (hn : n < 64) : la_A b' 64 lk lt ly ln (upd lk (b + n) a) (upd lt (b + n) c) (upd ly (b + n) d) (upd ln (b + n) e) :=
  fun i hi => ⟨pk_un (by omega), pk_un (by omega), pk_un (by omega), pk_un (by omega)⟩
theorem lf_same (hl : ls' m = ls m) (hA : la_A (m * 64) 64 lk lt ly ln lk' lt' ly' ln') (h : mx_LF P m s im ls lk lt ly ln) : mx_LF P m s im ls' lk' lt' ly' ln' := by
  obtain ⟨n, h1, h2, h3, h4, h5, h6, h7, h8⟩ := h
  have A : la_A (m * 64) n lk lt ly ln lk' lt' ly' ln' := fun i hi => hA i (by omega)
  refine ⟨n, h1, h2, h3, by rw [hl]; exact h4, fun i hi => ?_, fun hs k hk hm hw => ?_, fun k hk hm => ?_, ?_⟩
  · obtain ⟨a1, a2, a3, a4⟩ := A i hi
    rw [a1, a2, a3, a4]
    exact h5 i hi
  · rw [pl_e_eq (lk := lk) (lt := lt) (ly := ly) (ln := ln) n A]
    exact h6 hs k hk hm hw
  · rw [pl_r_eq n _ A (fun i hi _ v => pl_v_eq n v A)]
    exact h7 k hk hm
  · rw [pl_o_eq (lk := lk) (lt := lt) (ly := ly) (ln := ln) n A]
    exact h8
theorem lf_im {im' : Nat → Int32} (hi : ∀ k, k < 12 → im' k = im k) (h : mx_LF P m s im ls lk lt ly ln) : mx_LF P m s im' ls lk lt ly ln := by
  obtain ⟨n, h1, h2, h3, h4, h5, h6, h7, h8⟩ := h
  exact ⟨n, h1, h2, h3, h4, h5, h6, fun k hk hm => by rw [hi k hk]; exact h7 k hk hm, h8⟩
/-- a machine breaks down: its log is what it was -/
theorem lf_bs {v : Nat} (hb : cs_bs s = some v) (h : mx_LF P m s im ls lk lt ly ln) : mx_LF P m v im ls lk lt ly ln := by
  obtain ⟨n, h1, h2, h3, h4, h5, h6, h7, h8⟩ := h
  have hv : (s = 0 ∧ v = 3) ∨ (s = 1 ∧ v = 4) ∨ (s = 2 ∧ v = 2) ∨ (s = 5 ∧ v = 5) := by
    unfold cs_bs at hb
    split at hb
    · left; exact ⟨by assumption, by injection hb with hb; exact hb.symm⟩
    · split at hb
      · right; left; exact ⟨by assumption, by injection hb with hb; exact hb.symm⟩
      · split at hb
        · right; right; left; exact ⟨by assumption, by injection hb with hb; exact hb.symm⟩
        · split at hb
          · right; right; right; exact ⟨by assumption, by injection hb with hb; exact hb.symm⟩
          · exact absurd hb (by simp)
  refine ⟨n, h1, fun z => h2 (by omega), fun z => h3 (by omega), h4, fun i hi => ?_, fun z => h6 (by omega), fun k hk hm => ?_, ?_⟩
  · obtain ⟨x, a1, a2, a3, a4, a5, a6⟩ := h5 i hi
    exact ⟨x, a1, a2, a3, a4, fun z y => a5 z (by omega), fun z => a6 (by omega)⟩
  · rw [h7 k hk hm]
    exact ic_c (by omega)
  · rw [h8]
    exact ic_c (by omega)
theorem lf_36 (h : mx_LF P m 3 im ls lk lt ly ln) : mx_LF P m 6 im ls lk lt ly ln := by
  obtain ⟨n, h1, h2, h3, h4, h5, h6, h7, h8⟩ := h
  refine ⟨n, h1, fun z => absurd z (by omega), fun z => absurd z (by omega), h4, fun i hi => ?_, fun z => absurd z (by omega), fun k hk hm => ?_, ?_⟩
  · obtain ⟨x, a1, a2, a3, a4, a5, a6⟩ := h5 i hi
    exact ⟨x, a1, a2, a3, a4, fun z y => a5 z (by omega), fun z => absurd z (by omega)⟩
  · rw [h7 k hk hm]
    exact ic_c (by omega)
  · rw [h8]
    exact ic_c (by omega)
/-- a pass for the transaction that is being committed -/
theorem lf_val (hN : pp_N P < 1000) (h5 : ∀ i, i < n → ∃ x, 1 ≤ x ∧ x ≤ pp_N P ∧ lt (m * 64 + i) = nI x ∧ (lk (m * 64 + i) = 1 → ∃ k, k < 12 ∧ k % 3 = m ∧ ly (m * 64 + i) = nI k ∧ (x = pp_N P → pp_w P (pp_sl P) k = true ∧ ln (m * 64 + i) = pp_wn P (pp_sl P * 12 + k))))
    (h6 : ∀ k, k < 12 → k % 3 = m → pp_w P (pp_sl P) k = true → pl_e lk lt ly (m * 64) (nI (pp_N P)) k n = true) {k : Nat} (hk : k < 12) (hm : k % 3 = m) (v : Int32) :
    pl_v lk lt ly ln (m * 64) (nI (pp_N P)) k n v = if pp_w P (pp_sl P) k = true then pp_wn P (pp_sl P * 12 + k) else v := by
  rw [pl_v_val (c := pp_wn P (pp_sl P * 12 + k)) n v]
  · refine ic_c ⟨fun z => ?_, fun z => h6 k hk hm z⟩
    obtain ⟨i, hi, b1, b2, b3⟩ := (pl_e_iff n).mp z
    obtain ⟨x, a1, a2, a3, a4⟩ := h5 i hi
    obtain ⟨k', c1, c2, c3, c4⟩ := a4 b1
    rw [c3, nn_inj (by omega) (by omega)] at b3
    rw [a3, nn_inj (by omega) (by omega)] at b2
    rw [← b3]
    exact (c4 b2).1
  · intro i hi b1 b2 b3
    obtain ⟨x, a1, a2, a3, a4⟩ := h5 i hi
    obtain ⟨k', c1, c2, c3, c4⟩ := a4 b1
    rw [c3, nn_inj (by omega) (by omega)] at b3
    rw [a3, nn_inj (by omega) (by omega)] at b2
    rw [← b3]
    exact (c4 b2).2
theorem lf_oth (h5 : ∀ i, i < n → ∃ x, 1 ≤ x ∧ x ≤ pp_N P ∧ lt (m * 64 + i) = nI x ∧ (lk (m * 64 + i) = 1 → ∃ k, k < 12 ∧ k % 3 = m ∧ ly (m * 64 + i) = nI k ∧ (x = pp_N P → pp_w P (pp_sl P) k = true ∧ ln (m * 64 + i) = pp_wn P (pp_sl P * 12 + k))))
    {k : Nat} {x : Int32} (hk : k < 12) (hm : k % 3 ≠ m) (v : Int32) : pl_v lk lt ly ln (m * 64) x k n v = v := by
  refine pl_v_none n v (fun i hi b1 b3 => ?_)
  obtain ⟨x, a1, a2, a3, a4⟩ := h5 i hi
  obtain ⟨k', c1, c2, c3, c4⟩ := a4 b1
  rw [c3, nn_inj (by omega) (by omega)] at b3
  exact hm (by rw [← b3]; exact c2)
/-- while a promise is written: i keys are through -/
def mx_LP (P : cp_P) (m i : Nat) (im ls lk lt ly ln : Nat → Int32) : Prop :=
  ∃ n, n ≤ 40 + i ∧ ls m = nI n ∧
    (∀ i, i < n → ∃ x, 1 ≤ x ∧ x ≤ pp_N P ∧ lt (m * 64 + i) = nI x ∧ (lk (m * 64 + i) = 1 → ∃ k, k < 12 ∧ k % 3 = m ∧ ly (m * 64 + i) = nI k ∧ (x = pp_N P → pp_w P (pp_sl P) k = true ∧ ln (m * 64 + i) = pp_wn P (pp_sl P * 12 + k))) ∧ (lk (m * 64 + i) = 3 → x < pp_N P)) ∧
    (∀ j, j < i → pp_w P (pp_sl P) (m + 3 * j) = true → pl_e lk lt ly (m * 64) (nI (pp_N P)) (m + 3 * j) n = true) ∧
    (∀ k, k < 12 → k % 3 = m → pl_r lk lt ly ln (m * 64) n k n (im k) = pp_nu P k) ∧
    pl_o lk lt (m * 64) n = 0
theorem pq_0 (h : mx_LF P m 0 im ls lk lt ly ln) : mx_LP P m 0 im ls lk lt ly ln := by
  obtain ⟨n, h1, h2, h3, h4, h5, h6, h7, h8⟩ := h
  refine ⟨n, h2 (by omega), h4, fun i hi => ?_, fun j hj => absurd hj (by omega), fun k hk hm => ?_, ?_⟩
  · obtain ⟨x, a1, a2, a3, a4, a5, a6⟩ := h5 i hi
    exact ⟨x, a1, a2, a3, a4, fun _ => a6 (by omega)⟩
  · rw [h7 k hk hm, if_neg (by omega)]
  · rw [h8, if_neg (by omega)]
theorem pq_no {i : Nat} (hw : pp_w P (pp_sl P) (m + 3 * i) = false) (h : mx_LP P m i im ls lk lt ly ln) : mx_LP P m (i + 1) im ls lk lt ly ln := by
  obtain ⟨n, h2, h4, h5, h6, h7, h8⟩ := h
  refine ⟨n, by omega, h4, h5, fun j hj z => ?_, h7, h8⟩
  rcases Nat.lt_or_ge j i with q | q
  · exact h6 j q z
  · rw [show j = i by omega, hw] at z
    exact absurd z (by decide)
/-- the arrays behind an entry that is added -/
theorem la_at {b n : Nat} {a : Int32} {f : Nat → Int32} : upd f (b + n) a (b + n) = a := pk_us
theorem pq_wr {i : Nat} (hN : 1 ≤ pp_N P ∧ pp_N P < 1000) (hi : i < 4) (hm : m < 3) (hw : pp_w P (pp_sl P) (m + 3 * i) = true) (hn : ls m = nI n) (h2 : n ≤ 40 + i) (h : mx_LP P m i im ls lk lt ly ln) :
    mx_LP P m (i + 1) im (upd ls m (nI (n + 1))) (upd lk (m * 64 + n) (nI 1)) (upd lt (m * 64 + n) (nI (pp_N P))) (upd ly (m * 64 + n) (nI (m + 3 * i))) (upd ln (m * 64 + n) (pp_wn P (pp_sl P * 12 + (m + 3 * i)))) := by
  obtain ⟨n', g2, h4, h5, h6, h7, h8⟩ := h
  have en : n' = n := by rw [hn, nn_inj (by omega) (by omega)] at h4; exact h4.symm
  subst en
  have A := la_upd (b := m * 64) (n := n') (lk := lk) (lt := lt) (ly := ly) (ln := ln) (a := nI 1) (c := nI (pp_N P)) (d := nI (m + 3 * i)) (e := pp_wn P (pp_sl P * 12 + (m + 3 * i)))
  refine ⟨n' + 1, by omega, pk_us, fun j hj => ?_, fun j hj z => ?_, fun k hk hmk => ?_, ?_⟩
  · rcases Nat.lt_or_ge j n' with q | q
    · obtain ⟨a1, a2, a3, a4⟩ := A j q
      rw [a1, a2, a3, a4]
      exact h5 j q
    · have : j = n' := by omega
      subst this
      rw [la_at, la_at, la_at, la_at]
      exact ⟨pp_N P, hN.1, Nat.le_refl _, rfl, fun _ => ⟨m + 3 * i, by omega, by omega, rfl, fun _ => ⟨hw, rfl⟩⟩, fun z => absurd z (by decide)⟩
  · unfold pl_e
    rw [pl_e_eq (lk := lk) (lt := lt) (ly := ly) (ln := ln) n' A, Bool.or_eq_true]
    rcases Nat.lt_or_ge j i with q | q
    · exact Or.inl (h6 j q z)
    · right
      rw [decide_eq_true_eq, la_at, la_at, la_at, show j = i by omega]
      exact ⟨rfl, rfl, rfl⟩
  · have e3 : ¬ (upd lk (m * 64 + n') (nI 1)) (m * 64 + n') = 3 := by rw [la_at]; decide
    unfold pl_r
    rw [if_neg e3, pl_r_more A]
    · exact h7 k hk hmk
    · right
      intro j hj z
      obtain ⟨x, a1, a2, a3, a4, a5⟩ := h5 j hj
      rw [a3, la_at, Ne, nn_inj (by omega) (by omega)]
      have := a5 z
      omega
  · unfold pl_o
    rw [la_at, if_neg (by decide), if_neg (by decide), if_neg (by decide), pl_o_eq (lk := lk) (lt := lt) (ly := ly) (ln := ln) n' A]
    exact h8
/-- the promise itself -/
theorem pq_fin (hN : 1 ≤ pp_N P ∧ pp_N P < 1000) (hm : m < 3) (hn : ls m = nI n) (h2 : n ≤ 44) (h : mx_LP P m 4 im ls lk lt ly ln) :
    mx_LF P m 1 im (upd ls m (nI (n + 1))) (upd lk (m * 64 + n) (nI 2)) (upd lt (m * 64 + n) (nI (pp_N P))) (upd ly (m * 64 + n) (nI 0)) (upd ln (m * 64 + n) 0) := by
  obtain ⟨n', g2, h4, h5, h6, h7, h8⟩ := h
  have en : n' = n := by rw [hn, nn_inj (by omega) (by omega)] at h4; exact h4.symm
  subst en
  have A := la_upd (b := m * 64) (n := n') (lk := lk) (lt := lt) (ly := ly) (ln := ln) (a := nI 2) (c := nI (pp_N P)) (d := nI 0) (e := 0)
  refine ⟨n' + 1, by omega, fun z => absurd z (by omega), fun _ => by omega, pk_us, fun j hj => ?_, fun _ k hk hmk z => ?_, fun k hk hmk => ?_, ?_⟩
  · rcases Nat.lt_or_ge j n' with q | q
    · obtain ⟨a1, a2, a3, a4⟩ := A j q
      rw [a1, a2, a3, a4]
      obtain ⟨x, b1, b2, b3, b4, b5⟩ := h5 j q
      exact ⟨x, b1, b2, b3, b4, fun z _ => b5 z, fun z => absurd z (by omega)⟩
    · have : j = n' := by omega
      subst this
      rw [la_at, la_at, la_at, la_at]
      exact ⟨pp_N P, hN.1, Nat.le_refl _, rfl, fun z => absurd z (by decide), fun z => absurd z (by decide), fun z => absurd z (by omega)⟩
  · unfold pl_e
    rw [pl_e_eq (lk := lk) (lt := lt) (ly := ly) (ln := ln) n' A, Bool.or_eq_true]
    left
    have ek : k = m + 3 * (k / 3) := by omega
    rw [ek]
    exact h6 (k / 3) (by omega) (by rw [← ek]; exact z)
  · have e3 : ¬ (upd lk (m * 64 + n') (nI 2)) (m * 64 + n') = 3 := by rw [la_at]; decide
    unfold pl_r
    rw [if_neg e3, pl_r_more A, if_neg (by omega)]
    · exact h7 k hk hmk
    · left
      rw [la_at]
      decide
  · unfold pl_o
    rw [la_at, la_at, if_pos (by decide), if_pos (by omega)]
/-- done: the writes of the transaction are part of the replay -/
theorem lf_done (hN : 1 ≤ pp_N P ∧ pp_N P < 1000) (hm : m < 3) (hs : s = 1 ∨ s = 4) (hn : ls m = nI n) (h2 : n ≤ 45) (h : mx_LF P m s im ls lk lt ly ln) :
    mx_LF P m 2 im (upd ls m (nI (n + 1))) (upd lk (m * 64 + n) (nI 3)) (upd lt (m * 64 + n) (nI (pp_N P))) (upd ly (m * 64 + n) (nI 0)) (upd ln (m * 64 + n) 0) := by
  obtain ⟨n', g1, g2, g3, h4, h5, h6, h7, h8⟩ := h
  have en : n' = n := by rw [hn, nn_inj (by omega) (by omega)] at h4; exact h4.symm
  subst en
  have A := la_upd (b := m * 64) (n := n') (lk := lk) (lt := lt) (ly := ly) (ln := ln) (a := nI 3) (c := nI (pp_N P)) (d := nI 0) (e := 0)
  refine ⟨n' + 1, by omega, fun z => absurd z (by omega), fun z => absurd z (by omega), pk_us, fun j hj => ?_, fun z => absurd z (by omega), fun k hk hmk => ?_, ?_⟩
  · rcases Nat.lt_or_ge j n' with q | q
    · obtain ⟨a1, a2, a3, a4⟩ := A j q
      rw [a1, a2, a3, a4]
      obtain ⟨x, b1, b2, b3, b4, b5, b6⟩ := h5 j q
      exact ⟨x, b1, b2, b3, b4, fun _ z => absurd rfl z, fun z => absurd z (by omega)⟩
    · have : j = n' := by omega
      subst this
      rw [la_at, la_at, la_at, la_at]
      exact ⟨pp_N P, hN.1, Nat.le_refl _, rfl, fun z => absurd z (by decide), fun _ z => absurd rfl z, fun z => absurd z (by omega)⟩
  · have e3 : (upd lk (m * 64 + n') (nI 3)) (m * 64 + n') = 3 := by rw [la_at]; rfl
    unfold pl_r
    rw [if_pos e3, pl_r_more A, if_pos rfl, la_at, h7 k hk hmk, if_neg (by omega)]
    · unfold pl_v
      rw [if_neg (fun z => by rw [la_at] at z; exact absurd z.1 (by decide)), pl_v_eq n' _ A, lf_val hN.2 (fun i hi => ?_) (h6 hs) hk hmk]
      · rfl
      · obtain ⟨x, b1, b2, b3, b4, b5, b6⟩ := h5 i hi
        exact ⟨x, b1, b2, b3, b4⟩
    · left
      rw [la_at]
      decide
  · unfold pl_o
    rw [la_at, if_neg (by decide), if_pos (by decide), if_neg (by omega)]
theorem lf_undo (hN : 1 ≤ pp_N P ∧ pp_N P < 1000) (hm : m < 3) (hn : ls m = nI n) (h2 : n ≤ 45) (h : mx_LF P m 1 im ls lk lt ly ln) :
    mx_LF P m 6 im (upd ls m (nI (n + 1))) (upd lk (m * 64 + n) (nI 4)) (upd lt (m * 64 + n) (nI (pp_N P))) (upd ly (m * 64 + n) (nI 0)) (upd ln (m * 64 + n) 0) := by
  obtain ⟨n', g1, g2, g3, h4, h5, h6, h7, h8⟩ := h
  have en : n' = n := by rw [hn, nn_inj (by omega) (by omega)] at h4; exact h4.symm
  subst en
  have A := la_upd (b := m * 64) (n := n') (lk := lk) (lt := lt) (ly := ly) (ln := ln) (a := nI 4) (c := nI (pp_N P)) (d := nI 0) (e := 0)
  refine ⟨n' + 1, by omega, fun z => absurd z (by omega), fun z => absurd z (by omega), pk_us, fun j hj => ?_, fun z => absurd z (by omega), fun k hk hmk => ?_, ?_⟩
  · rcases Nat.lt_or_ge j n' with q | q
    · obtain ⟨a1, a2, a3, a4⟩ := A j q
      rw [a1, a2, a3, a4]
      obtain ⟨x, b1, b2, b3, b4, b5, b6⟩ := h5 j q
      exact ⟨x, b1, b2, b3, b4, fun y z => b5 y (by omega), fun z => absurd z (by omega)⟩
    · have : j = n' := by omega
      subst this
      rw [la_at, la_at, la_at, la_at]
      exact ⟨pp_N P, hN.1, Nat.le_refl _, rfl, fun z => absurd z (by decide), fun z => absurd z (by decide), fun z => absurd z (by omega)⟩
  · have e3 : ¬ (upd lk (m * 64 + n') (nI 4)) (m * 64 + n') = 3 := by rw [la_at]; decide
    unfold pl_r
    rw [if_neg e3, pl_r_more A, h7 k hk hmk]
    · exact ic_c (by omega)
    · left
      rw [la_at]
      decide
  · unfold pl_o
    rw [la_at, if_neg (by decide), if_neg (by decide), if_pos (by decide), if_neg (by omega)]
end LF
end
section
/-! ===== how the parts of the relation move when one status changes ===== -/
theorem cu_s {ms : Nat → Nat} {m v : Nat} : cs_up ms m v m = v := if_pos rfl
theorem cu_n {ms : Nat → Nat} {m v q : Nat} (h : q ≠ m) : cs_up ms m v q = ms q := if_neg h
section MV
variable {P : cp_P} {dd : Nat → Bool} {ms ms' : Nat → Nat} {m v : Nat}
theorem hw_mono {h : Nat → Nat} {w : Nat → Nat → Bool} (e : ∀ q, q < 3 → ms' q = 0 → ms q = 0) (g : mx_hw P dd ms h w) : mx_hw P dd ms' h w := by
  obtain ⟨g1, g2, g3, g4⟩ := g
  exact ⟨g1, fun k hk z => ⟨(g2 k hk z).1, fun y => (g2 k hk z).2 (e _ (by omega) y)⟩, g3, fun k hk y => g4 k hk (e _ (by omega) y)⟩
theorem nu_mono {nu : Nat → Int32} (e : ∀ q, q < 3 → (ms' q = 2 ↔ ms q = 2)) (g : mx_nu P ms nu) : mx_nu P ms' nu := by
  intro k hk
  rw [g k hk]
  exact ic_c (e _ (by omega)).symm
theorem go_mono {go : Nat → Int32} (e : ∀ q, q < 3 → (ms' q = 0 ∨ ms' q = 1) → (ms q = 0 ∨ ms q = 1)) (e3 : ∀ q, q < 3 → ms' q = 3 → ms q = 3) (g : mx_go P ms go) : mx_go P ms' go := by
  obtain ⟨g1, g2, g3⟩ := g
  exact ⟨g1, fun q hq z => g2 q hq (e q hq z), fun q hq z => g3 q hq (e3 q hq z)⟩
theorem pr_set {pr : Nat → Int32} (hs : pp_sl P < 4) (hm : m < 3) (hv : v = 1 ∨ v = 4) (g : mx_pr P ms pr) : mx_pr P (cs_up ms m v) (upd pr (pp_sl P * 3 + m) (nI (pp_N P))) := by
  intro j hj
  by_cases e : j = pp_sl P * 3 + m
  · have e1 : j / 3 = pp_sl P := by omega
    have e2 : j % 3 = m := by omega
    rw [e1, e2, cu_s, e, pk_us, if_pos ⟨rfl, hv⟩]
  · rw [pk_un e, g j hj]
    by_cases e1 : j / 3 = pp_sl P
    · have e2 : j % 3 ≠ m := by omega
      rw [cu_n e2]
    · rw [if_neg (fun z => e1 z.1), if_neg (fun z => e1 z.1)]
theorem pr_clr {pr : Nat → Int32} (hs : pp_sl P < 4) (hm : m < 3) (hv : v ≠ 1 ∧ v ≠ 4) (g : mx_pr P ms pr) : mx_pr P (cs_up ms m v) (upd pr (pp_sl P * 3 + m) 0) := by
  intro j hj
  by_cases e : j = pp_sl P * 3 + m
  · have e1 : j / 3 = pp_sl P := by omega
    have e2 : j % 3 = m := by omega
    rw [e1, e2, cu_s, e, pk_us, if_neg (by omega)]
  · rw [pk_un e, g j hj]
    by_cases e1 : j / 3 = pp_sl P
    · have e2 : j % 3 ≠ m := by omega
      rw [cu_n e2]
    · rw [if_neg (fun z => e1 z.1), if_neg (fun z => e1 z.1)]
theorem pr_at {pr : Nat → Int32} (hs : pp_sl P < 4) (hm : m < 3) (g : mx_pr P ms pr) : pr (pp_sl P * 3 + m) = if ms m = 1 ∨ ms m = 4 then nI (pp_N P) else 0 := by
  rw [g _ (by omega), show (pp_sl P * 3 + m) % 3 = m by omega, show (pp_sl P * 3 + m) / 3 = pp_sl P by omega]
  exact ic_c ⟨fun z => z.2, fun z => ⟨rfl, z⟩⟩
theorem pr_eq {pr : Nat → Int32} (hB : mb_B P) (hm : m < 3) (g : mx_pr P ms pr) : pr (pp_sl P * 3 + m) = nI (pp_N P) ↔ (ms m = 1 ∨ ms m = 4) := by
  rw [pr_at hB.2.2.1 hm g]
  by_cases e : ms m = 1 ∨ ms m = 4
  · rw [if_pos e]
    exact ⟨fun _ => e, fun _ => rfl⟩
  · rw [if_neg e]
    refine ⟨fun z => ?_, fun z => absurd z e⟩
    have z' : nI 0 = nI (pp_N P) := z
    rw [nn_inj (by omega) hB.2.1] at z'
    have := hB.1
    omega
/-- the slot's keys on machine m are released -/
theorem hw_rel {h : Nat → Nat} {w : Nat → Nat → Bool} (hs : pp_sl P < 4) (hv : v ≠ 0) (g : mx_hw P dd ms h w) : mx_hw P dd (cs_up ms m v) (hr_m h (pp_sl P) m) (wr_m w (pp_sl P) m) := by
  obtain ⟨g1, g2, g3, g4⟩ := g
  refine ⟨fun k hk z => ?_, fun k hk z => ⟨?_, fun y => ?_⟩, fun t ht z y k hk => ?_, fun k hk y => ?_⟩
  · unfold hr_m
    rw [← g1 k hk z]
    by_cases e : h k = pp_sl P
    · have := g1 k hk z
      unfold kh_K at this
      rw [this] at e
      split at e
      · omega
      · exact absurd e z
    · rw [if_neg (fun y => e y.2)]
  · unfold hr_m
    have := (g2 k hk z).1
    split <;> omega
  · by_cases e : k % 3 = m
    · rw [e, cu_s] at y
      exact absurd y hv
    · rw [cu_n e] at y
      unfold hr_m
      rw [if_neg (fun x => e x.1)]
      exact (g2 k hk z).2 y
  · unfold wr_m
    rw [if_neg (fun x => z x.1)]
    exact g3 t ht z y k hk
  · by_cases e : k % 3 = m
    · rw [e, cu_s] at y
      exact absurd y hv
    · rw [cu_n e] at y
      unfold wr_m
      rw [if_neg (fun x => e x.2)]
      exact g4 k hk y
end MV
theorem mL_same {P : cp_P} {de : Bool} {ls lk lt ly ln ls' lk' lt' ly' ln' : Nat → Int32} (hl : ls' 3 = ls 3) (hA : la_A (3 * 64) 64 lk lt ly ln lk' lt' ly' ln') (h : mx_L P de ls lk lt) : mx_L P de ls' lk' lt' := by
  obtain ⟨n, h1, h2, h3, h4, h5⟩ := h
  refine ⟨n, h1, h2, by rw [hl]; exact h3, ?_, fun i hi => ?_⟩
  · rw [h4]
    constructor
    · rintro ⟨i, hi, a, b⟩
      obtain ⟨c1, c2, _⟩ := hA i (by omega)
      exact ⟨i, hi, by rw [c1]; exact a, by rw [c2]; exact b⟩
    · rintro ⟨i, hi, a, b⟩
      obtain ⟨c1, c2, _⟩ := hA i (by omega)
      exact ⟨i, hi, by rw [← c1]; exact a, by rw [← c2]; exact b⟩
  · obtain ⟨c1, c2, _⟩ := hA i (by omega)
    rw [c2]
    exact h5 i hi
theorem mL_oth {P : cp_P} {de : Bool} {ls lk lt : Nat → Int32} {m n : Nat} {a b c : Int32} (hm : m < 3) (hn : n < 64) (h : mx_L P de ls lk lt) : mx_L P de (upd ls m a) (upd lk (m * 64 + n) b) (upd lt (m * 64 + n) c) :=
  mL_same (ly := lk) (ln := lk) (ly' := upd lk (m * 64 + n) 0) (ln' := upd lk (m * 64 + n) 0) (pk_un (by omega)) (la_oth (by omega) hn) h
section MACH
variable {z_op z_st z_vo z_he z_ns z_nm z_sl z_pa z_tr z_td z_ha z_cc z_fi z_wa z_se z_lo : Int32} {z_im z_ls z_lk z_lt z_ly z_ln z_nu z_ho z_wk z_wn z_pr z_go z_mk z_mf z_mt z_mn : Nat → Int32}
theorem ml_promise {post : St1 → Prop} {P : cp_P} {dd : Nat → Bool} {ms : Nat → Nat} {de : Bool} {m : Nat} (hB : mb_B P) (hm : m < 3) (h0 : ms m = 0) (hD : mx_D P dd ms z_op z_im z_ls z_lk z_lt z_ly z_ln z_nu z_ho z_wk z_wn z_pr z_go) (hL : mx_L P de z_ls z_lk z_lt) (hsl : z_sl = nI (pp_sl P)) (hnm : z_nm = nI (pp_N P))
    (H : ∀ ls lk lt ly ln pr, mx_D P dd (cs_up ms m 1) z_op z_im ls lk lt ly ln z_nu z_ho z_wk z_wn pr z_go → mx_L P de ls lk lt → post (z_op, z_st, z_vo, z_he, z_ns, z_nm, z_sl, z_pa, z_tr, z_td, z_ha, z_cc, z_fi, z_wa, z_se, z_lo, z_im, ls, lk, lt, ly, ln, z_nu, z_ho, z_wk, z_wn, pr, z_go, z_mk, z_mf, z_mt, z_mn)) : wpX_promiseOn post (z_op, z_st, z_vo, z_he, z_ns, z_nm, z_sl, z_pa, z_tr, z_td, z_ha, z_cc, z_fi, z_wa, z_se, z_lo, z_im, z_ls, z_lk, z_lt, z_ly, z_ln, z_nu, z_ho, z_wk, z_wn, z_pr, z_go, z_mk, z_mf, z_mt, z_mn) (nI m) := by
  obtain ⟨d1, ⟨h, w, dh, dw, dhw⟩, d3, d4, d5, d6, d7, d8, d9⟩ := hD
  have hN : 1 ≤ pp_N P ∧ pp_N P < 1000 := ⟨hB.1, hB.2.1⟩
  have hs4 : pp_sl P < 4 := hB.2.2.1
  subst hsl hnm
  refine pk_loop (σ := (Nat → Int32) × (Nat → Int32) × (Nat → Int32) × (Nat → Int32) × (Nat → Int32)) (fun f i s => wX_promiseOn_2 post (nI m) f (nI (m + 3 * i)) z_op z_st z_vo z_he z_ns (nI (pp_N P)) (nI (pp_sl P)) z_pa z_tr z_td z_ha z_cc z_fi z_wa z_se z_lo z_im s.1 s.2.1 s.2.2.1 s.2.2.2.1 s.2.2.2.2 z_nu z_ho z_wk z_wn z_pr z_go z_mk z_mf z_mt z_mn)
    (fun i s => mx_LP P m i z_im s.1 s.2.1 s.2.2.1 s.2.2.2.1 s.2.2.2.2 ∧ (∀ q, q < 3 → q ≠ m → mx_LF P q (ms q) z_im s.1 s.2.1 s.2.2.1 s.2.2.2.1 s.2.2.2.2) ∧ mx_L P de s.1 s.2.1 s.2.2.1)
    4 0 (z_ls, z_lk, z_lt, z_ly, z_ln) (by omega) ⟨pq_0 (by rw [← h0]; exact d8 m hm), fun q hq _ => d8 q hq, hL⟩ ?_ ?_
  · rintro f ⟨ls, lk, lt, ly, ln⟩ ⟨hP, hO, hL⟩
    dsimp only at hP hO hL
    have hP' := hP
    obtain ⟨n, g2, g4, _⟩ := hP'
    refine pk_le 12 (m + 3 * 4) (fun _ => ?_) (fun z => absurd z (by omega))
    refine ml_log m n 2 0 (by omega) (by omega) (by omega) (by omega) g4 ⟨pk_in (pp_sl P * 3 + m) 12 (by omega) (ix_3 _ m), ?_⟩
    intro b11 e11
    rw [ix_3, nI_clamp (by omega)] at e11
    subst e11
    refine H _ _ _ _ _ _ ⟨d1, ⟨h, w, dh, dw, hw_mono (fun q hq z => ?_) dhw⟩, d3, nu_mono (fun q hq => ?_) d4, d5, pr_set hs4 hm (by omega) d6, go_mono (fun q hq z => ?_) (fun q hq z => ?_) d7, fun q hq => ?_, fun q hq z => ?_⟩ ?_
    · by_cases e : q = m
      · rw [e]; exact h0
      · rw [cu_n e] at z; exact z
    · by_cases e : q = m
      · rw [e, cu_s, h0]; omega
      · rw [cu_n e]
    · by_cases e : q = m
      · rw [e]; exact Or.inl h0
      · rw [cu_n e] at z; exact z
    · by_cases e : q = m
      · rw [e, cu_s] at z; omega
      · rw [cu_n e] at z; exact z
    · by_cases e : q = m
      · rw [e, cu_s]
        exact pq_fin hN hm g4 (by omega) hP
      · rw [cu_n e]
        exact lf_same (pk_un e) (la_oth (by omega) (by omega)) (hO q hq e)
    · by_cases e : q = m
      · rw [e, cu_s] at z; omega
      · rw [cu_n e] at z; exact d9 q hq z
    · exact mL_oth hm (by omega) hL
  · rintro f i ⟨ls, lk, lt, ly, ln⟩ hi ⟨hP, hO, hL⟩ hw'
    dsimp only at hP hO hL
    have hP' := hP
    obtain ⟨n, g2, g4, _⟩ := hP'
    refine pk_le 12 (m + 3 * i) (fun z => absurd z (by omega)) (fun _ => ?_)
    have ew : w (pp_sl P) (m + 3 * i) = pp_w P (pp_sl P) (m + 3 * i) := dhw.2.2.2 _ (by omega) (by rw [show (m + 3 * i) % 3 = m by omega]; exact h0)
    refine ml_hasW hs4 (show m + 3 * i < 12 by omega) dw (fun e => br_t rfl (nm_r (ix_p3 _) (hw' (ls, lk, lt, ly, ln) ⟨pq_no (by rw [← ew]; exact e) hP, hO, hL⟩))) (fun e => br_f (by decide) ⟨pk_in (pp_sl P * 12 + (m + 3 * i)) 48 (by omega) (ix_12 _ _), ?_⟩)
    have ev : z_wn (nI (pp_sl P) * 12 + nI (m + 3 * i)).toNatClampNeg = pp_wn P (pp_sl P * 12 + (m + 3 * i)) := by
      rw [ix_12, nI_clamp (by omega)]
      exact d3 _ (by omega)
    refine ml_log m n 1 (m + 3 * i) (by omega) (by omega) (by omega) (by omega) g4 ?_
    refine nm_r (ix_p3 _) (hw' (_, _, _, _, _) ⟨?_, fun q hq z => ?_, ?_⟩)
    · rw [ev]
      exact pq_wr hN hi hm (by rw [← ew]; exact e) g4 g2 hP
    · exact lf_same (pk_un z) (la_oth (by omega) (by omega)) (hO q hq z)
    · exact mL_oth hm (by omega) hL
/-- log DONE, apply, release -/
theorem md_done {P : cp_P} {dd : Nat → Bool} {ms : Nat → Nat} {de : Bool} {m : Nat} (hB : mb_B P) (hm : m < 3) (h1 : ms m = 1 ∨ ms m = 4) (hD : mx_D P dd ms z_op z_im z_ls z_lk z_lt z_ly z_ln z_nu z_ho z_wk z_wn z_pr z_go) (hL : mx_L P de z_ls z_lk z_lt) :
    ∃ n, n ≤ 45 ∧ z_ls m = nI n ∧ (∀ i, i < n + 1 → upd z_lk (m * 64 + n) (nI 3) (m * 64 + i) = 1 → ∃ k, k < 12 ∧ upd z_ly (m * 64 + n) (nI 0) (m * 64 + i) = nI k) ∧ ∃ h w, vh_H z_ho h ∧ vh_W z_wk w ∧
      ∀ nu b8 b9, (∀ k, k < 12 → nu k = pl_v (upd z_lk (m * 64 + n) (nI 3)) (upd z_lt (m * 64 + n) (nI (pp_N P))) (upd z_ly (m * 64 + n) (nI 0)) (upd z_ln (m * 64 + n) 0) (m * 64) (nI (pp_N P)) k (n + 1) (z_nu k)) → vh_H b8 (hr_m h (pp_sl P) m) → vh_W b9 (wr_m w (pp_sl P) m) →
        mx_D P dd (cs_up ms m 2) z_op z_im (upd z_ls m (nI (n + 1))) (upd z_lk (m * 64 + n) (nI 3)) (upd z_lt (m * 64 + n) (nI (pp_N P))) (upd z_ly (m * 64 + n) (nI 0)) (upd z_ln (m * 64 + n) 0) nu b8 b9 z_wn (upd z_pr (pp_sl P * 3 + m) 0) z_go ∧ mx_L P de (upd z_ls m (nI (n + 1))) (upd z_lk (m * 64 + n) (nI 3)) (upd z_lt (m * 64 + n) (nI (pp_N P))) := by
  obtain ⟨d1, ⟨h, w, dh, dw, dhw⟩, d3, d4, d5, d6, d7, d8, d9⟩ := hD
  have hN : 1 ≤ pp_N P ∧ pp_N P < 1000 := ⟨hB.1, hB.2.1⟩
  have hs4 : pp_sl P < 4 := hB.2.2.1
  have hLm := d8 m hm
  have hLm' := hLm
  obtain ⟨n, g1, g2, g3, g4, g5, g6, g7, g8⟩ := hLm'
  have n45 := g3 h1
  have hF := lf_done hN hm h1 g4 n45 hLm
  have hF' := hF
  obtain ⟨n', k1, k2, k3, k4, k5, k6, k7, k8⟩ := hF'
  have en : n' = n + 1 := by
    rw [pk_us, nn_inj (by omega) (by omega)] at k4
    exact k4.symm
  subst en
  refine ⟨n, n45, g4, fun i hi e => ?_, h, w, dh, dw, fun nu b8 b9 hnu h8 h9 => ?_⟩
  · obtain ⟨x, a1, a2, a3, a4, a5⟩ := k5 i hi
    obtain ⟨k, c1, c2, c3, c4⟩ := a4 e
    exact ⟨k, c1, c3⟩
  have A := la_upd (b := m * 64) (n := n) (lk := z_lk) (lt := z_lt) (ly := z_ly) (ln := z_ln) (a := nI 3) (c := nI (pp_N P)) (d := nI 0) (e := 0)
  refine ⟨⟨d1, ⟨_, _, h8, h9, hw_rel hs4 (by omega) dhw⟩, d3, fun k hk => ?_, d5, pr_clr hs4 hm (by omega) d6, go_mono (fun q hq z => ?_) (fun q hq z => ?_) d7, fun q hq => ?_, fun q hq z => ?_⟩, ?_⟩
  · rw [hnu k hk]
    have ev : ∀ v, pl_v (upd z_lk (m * 64 + n) (nI 3)) (upd z_lt (m * 64 + n) (nI (pp_N P))) (upd z_ly (m * 64 + n) (nI 0)) (upd z_ln (m * 64 + n) 0) (m * 64) (nI (pp_N P)) k (n + 1) v = pl_v z_lk z_lt z_ly z_ln (m * 64) (nI (pp_N P)) k n v := by
      intro v
      unfold pl_v
      rw [if_neg (fun z => by rw [la_at] at z; exact absurd z.1 (by decide)), pl_v_eq n _ A]
      cases n <;> rfl
    rw [ev]
    have g5' : ∀ i, i < n → ∃ x, 1 ≤ x ∧ x ≤ pp_N P ∧ z_lt (m * 64 + i) = nI x ∧ (z_lk (m * 64 + i) = 1 → ∃ k, k < 12 ∧ k % 3 = m ∧ z_ly (m * 64 + i) = nI k ∧ (x = pp_N P → pp_w P (pp_sl P) k = true ∧ z_ln (m * 64 + i) = pp_wn P (pp_sl P * 12 + k))) := by
      intro i hi
      obtain ⟨x, b1, b2, b3, b4, b5, b6⟩ := g5 i hi
      exact ⟨x, b1, b2, b3, b4⟩
    by_cases e : k % 3 = m
    · have eu : z_nu k = pp_nu P k := by rw [d4 k hk, e, if_neg (by omega)]
      rw [lf_val hN.2 g5' (g6 h1) hk e, e, cu_s, if_pos rfl, eu]
      rfl
    · rw [lf_oth g5' hk e, cu_n e]
      exact d4 k hk
  · by_cases e : q = m
    · rw [e, cu_s] at z; omega
    · rw [cu_n e] at z; exact z
  · by_cases e : q = m
    · rw [e, cu_s] at z; omega
    · rw [cu_n e] at z; exact z
  · by_cases e : q = m
    · rw [e, cu_s]
      exact hF
    · rw [cu_n e]
      exact lf_same (pk_un e) (la_oth (by omega) (by omega)) (d8 q hq)
  · by_cases e : q = m
    · rw [e, cu_s] at z; omega
    · rw [cu_n e] at z; exact d9 q hq z
  · exact mL_oth hm (by omega) hL
/-- release behind a refusal -/
theorem ml_refd {post : St1 → Prop} {P : cp_P} {dd : Nat → Bool} {ms ms' : Nat → Nat} {m : Nat} (hB : mb_B P) (hm : m < 3) (h1 : ms m ≠ 2) (e' : ms' = cs_up ms m 6) (hD : mx_D P dd ms z_op z_im z_ls z_lk z_lt z_ly z_ln z_nu z_ho z_wk z_wn z_pr z_go)
    {ls lk lt ly ln : Nat → Int32} (hF : ∀ q, q < 3 → mx_LF P q (ms' q) z_im ls lk lt ly ln)
    (H : ∀ ho wk pr, mx_D P dd ms' z_op z_im ls lk lt ly ln z_nu ho wk z_wn pr z_go → post (z_op, z_st, z_vo, z_he, z_ns, z_nm, z_sl, z_pa, z_tr, z_td, z_ha, z_cc, z_fi, z_wa, z_se, z_lo, z_im, ls, lk, lt, ly, ln, z_nu, ho, wk, z_wn, pr, z_go, z_mk, z_mf, z_mt, z_mn)) :
    wpX_releaseOn post (z_op, z_st, z_vo, z_he, z_ns, z_nm, z_sl, z_pa, z_tr, z_td, z_ha, z_cc, z_fi, z_wa, z_se, z_lo, z_im, ls, lk, lt, ly, ln, z_nu, z_ho, z_wk, z_wn, z_pr, z_go, z_mk, z_mf, z_mt, z_mn) (nI (pp_sl P)) (nI m) := by
  subst e'
  obtain ⟨d1, ⟨h, w, dh, dw, dhw⟩, d3, d4, d5, d6, d7, d8, d9⟩ := hD
  have hs4 : pp_sl P < 4 := hB.2.2.1
  refine ml_releaseOn hs4 hm dh dw (fun b8 b9 h8 h9 => ?_)
  refine H _ _ _ ⟨d1, ⟨_, _, h8, h9, hw_rel hs4 (by omega) dhw⟩, d3, nu_mono (fun q hq => ?_) d4, d5, pr_clr hs4 hm (by omega) d6, go_mono (fun q hq z => ?_) (fun q hq z => ?_) d7, hF, fun q hq z => ?_⟩
  · by_cases e : q = m
    · rw [e, cu_s]; omega
    · rw [cu_n e]
  · by_cases e : q = m
    · rw [e, cu_s] at z; omega
    · rw [cu_n e] at z; exact z
  · by_cases e : q = m
    · rw [e, cu_s] at z; omega
    · rw [cu_n e] at z; exact z
  · by_cases e : q = m
    · rw [e, cu_s] at z; omega
    · rw [cu_n e] at z; exact d9 q hq z
end MACH
end
section
/-! ===== a machine or the leader breaks down in a commit ===== -/
theorem bs_cases {s v : Nat} (hb : cs_bs s = some v) : (s = 0 ∧ v = 3) ∨ (s = 1 ∧ v = 4) ∨ (s = 2 ∧ v = 2) ∨ (s = 5 ∧ v = 5) := by
  unfold cs_bs at hb
  split at hb
  · left; exact ⟨by assumption, by injection hb with hb; exact hb.symm⟩
  · split at hb
    · right; left; exact ⟨by assumption, by injection hb with hb; exact hb.symm⟩
    · split at hb
      · right; right; left; exact ⟨by assumption, by injection hb with hb; exact hb.symm⟩
      · split at hb
        · right; right; right; exact ⟨by assumption, by injection hb with hb; exact hb.symm⟩
        · exact absurd hb (by simp)
theorem pp_dd0 (P : cp_P) (t : Nat) : pp_dd P false t = false := rfl
theorem pp_dd1 (P : cp_P) (t : Nat) : pp_dd P true t = pp_kl P t := rfl
theorem kh_0 (P : cp_P) (k : Nat) : kh_K (pp_h P) (pp_dd P false) k = pp_h P k := by
  unfold kh_K
  rw [pp_dd0, if_neg (by decide)]
section STRIKE
variable {z_op z_st z_vo z_he z_ns z_nm z_sl z_pa z_tr z_td z_ha z_cc z_fi z_wa z_se z_lo : Int32} {z_im z_ls z_lk z_lt z_ly z_ln z_nu z_ho z_wk z_wn z_pr z_go z_mk z_mf z_mt z_mn : Nat → Int32}
theorem ml_brkM {post : Int32 → St1 → Prop} {P : cp_P} {ms : Nat → Nat} {m v : Nat} (hB : mb_B P) (hm : m < 3) (hbs : cs_bs (ms m) = some v) (htd : pp_td P = m) (htr : ¬ (pp_tr P = 2 ∨ pp_tr P = 3)) (hst : z_st ≠ 0) (hsl : z_sl = nI (pp_sl P))
    (hD : mx_D P (pp_dd P false) ms z_op z_im z_ls z_lk z_lt z_ly z_ln z_nu z_ho z_wk z_wn z_pr z_go)
    (H : ∀ r op nu ho wk wn pr go, mx_D P (pp_dd P true) (cs_up ms m v) op z_im z_ls z_lk z_lt z_ly z_ln nu ho wk wn pr go → post r (op, z_st, z_vo, z_he, z_ns, z_nm, z_sl, z_pa, z_tr, z_td, z_ha, z_cc, z_fi, z_wa, z_se, z_lo, z_im, z_ls, z_lk, z_lt, z_ly, z_ln, nu, ho, wk, wn, pr, go, z_mk, z_mf, z_mt, z_mn)) : wpX_breakDown post (z_op, z_st, z_vo, z_he, z_ns, z_nm, z_sl, z_pa, z_tr, z_td, z_ha, z_cc, z_fi, z_wa, z_se, z_lo, z_im, z_ls, z_lk, z_lt, z_ly, z_ln, z_nu, z_ho, z_wk, z_wn, z_pr, z_go, z_mk, z_mf, z_mt, z_mn) (nI m) := by
  obtain ⟨d1, ⟨h, w, dh, dw, dhw⟩, d3, d4, d5, d6, d7, d8, d9⟩ := hD
  have hN : 1 ≤ pp_N P ∧ pp_N P < 1000 := ⟨hB.1, hB.2.1⟩
  have hs4 : pp_sl P < 4 := hB.2.2.1
  have h05 : ∀ k, k < 12 → pp_h P k < 5 := hB.2.2.2.2.2.2.2.2.1
  have hwh : ∀ k, k < 12 → pp_w P (pp_sl P) k = true → pp_h P k = pp_sl P := hB.2.2.2.2.2.2.2.2.2
  have hv := bs_cases hbs
  have hLm := d8 m hm
  obtain ⟨n, g1, g2, g3, g4, g5, g6, g7, g8⟩ := hLm
  obtain ⟨w1, w2, w3, w4⟩ := dhw
  have w1' : ∀ k, k < 12 → pp_h P k ≠ pp_sl P → h k = pp_h P k := fun k hk z => by rw [w1 k hk z, kh_0]
  have hse : ∀ t, t < 4 → t ≠ pp_sl P → hs_a h m t = hs_a (pp_h P) m t := by
    intro t ht hne
    apply Bool.eq_iff_iff.mpr
    rw [hs_iff hm, hs_iff hm]
    constructor
    · rintro ⟨k, c1, c2, c3⟩
      refine ⟨k, c1, c2, ?_⟩
      by_cases e : pp_h P k = pp_sl P
      · have := (w2 k c1 e).1
        omega
      · rw [← w1' k c1 e]; exact c3
    · rintro ⟨k, c1, c2, c3⟩
      refine ⟨k, c1, c2, ?_⟩
      rw [w1' k c1 (by omega)]; exact c3
  have klm : ∀ t, pp_kl P t = (!decide (t = pp_sl P) && hs_a (pp_h P) m t) := by
    intro t
    unfold pp_kl
    rw [if_neg htr, htd]
  have x0 : ms m ≠ 1 → pl_o z_lk z_lt (m * 64) n = 0 := fun z => by rw [g8, if_neg (by omega)]
  have x1 : ms m = 1 → pl_o z_lk z_lt (m * 64) n = nI (pp_N P) := fun z => by rw [g8, if_pos (Or.inl z)]
  have nz : nI (pp_N P) ≠ 0 := nI_ne0 (by omega) (by omega)
  have xn : pl_o z_lk z_lt (m * 64) n ≠ 0 → ms m = 1 := fun z => by
    by_cases e : ms m = 1
    · exact e
    · exact absurd (x0 e) z
  have pe : ∀ k, pl_o z_lk z_lt (m * 64) n ≠ 0 → k < 12 → pl_e z_lk z_lt z_ly (m * 64) (pl_o z_lk z_lt (m * 64) n) k n = true → k % 3 = m ∧ pp_w P (pp_sl P) k = true := by
    intro k z hk y
    rw [x1 (xn z)] at y
    obtain ⟨i, hi, b1, b2, b3⟩ := (pl_e_iff n).mp y
    obtain ⟨x, a1, a2, a3, a4, a5⟩ := g5 i hi
    obtain ⟨k', c1, c2, c3, c4⟩ := a4 b1
    rw [c3, nn_inj (by omega) (by omega)] at b3
    rw [a3, nn_inj (by omega) (by omega)] at b2
    rw [← b3]
    exact ⟨c2, (c4 b2).1⟩
  refine ml_breakDown (o := ko_K (pp_o P) (pp_dd P false)) m n (pp_sl P) hm (by omega) g4 (fun i hi e => ?_) (Or.inr ⟨hst, hs4, hsl⟩) d1 dh dw (fun o' b7 b8 b9 b10 b11 b12 eo e7 e8 e9 e10 e11 e12 => ?_)
  · obtain ⟨x, a1, a2, a3, a4, a5⟩ := g5 i hi
    obtain ⟨k', c1, c2, c3, c4⟩ := a4 e
    exact ⟨k', c1, c2, c3⟩
  refine H _ _ _ _ _ _ _ _ ⟨?_, ⟨_, _, e8, e9, ?_⟩, fun j hj => ?_, fun k hk => ?_, d5, fun j hj => ?_, ?_, fun q hq => ?_, fun q hq z => ?_⟩
  · refine oc_ext (fun t ht => ?_)
    rw [eo t ht]
    unfold ob_i ko_K
    rw [pp_dd0, pp_dd1, klm, decide_eq_true ht]
    by_cases e : t = pp_sl P
    · simp [e]
    · rw [hse t ht e]
      simp [e]
  · refine ⟨fun k hk z => ?_, fun k hk z => ⟨?_, fun y => ?_⟩, fun t ht z y k hk => ?_, fun k hk y => ?_⟩
    · have ne : ¬ (pl_o z_lk z_lt (m * 64) n ≠ 0 ∧ pl_e z_lk z_lt z_ly (m * 64) (pl_o z_lk z_lt (m * 64) n) k n = true) := fun q => z (hwh k hk (pe k q.1 hk q.2).2)
      dsimp only
      rw [if_neg ne]
      unfold hh_i kh_K hb_i
      rw [w1' k hk z, pp_dd1, klm]
      by_cases e4 : pp_h P k < 4
      · rw [hse _ e4 z]
        simp [e4, z]
      · have e5 := h05 k hk
        have : pp_h P k = 4 := by omega
        simp [this]
    · have e2 := (w2 k hk z).1
      dsimp only
      split
      · exact Or.inl rfl
      · unfold hh_i
        split
        · exact Or.inr rfl
        · exact e2
    · by_cases e : k % 3 = m
      · rw [e, cu_s] at y
        omega
      · rw [cu_n e] at y
        have e2 := (w2 k hk z).2 y
        dsimp only
        split
        · rfl
        · unfold hh_i hb_i
          rw [e2]
          simp [e]
    · rw [pp_dd1, klm] at y
      have y' : hs_a (pp_h P) m t = false := by
        simpa [z] using y
      have ne : ¬ (pl_o z_lk z_lt (m * 64) n ≠ 0 ∧ t = pp_sl P) := fun q => z q.2
      dsimp only
      rw [decide_eq_false ne]
      unfold wh_i hb_i
      rw [hse t ht z, y']
      simp
      exact w3 t ht z rfl k hk
    · by_cases e : k % 3 = m
      · rw [e, cu_s] at y
        omega
      · rw [cu_n e] at y
        have e2 := w4 k hk y
        have e3 : (decide (pl_o z_lk z_lt (m * 64) n ≠ 0 ∧ pp_sl P = pp_sl P) && pl_e z_lk z_lt z_ly (m * 64) (pl_o z_lk z_lt (m * 64) n) k n) = false := by
          cases hq : (decide (pl_o z_lk z_lt (m * 64) n ≠ 0 ∧ pp_sl P = pp_sl P) && pl_e z_lk z_lt z_ly (m * 64) (pl_o z_lk z_lt (m * 64) n) k n)
          · rfl
          · rw [Bool.and_eq_true, decide_eq_true_eq] at hq
            exact absurd (pe k hq.1.1 hk hq.2).1 e
        dsimp only
        rw [e3]
        unfold wh_i hb_i
        simp [e]
        exact e2
  · rw [e10 j hj]
    by_cases e : pl_o z_lk z_lt (m * 64) n ≠ 0 ∧ j / 12 = pp_sl P
    · rw [if_pos e, x1 (xn e.1)]
      rw [pl_v_val (c := pp_wn P j) n _]
      · rw [d3 j hj]
        split <;> rfl
      · intro i hi b1 b2 b3
        obtain ⟨x, a1, a2, a3, a4, a5⟩ := g5 i hi
        obtain ⟨k', c1, c2, c3, c4⟩ := a4 b1
        rw [c3, nn_inj (by omega) (by omega)] at b3
        rw [a3, nn_inj (by omega) (by omega)] at b2
        rw [(c4 b2).2, show pp_sl P * 12 + k' = j by omega]
    · rw [if_neg e]
      exact d3 j hj
  · rw [e7 k hk]
    by_cases e : k % 3 = m
    · rw [if_pos e, g7 k hk e, e, cu_s]
      exact ic_c (by omega)
    · rw [if_neg e, cu_n e]
      exact d4 k hk
  · rw [e11 j hj]
    by_cases e1 : j / 3 = pp_sl P
    · by_cases e2 : j % 3 = m
      · have ej : j = pp_sl P * 3 + m := by omega
        rw [e2, cu_s]
        by_cases e3 : ms m = 1
        · rw [if_pos ⟨by rw [x1 e3]; exact nz, ej⟩, x1 e3, if_pos ⟨e1, by omega⟩]
        · rw [if_neg (fun q => q.1 (x0 e3)), if_neg (by omega)]
          unfold ph_i
          split
          · rfl
          · rw [d6 j hj, e2, if_neg (by omega)]
      · rw [if_neg (fun q => by omega), cu_n e2]
        unfold ph_i hb_i
        rw [e1]
        simp only [decide_true, Bool.not_true, Bool.false_or, decide_eq_false e2, Bool.and_false, Bool.false_eq_true, if_false]
        rw [d6 j hj, e1]
        exact ic_c ⟨fun q => ⟨trivial, q.2⟩, fun q => ⟨rfl, q.2⟩⟩
    · rw [if_neg (fun q => by omega), if_neg (fun q => e1 q.1)]
      unfold ph_i
      split
      · rfl
      · rw [d6 j hj, if_neg (fun q => e1 q.1)]
  · obtain ⟨f1, f2, f3⟩ := d7
    refine ⟨fun j hj z => ?_, fun q hq z => ?_, fun q hq z => ?_⟩
    · rw [e12 j hj]
      unfold gh_i
      rw [if_neg (fun y => z y.1)]
      exact f1 j hj z
    · by_cases e : q = m
      · rw [e, cu_s] at z
        omega
      · rw [cu_n e] at z
        rw [e12 _ (by omega)]
        unfold gh_i
        rw [if_neg (fun y => by omega)]
        exact f2 q hq z
    · by_cases e : q = m
      · rw [e, cu_s] at z
        have m0 : ms m = 0 := by omega
        have hh : hs_a h m (pp_sl P) = true := by
          obtain ⟨k, c1, c2, c3⟩ := (hs_iff hm).mp (d9 m hm m0)
          refine (hs_iff hm).mpr ⟨k, c1, c2, ?_⟩
          exact (w2 k c1 c3).2 (by rw [c2]; exact m0)
        rw [e12 _ (by omega)]
        unfold gh_i
        rw [if_pos ⟨by omega, hs4, hh, by omega⟩]
        decide
      · rw [cu_n e] at z
        rw [e12 _ (by omega)]
        unfold gh_i
        rw [if_neg (fun y => by omega)]
        exact f3 q hq z
  · by_cases e : q = m
    · rw [e, cu_s]
      exact lf_bs hbs (d8 m hm)
    · rw [cu_n e]
      exact d8 q hq
  · by_cases e : q = m
    · rw [e, cu_s] at z
      omega
    · rw [cu_n e] at z
      exact d9 q hq z
theorem ml_ldrM {post : Int32 → St1 → Prop} {P : cp_P} {ms : Nat → Nat} {de : Bool} (hB : mb_B P) (htr : pp_tr P = 2 ∨ pp_tr P = 3) (hst : z_st ≠ 0) (hsl : z_sl = nI (pp_sl P)) (hnm : z_nm = nI (pp_N P))
    (hD : mx_D P (pp_dd P false) ms z_op z_im z_ls z_lk z_lt z_ly z_ln z_nu z_ho z_wk z_wn z_pr z_go) (hL : mx_L P de z_ls z_lk z_lt)
    (H : ∀ r op ho wk pr, mx_D P (pp_dd P true) ms op z_im z_ls z_lk z_lt z_ly z_ln z_nu ho wk z_wn pr z_go → post r (op, nI (if de = true then 2 else 3), 0, 0, z_ns, z_nm, z_sl, z_pa, z_tr, z_td, z_ha, z_cc, z_fi, z_wa, z_se, z_lo, z_im, z_ls, z_lk, z_lt, z_ly, z_ln, z_nu, ho, wk, z_wn, pr, z_go, z_mk, z_mf, z_mt, z_mn)) : wpX_breakLeader post (z_op, z_st, z_vo, z_he, z_ns, z_nm, z_sl, z_pa, z_tr, z_td, z_ha, z_cc, z_fi, z_wa, z_se, z_lo, z_im, z_ls, z_lk, z_lt, z_ly, z_ln, z_nu, z_ho, z_wk, z_wn, z_pr, z_go, z_mk, z_mf, z_mt, z_mn) := by
  obtain ⟨d1, ⟨h, w, dh, dw, dhw⟩, d3, d4, d5, d6, d7, d8, d9⟩ := hD
  have hs4 : pp_sl P < 4 := hB.2.2.1
  have h05 : ∀ k, k < 12 → pp_h P k < 5 := hB.2.2.2.2.2.2.2.2.1
  obtain ⟨w1, w2, w3, w4⟩ := dhw
  have w1' : ∀ k, k < 12 → pp_h P k ≠ pp_sl P → h k = pp_h P k := fun k hk z => by rw [w1 k hk z, kh_0]
  obtain ⟨n, g1, g2, g3, g4, g5⟩ := hL
  have kld : ∀ t, pp_kl P t = (!decide (t = pp_sl P) && pp_o P t) := by
    intro t
    unfold pp_kl
    rw [if_pos htr]
  have kle : ∀ t, t < 4 → kl_i (ko_K (pp_o P) (pp_dd P false)) (pp_sl P) 4 t = pp_kl P t := by
    intro t ht
    rw [kld]
    unfold kl_i ko_K
    rw [pp_dd0, decide_eq_true ht]
    cases pp_o P t <;> simp
  have kl4 : ∀ t, ¬ t < 4 → kl_i (ko_K (pp_o P) (pp_dd P false)) (pp_sl P) 4 t = false := by
    intro t ht
    unfold kl_i
    rw [decide_eq_false ht]
    simp
  have kls : kl_i (ko_K (pp_o P) (pp_dd P false)) (pp_sl P) 4 (pp_sl P) = false := by
    unfold kl_i
    simp
  refine ml_breakLeader (o := ko_K (pp_o P) (pp_dd P false)) (d := de) n (pp_sl P) (by omega) g3 (by rw [hnm]; exact g4) (Or.inr ⟨hst, hs4, hsl⟩) d1 dh dw (fun z => absurd z hst) (fun _ o' b8 b9 b11 eo e8 e9 e11 => ?_)
  refine H _ _ _ _ _ ⟨?_, ⟨_, _, e8, e9, ?_⟩, d3, d4, d5, fun j hj => ?_, d7, d8, d9⟩
  · refine oc_ext (fun t ht => ?_)
    rw [eo t ht]
    show (ko_K (pp_o P) (pp_dd P false) t && !kl_i (ko_K (pp_o P) (pp_dd P false)) (pp_sl P) 4 t) = (pp_o P t && !pp_dd P true t)
    rw [kle t ht, pp_dd1]
    unfold ko_K
    rw [pp_dd0]
    simp
  · refine ⟨fun k hk z => ?_, fun k hk z => ⟨?_, fun y => ?_⟩, fun t ht z y k hk => ?_, fun k hk y => ?_⟩
    · unfold kh_K
      rw [w1' k hk z, pp_dd1]
      by_cases e4 : pp_h P k < 4
      · rw [kle _ e4]
      · have e5 := h05 k hk
        have : pp_h P k = 4 := by omega
        rw [this]
        split <;> split <;> rfl
    · have e2 := (w2 k hk z).1
      unfold kh_K
      split
      · exact Or.inr rfl
      · exact e2
    · have e2 := (w2 k hk z).2 y
      unfold kh_K
      rw [e2, kls, if_neg (by decide)]
    · rw [pp_dd1] at y
      unfold kw_K
      rw [kle t ht, y]
      simp
      exact w3 t ht z rfl k hk
    · unfold kw_K
      rw [kls]
      simp
      exact w4 k hk y
  · rw [e11 j hj]
    unfold kp_K
    by_cases e1 : j / 3 = pp_sl P
    · rw [e1, kls, if_neg (by decide), d6 j hj, e1]
    · have ne : ¬ (j / 3 = pp_sl P ∧ (ms (j % 3) = 1 ∨ ms (j % 3) = 4)) := fun q => e1 q.1
      rw [if_neg ne, d6 j hj, if_neg ne]
      split <;> rfl
end STRIKE
end
section
/-! ===== the protocol, method by method, against the control ===== -/
def mx_R (P : cp_P) (c : cs_C) (u : St1) : Prop := mx_M P (pp_dd P c.2.2.2.1) c u
theorem bq_3 : ∀ p, p < 8 → ∀ m, m < 3 → ((nI p >>> (nI m &&& 31)) &&& 1) = nI (p.testBit m).toNat := by decide +kernel
theorem bq_30 {p m : Nat} (hp : p < 8) (hm : m < 3) : ((nI p >>> (nI m &&& 31)) &&& 1) = 0 ↔ p.testBit m = false := by
  rw [bq_3 p hp m hm]
  exact tb_z _
theorem bq_or : ∀ p, p < 8 → ∀ m, m < 3 → nI p ||| ((1 : Int32) <<< (nI m &&& 31)) = nI (p ||| 2 ^ m) ∧ p ||| 2 ^ m < 8 := by decide +kernel
section PROTO
variable {z_op z_st z_vo z_he z_ns z_nm z_sl z_pa z_tr z_td z_ha z_cc z_fi z_wa z_se z_lo : Int32} {z_im z_ls z_lk z_lt z_ly z_ln z_nu z_ho z_wk z_wn z_pr z_go z_mk z_mf z_mt z_mn : Nat → Int32}
theorem ml_isPart {post : Int32 → Prop} {p m : Nat} (hp : p < 8) (hm : m < 3) (hpa : z_pa = nI p) (H0 : p.testBit m = false → post 0) (H1 : p.testBit m = true → post 1) : wpX_isPart post (z_op, z_st, z_vo, z_he, z_ns, z_nm, z_sl, z_pa, z_tr, z_td, z_ha, z_cc, z_fi, z_wa, z_se, z_lo, z_im, z_ls, z_lk, z_lt, z_ly, z_ln, z_nu, z_ho, z_wk, z_wn, z_pr, z_go, z_mk, z_mf, z_mt, z_mn) (nI m) := by
  subst hpa
  exact rd_b (bq_30 hp hm) H0 H1
theorem ml_strikes {post : Int32 → St1 → Prop} {tr td : Nat} {ha : Bool} (wh m : Nat) (h1 : tr < 8) (h2 : td < 3) (h3 : wh < 8) (hm : m < 3) (ktr : z_tr = nI tr) (ktd : z_td = nI td) (kha : z_ha = nI ha.toNat)
    (H1 : tr = wh → ha = false → m = td → post 1 (z_op, z_st, z_vo, z_he, z_ns, z_nm, z_sl, z_pa, z_tr, z_td, 1, z_cc, z_fi, z_wa, z_se, z_lo, z_im, z_ls, z_lk, z_lt, z_ly, z_ln, z_nu, z_ho, z_wk, z_wn, z_pr, z_go, z_mk, z_mf, z_mt, z_mn)) (H0 : ¬ (tr = wh ∧ ha = false ∧ m = td) → post 0 (z_op, z_st, z_vo, z_he, z_ns, z_nm, z_sl, z_pa, z_tr, z_td, z_ha, z_cc, z_fi, z_wa, z_se, z_lo, z_im, z_ls, z_lk, z_lt, z_ly, z_ln, z_nu, z_ho, z_wk, z_wn, z_pr, z_go, z_mk, z_mf, z_mt, z_mn)) : wpX_strikes post (z_op, z_st, z_vo, z_he, z_ns, z_nm, z_sl, z_pa, z_tr, z_td, z_ha, z_cc, z_fi, z_wa, z_se, z_lo, z_im, z_ls, z_lk, z_lt, z_ly, z_ln, z_nu, z_ho, z_wk, z_wn, z_pr, z_go, z_mk, z_mf, z_mt, z_mn) (nI wh) (nI m) := by
  subst kha
  have F28 : ¬ (tr = wh ∧ ha = false ∧ m = td) → wX_strikes_28 post 0 z_op z_st z_vo z_he z_ns z_nm z_sl z_pa z_tr z_td (nI ha.toNat) z_cc z_fi z_wa z_se z_lo z_im z_ls z_lk z_lt z_ly z_ln z_nu z_ho z_wk z_wn z_pr z_go z_mk z_mf z_mt z_mn := by
    intro z
    have R := H0 z
    cases ha with
    | false => exact br_t rfl (br_t rfl ⟨rfl, R⟩)
    | true => exact br_f (by decide) ⟨rfl, R⟩
  refine pk_eq tr wh (fun e => ?_) (fun e => F28 (fun z => e z.1)) ktr
  cases ha with
  | false => exact br_t rfl (pk_eq m td (fun e2 => br_t rfl (br_f (by decide) ⟨rfl, H1 e rfl e2⟩)) (fun e2 => F28 (fun z => e2 z.2.2)) rfl ktd)
  | true => exact br_f (by decide) (F28 (fun z => absurd z.2.1 (by decide)))
theorem ms_send {post : St1 → Prop} {P : cp_P} {st vo he : Nat} {ha de : Bool} {q : List (Nat × Nat × Nat)} {se lo : Nat} {ms : Nat → Nat} {c' : cs_C} (k f t : Nat) (hk : k < 8) (hf : f < 4) (ht : t < 4) (hB : mb_B P) (hR : mx_R P (st, vo, he, ha, de, q, se, lo, ms) (z_op, z_st, z_vo, z_he, z_ns, z_nm, z_sl, z_pa, z_tr, z_td, z_ha, z_cc, z_fi, z_wa, z_se, z_lo, z_im, z_ls, z_lk, z_lt, z_ly, z_ln, z_nu, z_ho, z_wk, z_wn, z_pr, z_go, z_mk, z_mf, z_mt, z_mn)) (hc : cs_send (pp_tr P) k f t (st, vo, he, ha, de, q, se, lo, ms) = some c') (H : ∀ u', mx_R P c' u' → post u') : wpX_send post (z_op, z_st, z_vo, z_he, z_ns, z_nm, z_sl, z_pa, z_tr, z_td, z_ha, z_cc, z_fi, z_wa, z_se, z_lo, z_im, z_ls, z_lk, z_lt, z_ly, z_ln, z_nu, z_ho, z_wk, z_wn, z_pr, z_go, z_mk, z_mf, z_mt, z_mn) (nI k) (nI f) (nI t) := by
  obtain ⟨hK, hQ, hD, hL⟩ := hR
  have hK' := hK
  obtain ⟨⟨k1, k1'⟩, ⟨k2, k2'⟩, ⟨k3, k3'⟩, k4, k5, k6, k7, k8, k9, k10, k11⟩ := hK'
  unfold cs_send at hc
  dsimp only at hc
  split at hc
  · rename_i hcond
    injection hc with hc
    subst hc
    exact ml_send k f t hk hf ht k5 k8 hB.2.2.2.2.1 hcond.1 hcond.2.1 hcond.2.2 hQ (fun wa zse zlo mk mf mt mn h => H _ ⟨hK, h, hD, hL⟩)
  · exact absurd hc (by simp)
theorem ms_ask {post : St1 → Prop} {P : cp_P} {st vo he : Nat} {ha de : Bool} {q : List (Nat × Nat × Nat)} {se lo : Nat} {ms : Nat → Nat} {c' : cs_C} {m : Nat} (hm : m < 3) (hB : mb_B P) (hR : mx_R P (st, vo, he, ha, de, q, se, lo, ms) (z_op, z_st, z_vo, z_he, z_ns, z_nm, z_sl, z_pa, z_tr, z_td, z_ha, z_cc, z_fi, z_wa, z_se, z_lo, z_im, z_ls, z_lk, z_lt, z_ly, z_ln, z_nu, z_ho, z_wk, z_wn, z_pr, z_go, z_mk, z_mf, z_mt, z_mn)) (hc : (if ms m = 1 ∨ ms m = 4 then cs_send (pp_tr P) 7 m 3 (st, vo, he, ha, de, q, se, lo, ms) else cs_send (pp_tr P) 5 3 m (st, vo, he, ha, de, q, se, lo, ms)) = some c') (H : ∀ u', mx_R P c' u' → post u') : wpX_askOrRefuse post (z_op, z_st, z_vo, z_he, z_ns, z_nm, z_sl, z_pa, z_tr, z_td, z_ha, z_cc, z_fi, z_wa, z_se, z_lo, z_im, z_ls, z_lk, z_lt, z_ly, z_ln, z_nu, z_ho, z_wk, z_wn, z_pr, z_go, z_mk, z_mf, z_mt, z_mn) (nI m) := by
  have hR' := hR
  obtain ⟨⟨⟨k1, k1'⟩, ⟨k2, k2'⟩, ⟨k3, k3'⟩, k4, k5, k6, k7, k8, k9, k10, k11⟩, hQ, hD, hL⟩ := hR'
  have hs4 : pp_sl P < 4 := hB.2.2.1
  have ei : z_sl * 3 + nI m = nI (pp_sl P * 3 + m) := by rw [k6, ix_3]
  have ep : z_pr (z_sl * 3 + nI m).toNatClampNeg = z_nm ↔ (ms m = 1 ∨ ms m = 4) := by
    rw [ei, nI_clamp (by omega), k5]
    exact pr_eq hB hm hD.2.2.2.2.2.1
  refine ⟨pk_in (pp_sl P * 3 + m) 12 (by omega) ei, rd_if ep (fun e => ?_) (fun e => ?_)⟩
  · rw [if_pos e] at hc
    exact ms_send 7 m 3 (by omega) (by omega) (by omega) hB hR hc (fun u' h => by obtain ⟨z_op, z_st, z_vo, z_he, z_ns, z_nm, z_sl, z_pa, z_tr, z_td, z_ha, z_cc, z_fi, z_wa, z_se, z_lo, z_im, z_ls, z_lk, z_lt, z_ly, z_ln, z_nu, z_ho, z_wk, z_wn, z_pr, z_go, z_mk, z_mf, z_mt, z_mn⟩ := u'; exact H _ h)
  · rw [if_neg e] at hc
    exact ms_send 5 3 m (by omega) (by omega) (by omega) hB hR hc (fun u' h => by obtain ⟨z_op, z_st, z_vo, z_he, z_ns, z_nm, z_sl, z_pa, z_tr, z_td, z_ha, z_cc, z_fi, z_wa, z_se, z_lo, z_im, z_ls, z_lk, z_lt, z_ly, z_ln, z_nu, z_ho, z_wk, z_wn, z_pr, z_go, z_mk, z_mf, z_mt, z_mn⟩ := u'; exact H _ h)
/-! remind -/
theorem r95_no {post : St1 → Prop} {J : Int32 → Int32 → Int32 → Int32 → Int32 → Int32 → Int32 → Int32 → Int32 → Int32 → Int32 → Int32 → Int32 → Int32 → Int32 → Int32 → Int32 → (Nat → Int32) → (Nat → Int32) → (Nat → Int32) → (Nat → Int32) → (Nat → Int32) → (Nat → Int32) → (Nat → Int32) → (Nat → Int32) → (Nat → Int32) → (Nat → Int32) → (Nat → Int32) → (Nat → Int32) → (Nat → Int32) → (Nat → Int32) → (Nat → Int32) → (Nat → Int32) → Prop} {P : cp_P} {st m : Nat} {told : Bool} (hB : mb_B P) (hm : m < 3) (h4 : st < 4) (k1 : z_st = nI st) (k7 : z_pa = nI (pp_pa P)) (e : ¬ ((pp_pa P).testBit m = true ∧ st = 3 ∧ told = false)) (HJ : J (nI (m + 1)) z_op z_st z_vo z_he z_ns z_nm z_sl z_pa z_tr z_td z_ha z_cc z_fi z_wa z_se z_lo z_im z_ls z_lk z_lt z_ly z_ln z_nu z_ho z_wk z_wn z_pr z_go z_mk z_mf z_mt z_mn) :
    wX_remind_95 post J (nI m) (nI told.toNat) z_op z_st z_vo z_he z_ns z_nm z_sl z_pa z_tr z_td z_ha z_cc z_fi z_wa z_se z_lo z_im z_ls z_lk z_lt z_ly z_ln z_nu z_ho z_wk z_wn z_pr z_go z_mk z_mf z_mt z_mn := by
  refine ml_isPart hB.2.2.2.1 hm k7 (fun e1 => br_t rfl (nm_r (nI_1 m) HJ)) (fun e1 => br_f (by decide) ?_)
  refine pk_eq st 3 (fun e2 => ?_) (fun e2 => nm_r (nI_1 m) HJ) k1
  cases told with
  | false => exact absurd ⟨e1, e2, rfl⟩ e
  | true => exact br_f (by decide) (nm_r (nI_1 m) HJ)
theorem r68_no {post : St1 → Prop} {J : Int32 → Int32 → Int32 → Int32 → Int32 → Int32 → Int32 → Int32 → Int32 → Int32 → Int32 → Int32 → Int32 → Int32 → Int32 → Int32 → Int32 → (Nat → Int32) → (Nat → Int32) → (Nat → Int32) → (Nat → Int32) → (Nat → Int32) → (Nat → Int32) → (Nat → Int32) → (Nat → Int32) → (Nat → Int32) → (Nat → Int32) → (Nat → Int32) → (Nat → Int32) → (Nat → Int32) → (Nat → Int32) → (Nat → Int32) → (Nat → Int32) → Prop} {P : cp_P} {st m : Nat} {told : Bool} (hB : mb_B P) (hm : m < 3) (h4 : st < 4) (k1 : z_st = nI st) (k7 : z_pa = nI (pp_pa P)) (e : ¬ ((pp_pa P).testBit m = true ∧ st = 2 ∧ told = false)) (HJ : wX_remind_95 post J (nI m) (nI told.toNat) z_op z_st z_vo z_he z_ns z_nm z_sl z_pa z_tr z_td z_ha z_cc z_fi z_wa z_se z_lo z_im z_ls z_lk z_lt z_ly z_ln z_nu z_ho z_wk z_wn z_pr z_go z_mk z_mf z_mt z_mn) :
    wX_remind_68 post J (nI m) (nI told.toNat) z_op z_st z_vo z_he z_ns z_nm z_sl z_pa z_tr z_td z_ha z_cc z_fi z_wa z_se z_lo z_im z_ls z_lk z_lt z_ly z_ln z_nu z_ho z_wk z_wn z_pr z_go z_mk z_mf z_mt z_mn := by
  refine ml_isPart hB.2.2.2.1 hm k7 (fun e1 => br_t rfl HJ) (fun e1 => br_f (by decide) ?_)
  refine pk_eq st 2 (fun e2 => ?_) (fun e2 => HJ) k1
  cases told with
  | false => exact absurd ⟨e1, e2, rfl⟩ e
  | true => exact br_f (by decide) HJ
theorem r40_no {post : St1 → Prop} {J : Int32 → Int32 → Int32 → Int32 → Int32 → Int32 → Int32 → Int32 → Int32 → Int32 → Int32 → Int32 → Int32 → Int32 → Int32 → Int32 → Int32 → (Nat → Int32) → (Nat → Int32) → (Nat → Int32) → (Nat → Int32) → (Nat → Int32) → (Nat → Int32) → (Nat → Int32) → (Nat → Int32) → (Nat → Int32) → (Nat → Int32) → (Nat → Int32) → (Nat → Int32) → (Nat → Int32) → (Nat → Int32) → (Nat → Int32) → (Nat → Int32) → Prop} {P : cp_P} {st m : Nat} {vot told : Bool} (hB : mb_B P) (hm : m < 3) (h4 : st < 4) (k1 : z_st = nI st) (k7 : z_pa = nI (pp_pa P)) (e : ¬ ((pp_pa P).testBit m = true ∧ st = 1 ∧ vot = false)) (HJ : wX_remind_68 post J (nI m) (nI told.toNat) z_op z_st z_vo z_he z_ns z_nm z_sl z_pa z_tr z_td z_ha z_cc z_fi z_wa z_se z_lo z_im z_ls z_lk z_lt z_ly z_ln z_nu z_ho z_wk z_wn z_pr z_go z_mk z_mf z_mt z_mn) :
    wX_remind_40 post J (nI m) (nI vot.toNat) (nI told.toNat) z_op z_st z_vo z_he z_ns z_nm z_sl z_pa z_tr z_td z_ha z_cc z_fi z_wa z_se z_lo z_im z_ls z_lk z_lt z_ly z_ln z_nu z_ho z_wk z_wn z_pr z_go z_mk z_mf z_mt z_mn := by
  refine ml_isPart hB.2.2.2.1 hm k7 (fun e1 => br_t rfl HJ) (fun e1 => br_f (by decide) ?_)
  refine pk_eq st 1 (fun e2 => ?_) (fun e2 => HJ) k1
  cases vot with
  | false => exact absurd ⟨e1, e2, rfl⟩ e
  | true => exact br_f (by decide) HJ
theorem ms_rem40 {post : St1 → Prop} {J : Int32 → Int32 → Int32 → Int32 → Int32 → Int32 → Int32 → Int32 → Int32 → Int32 → Int32 → Int32 → Int32 → Int32 → Int32 → Int32 → Int32 → (Nat → Int32) → (Nat → Int32) → (Nat → Int32) → (Nat → Int32) → (Nat → Int32) → (Nat → Int32) → (Nat → Int32) → (Nat → Int32) → (Nat → Int32) → (Nat → Int32) → (Nat → Int32) → (Nat → Int32) → (Nat → Int32) → (Nat → Int32) → (Nat → Int32) → (Nat → Int32) → Prop} {P : cp_P} {st vo he : Nat} {ha de : Bool} {q : List (Nat × Nat × Nat)} {se lo : Nat} {ms : Nat → Nat} {c' : cs_C} {m : Nat} (hB : mb_B P) (hm : m < 3) (hR : mx_R P (st, vo, he, ha, de, q, se, lo, ms) (z_op, z_st, z_vo, z_he, z_ns, z_nm, z_sl, z_pa, z_tr, z_td, z_ha, z_cc, z_fi, z_wa, z_se, z_lo, z_im, z_ls, z_lk, z_lt, z_ly, z_ln, z_nu, z_ho, z_wk, z_wn, z_pr, z_go, z_mk, z_mf, z_mt, z_mn)) (hc : cs_rem1 (pp_pa P) (pp_tr P) m (st, vo, he, ha, de, q, se, lo, ms) = some c')
    (HJ : ∀ (z_op z_st z_vo z_he z_ns z_nm z_sl z_pa z_tr z_td z_ha z_cc z_fi z_wa z_se z_lo : Int32) (z_im z_ls z_lk z_lt z_ly z_ln z_nu z_ho z_wk z_wn z_pr z_go z_mk z_mf z_mt z_mn : Nat → Int32), mx_R P c' (z_op, z_st, z_vo, z_he, z_ns, z_nm, z_sl, z_pa, z_tr, z_td, z_ha, z_cc, z_fi, z_wa, z_se, z_lo, z_im, z_ls, z_lk, z_lt, z_ly, z_ln, z_nu, z_ho, z_wk, z_wn, z_pr, z_go, z_mk, z_mf, z_mt, z_mn) → J (nI (m + 1)) z_op z_st z_vo z_he z_ns z_nm z_sl z_pa z_tr z_td z_ha z_cc z_fi z_wa z_se z_lo z_im z_ls z_lk z_lt z_ly z_ln z_nu z_ho z_wk z_wn z_pr z_go z_mk z_mf z_mt z_mn) : wX_remind_40 post J (nI m) (nI (vo.testBit m).toNat) (nI (he.testBit m).toNat) z_op z_st z_vo z_he z_ns z_nm z_sl z_pa z_tr z_td z_ha z_cc z_fi z_wa z_se z_lo z_im z_ls z_lk z_lt z_ly z_ln z_nu z_ho z_wk z_wn z_pr z_go z_mk z_mf z_mt z_mn := by
  have hR' := hR
  obtain ⟨⟨⟨k1, k1'⟩, ⟨k2, k2'⟩, ⟨k3, k3'⟩, k4, k5, k6, k7, k8, k9, k10, k11⟩, hQ, hD, hL⟩ := hR'
  have h8 := hB.2.2.2.1
  unfold cs_rem1 at hc
  dsimp only at hc
  by_cases ep : (pp_pa P).testBit m = true
  · rw [if_pos ep] at hc
    by_cases e1 : st = 1
    · subst e1
      rw [if_pos rfl] at hc
      by_cases ev : vo.testBit m = false
      · rw [if_pos ev] at hc
        rw [ev]
        refine ml_isPart h8 hm k7 (fun y => by rw [ep] at y; exact absurd y (by decide)) (fun _ => br_f (by decide) (br_t k1 (br_t rfl ?_)))
        refine ms_send 1 3 m (by omega) (by omega) (by omega) hB hR hc (fun u' h => ?_)
        obtain ⟨z_op, z_st, z_vo, z_he, z_ns, z_nm, z_sl, z_pa, z_tr, z_td, z_ha, z_cc, z_fi, z_wa, z_se, z_lo, z_im, z_ls, z_lk, z_lt, z_ly, z_ln, z_nu, z_ho, z_wk, z_wn, z_pr, z_go, z_mk, z_mf, z_mt, z_mn⟩ := u'
        have h' := h
        unfold cs_send at hc
        dsimp only at hc
        split at hc
        · injection hc with hc
          subst hc
          obtain ⟨⟨⟨j1, _⟩, _, _, _, _, _, j7, _⟩, _⟩ := h'
          exact r68_no hB hm (by omega) j1 j7 (by omega) (r95_no hB hm (by omega) j1 j7 (by omega) (HJ _ _ _ _ _ _ _ _ _ _ _ _ _ _ _ _ _ _ _ _ _ _ _ _ _ _ _ _ _ _ _ _ h))
        · exact absurd hc (by simp)
      · rw [if_neg ev] at hc
        injection hc with hc
        subst hc
        refine r40_no hB hm k1' k1 k7 (fun z => ev z.2.2) (r68_no hB hm k1' k1 k7 (by omega) (r95_no hB hm k1' k1 k7 (by omega) (HJ _ _ _ _ _ _ _ _ _ _ _ _ _ _ _ _ _ _ _ _ _ _ _ _ _ _ _ _ _ _ _ _ hR)))
    · rw [if_neg e1] at hc
      refine r40_no hB hm k1' k1 k7 (fun z => e1 z.2.1) ?_
      by_cases eh : he.testBit m = true
      · rw [if_pos eh] at hc
        injection hc with hc
        subst hc
        rw [eh]
        exact r68_no hB hm k1' k1 k7 (fun z => absurd z.2.2 (by decide)) (r95_no hB hm k1' k1 k7 (fun z => absurd z.2.2 (by decide)) (HJ _ _ _ _ _ _ _ _ _ _ _ _ _ _ _ _ _ _ _ _ _ _ _ _ _ _ _ _ _ _ _ _ hR))
      · rw [if_neg eh] at hc
        have ehf : he.testBit m = false := by simpa using eh
        rw [ehf]
        by_cases e2 : st = 2
        · subst e2
          rw [if_pos rfl] at hc
          refine ml_isPart h8 hm k7 (fun y => by rw [ep] at y; exact absurd y (by decide)) (fun _ => br_f (by decide) (br_t k1 (br_t rfl ?_)))
          refine ms_send 4 3 m (by omega) (by omega) (by omega) hB hR hc (fun u' h => ?_)
          obtain ⟨z_op, z_st, z_vo, z_he, z_ns, z_nm, z_sl, z_pa, z_tr, z_td, z_ha, z_cc, z_fi, z_wa, z_se, z_lo, z_im, z_ls, z_lk, z_lt, z_ly, z_ln, z_nu, z_ho, z_wk, z_wn, z_pr, z_go, z_mk, z_mf, z_mt, z_mn⟩ := u'
          have h' := h
          unfold cs_send at hc
          dsimp only at hc
          split at hc
          · injection hc with hc
            subst hc
            obtain ⟨⟨⟨j1, _⟩, _, _, _, _, _, j7, _⟩, _⟩ := h'
            exact r95_no (told := false) hB hm (by omega) j1 j7 (by omega) (HJ _ _ _ _ _ _ _ _ _ _ _ _ _ _ _ _ _ _ _ _ _ _ _ _ _ _ _ _ _ _ _ _ h)
          · exact absurd hc (by simp)
        · rw [if_neg e2] at hc
          refine r68_no (told := false) hB hm k1' k1 k7 (fun z => e2 z.2.1) ?_
          by_cases e3 : st = 3
          · subst e3
            rw [if_pos rfl] at hc
            refine ml_isPart h8 hm k7 (fun y => by rw [ep] at y; exact absurd y (by decide)) (fun _ => br_f (by decide) (br_t k1 (br_t rfl ?_)))
            refine ms_ask hm hB hR hc (fun u' h => ?_)
            obtain ⟨z_op, z_st, z_vo, z_he, z_ns, z_nm, z_sl, z_pa, z_tr, z_td, z_ha, z_cc, z_fi, z_wa, z_se, z_lo, z_im, z_ls, z_lk, z_lt, z_ly, z_ln, z_nu, z_ho, z_wk, z_wn, z_pr, z_go, z_mk, z_mf, z_mt, z_mn⟩ := u'
            exact nm_r (nI_1 m) (HJ _ _ _ _ _ _ _ _ _ _ _ _ _ _ _ _ _ _ _ _ _ _ _ _ _ _ _ _ _ _ _ _ h)
          · rw [if_neg e3] at hc
            injection hc with hc
            subst hc
            exact r95_no (told := false) hB hm k1' k1 k7 (fun z => e3 z.2.1) (HJ _ _ _ _ _ _ _ _ _ _ _ _ _ _ _ _ _ _ _ _ _ _ _ _ _ _ _ _ _ _ _ _ hR)
  · rw [if_neg ep] at hc
    injection hc with hc
    subst hc
    exact r40_no hB hm k1' k1 k7 (fun z => ep z.1) (r68_no hB hm k1' k1 k7 (fun z => ep z.1) (r95_no hB hm k1' k1 k7 (fun z => ep z.1) (HJ _ _ _ _ _ _ _ _ _ _ _ _ _ _ _ _ _ _ _ _ _ _ _ _ _ _ _ _ _ _ _ _ hR)))
theorem ms_rem2 {post : St1 → Prop} {P : cp_P} {st vo he : Nat} {ha de : Bool} {q : List (Nat × Nat × Nat)} {se lo : Nat} {ms : Nat → Nat} {c' : cs_C} {m n : Nat} (hB : mb_B P) (hm : m < 3) (hR : mx_R P (st, vo, he, ha, de, q, se, lo, ms) (z_op, z_st, z_vo, z_he, z_ns, z_nm, z_sl, z_pa, z_tr, z_td, z_ha, z_cc, z_fi, z_wa, z_se, z_lo, z_im, z_ls, z_lk, z_lt, z_ly, z_ln, z_nu, z_ho, z_wk, z_wn, z_pr, z_go, z_mk, z_mf, z_mt, z_mn)) (hc : cs_rem1 (pp_pa P) (pp_tr P) m (st, vo, he, ha, de, q, se, lo, ms) = some c')
    (HJ : ∀ (z_op z_st z_vo z_he z_ns z_nm z_sl z_pa z_tr z_td z_ha z_cc z_fi z_wa z_se z_lo : Int32) (z_im z_ls z_lk z_lt z_ly z_ln z_nu z_ho z_wk z_wn z_pr z_go z_mk z_mf z_mt z_mn : Nat → Int32), mx_R P c' (z_op, z_st, z_vo, z_he, z_ns, z_nm, z_sl, z_pa, z_tr, z_td, z_ha, z_cc, z_fi, z_wa, z_se, z_lo, z_im, z_ls, z_lk, z_lt, z_ly, z_ln, z_nu, z_ho, z_wk, z_wn, z_pr, z_go, z_mk, z_mf, z_mt, z_mn) → wX_remind_2 post n (nI (m + 1)) z_op z_st z_vo z_he z_ns z_nm z_sl z_pa z_tr z_td z_ha z_cc z_fi z_wa z_se z_lo z_im z_ls z_lk z_lt z_ly z_ln z_nu z_ho z_wk z_wn z_pr z_go z_mk z_mf z_mt z_mn) : wX_remind_2 post (n + 1) (nI m) z_op z_st z_vo z_he z_ns z_nm z_sl z_pa z_tr z_td z_ha z_cc z_fi z_wa z_se z_lo z_im z_ls z_lk z_lt z_ly z_ln z_nu z_ho z_wk z_wn z_pr z_go z_mk z_mf z_mt z_mn := by
  have hR' := hR
  obtain ⟨⟨⟨k1, k1'⟩, ⟨k2, k2'⟩, ⟨k3, k3'⟩, k4, k5, k6, k7, k8, k9, k10, k11⟩, hQ, hD, hL⟩ := hR'
  have R := ms_rem40 (post := post) (J := wX_remind_2 post n) hB hm hR hc HJ
  have gv : ((z_vo >>> (nI m &&& 31)) &&& 1) = 0 ↔ vo.testBit m = false := by rw [k2]; exact bq_30 k2' hm
  have gh : ((z_he >>> (nI m &&& 31)) &&& 1) = 0 ↔ he.testBit m = false := by rw [k3]; exact bq_30 k3' hm
  have R23 : wX_remind_23 post (wX_remind_2 post n) (nI m) (nI (vo.testBit m).toNat) z_op z_st z_vo z_he z_ns z_nm z_sl z_pa z_tr z_td z_ha z_cc z_fi z_wa z_se z_lo z_im z_ls z_lk z_lt z_ly z_ln z_nu z_ho z_wk z_wn z_pr z_go z_mk z_mf z_mt z_mn := by
    refine rd_b gh (fun e => ?_) (fun e => ?_)
    · rw [e] at R
      exact R
    · rw [e] at R
      exact R
  refine pk_le 3 m (fun z => absurd z (by omega)) (fun _ => rd_b gv (fun e => ?_) (fun e => ?_))
  · rw [e] at R23
    exact R23
  · rw [e] at R23
    exact R23
theorem ms_rem {post : St1 → Prop} {P : cp_P} {st vo he : Nat} {ha de : Bool} {q : List (Nat × Nat × Nat)} {se lo : Nat} {ms : Nat → Nat} {c' : cs_C} (hB : mb_B P) (hR : mx_R P (st, vo, he, ha, de, q, se, lo, ms) (z_op, z_st, z_vo, z_he, z_ns, z_nm, z_sl, z_pa, z_tr, z_td, z_ha, z_cc, z_fi, z_wa, z_se, z_lo, z_im, z_ls, z_lk, z_lt, z_ly, z_ln, z_nu, z_ho, z_wk, z_wn, z_pr, z_go, z_mk, z_mf, z_mt, z_mn)) (hc : cs_rem (pp_pa P) (pp_tr P) (st, vo, he, ha, de, q, se, lo, ms) = some c') (H : ∀ u', mx_R P c' u' → post u') : wpX_remind post (z_op, z_st, z_vo, z_he, z_ns, z_nm, z_sl, z_pa, z_tr, z_td, z_ha, z_cc, z_fi, z_wa, z_se, z_lo, z_im, z_ls, z_lk, z_lt, z_ly, z_ln, z_nu, z_ho, z_wk, z_wn, z_pr, z_go, z_mk, z_mf, z_mt, z_mn) := by
  unfold cs_rem at hc
  rw [Option.bind_eq_some_iff] at hc
  obtain ⟨⟨st1, vo1, he1, ha1, de1, q1, se1, lo1, ms1⟩, hc1, hc⟩ := hc
  rw [Option.bind_eq_some_iff] at hc
  obtain ⟨⟨st2, vo2, he2, ha2, de2, q2, se2, lo2, ms2⟩, hc2, hc3⟩ := hc
  refine ⟨4, ?_⟩
  refine ms_rem2 (m := 0) (n := 3) hB (by omega) hR hc1 ?_
  intro z_op z_st z_vo z_he z_ns z_nm z_sl z_pa z_tr z_td z_ha z_cc z_fi z_wa z_se z_lo z_im z_ls z_lk z_lt z_ly z_ln z_nu z_ho z_wk z_wn z_pr z_go z_mk z_mf z_mt z_mn hR1
  refine ms_rem2 (m := 1) (n := 2) hB (by omega) hR1 hc2 ?_
  intro z_op z_st z_vo z_he z_ns z_nm z_sl z_pa z_tr z_td z_ha z_cc z_fi z_wa z_se z_lo z_im z_ls z_lk z_lt z_ly z_ln z_nu z_ho z_wk z_wn z_pr z_go z_mk z_mf z_mt z_mn hR2
  refine ms_rem2 (m := 2) (n := 1) hB (by omega) hR2 hc3 ?_
  intro z_op z_st z_vo z_he z_ns z_nm z_sl z_pa z_tr z_td z_ha z_cc z_fi z_wa z_se z_lo z_im z_ls z_lk z_lt z_ly z_ln z_nu z_ho z_wk z_wn z_pr z_go z_mk z_mf z_mt z_mn hR3
  exact pk_le 3 3 (fun _ => H _ hR3) (fun z => absurd z (by omega))
end PROTO
end
section
/-! ===== strikes, decisions, hearing, delivering ===== -/
theorem mL_dec {P : cp_P} {ls lk lt : Nat → Int32} {n : Nat} (hn : ls 3 = nI n) (h40 : n ≤ 40) (h : mx_L P false ls lk lt) : mx_L P true (upd ls 3 (nI (n + 1))) (upd lk (3 * 64 + n) (nI 5)) (upd lt (3 * 64 + n) (nI (pp_N P))) := by
  obtain ⟨n', h1, h2, h3, h4, h5⟩ := h
  have en : n' = n := by rw [hn, nn_inj (by omega) (by omega)] at h3; exact h3.symm
  subst en
  refine ⟨n' + 1, by omega, fun z => absurd z (by decide), pk_us, ⟨fun _ => ⟨n', by omega, pk_us, pk_us⟩, fun _ => rfl⟩, fun i hi => ?_⟩
  by_cases e : i = n'
  · subst e
    exact ⟨pp_N P, Nat.le_refl _, pk_us⟩
  · rw [pk_un (by omega)]
    exact h5 i (by omega)
section HEAR
variable {z_op z_st z_vo z_he z_ns z_nm z_sl z_pa z_tr z_td z_ha z_cc z_fi z_wa z_se z_lo : Int32} {z_im z_ls z_lk z_lt z_ly z_ln z_nu z_ho z_wk z_wn z_pr z_go z_mk z_mf z_mt z_mn : Nat → Int32}
theorem ms_brk {post : Int32 → St1 → Prop} {P : cp_P} {st vo he : Nat} {ha de : Bool} {q : List (Nat × Nat × Nat)} {se lo : Nat} {ms : Nat → Nat} {c' : cs_C} {m : Nat} (hB : mb_B P) (hm : m < 3) (htd : pp_td P = m) (htr : ¬ (pp_tr P = 2 ∨ pp_tr P = 3)) (hR : mx_R P (st, vo, he, ha, de, q, se, lo, ms) (z_op, z_st, z_vo, z_he, z_ns, z_nm, z_sl, z_pa, z_tr, z_td, z_ha, z_cc, z_fi, z_wa, z_se, z_lo, z_im, z_ls, z_lk, z_lt, z_ly, z_ln, z_nu, z_ho, z_wk, z_wn, z_pr, z_go, z_mk, z_mf, z_mt, z_mn)) (hc : cs_brk m (st, vo, he, ha, de, q, se, lo, ms) = some c') (H : ∀ r u', mx_R P c' u' → post r u') : wpX_breakDown post (z_op, z_st, z_vo, z_he, z_ns, z_nm, z_sl, z_pa, z_tr, z_td, 1, z_cc, z_fi, z_wa, z_se, z_lo, z_im, z_ls, z_lk, z_lt, z_ly, z_ln, z_nu, z_ho, z_wk, z_wn, z_pr, z_go, z_mk, z_mf, z_mt, z_mn) (nI m) := by
  obtain ⟨⟨⟨k1, k1'⟩, ⟨k2, k2'⟩, ⟨k3, k3'⟩, k4, k5, k6, k7, k8, k9, k10, k11⟩, hQ, hD, hL⟩ := hR
  unfold cs_brk at hc
  dsimp only at hc
  split at hc
  · rename_i hcond
    obtain ⟨hha, hst⟩ := hcond
    subst hha
    rw [Option.bind_eq_some_iff] at hc
    obtain ⟨v, hv, hc⟩ := hc
    injection hc with hc
    subst hc
    exact ml_brkM hB hm hv htd htr (by rw [k1]; exact nI_ne0 (by omega) (by omega)) k6 hD (fun r op nu ho wk wn pr go h => H r _ ⟨⟨⟨k1, k1'⟩, ⟨k2, k2'⟩, ⟨k3, k3'⟩, k4, k5, k6, k7, k8, k9, rfl, k11⟩, hQ, h, hL⟩)
  · exact absurd hc (by simp)
theorem ms_ldr {post : Int32 → St1 → Prop} {P : cp_P} {st vo he : Nat} {ha de : Bool} {q : List (Nat × Nat × Nat)} {se lo : Nat} {ms : Nat → Nat} {c' : cs_C} (hB : mb_B P) (htr : pp_tr P = 2 ∨ pp_tr P = 3) (hR : mx_R P (st, vo, he, ha, de, q, se, lo, ms) (z_op, z_st, z_vo, z_he, z_ns, z_nm, z_sl, z_pa, z_tr, z_td, z_ha, z_cc, z_fi, z_wa, z_se, z_lo, z_im, z_ls, z_lk, z_lt, z_ly, z_ln, z_nu, z_ho, z_wk, z_wn, z_pr, z_go, z_mk, z_mf, z_mt, z_mn)) (hc : cs_ldr (st, vo, he, ha, de, q, se, lo, ms) = some c') (H : ∀ r u', mx_R P c' u' → post r u') : wpX_breakLeader post (z_op, z_st, z_vo, z_he, z_ns, z_nm, z_sl, z_pa, z_tr, z_td, 1, z_cc, z_fi, z_wa, z_se, z_lo, z_im, z_ls, z_lk, z_lt, z_ly, z_ln, z_nu, z_ho, z_wk, z_wn, z_pr, z_go, z_mk, z_mf, z_mt, z_mn) := by
  obtain ⟨⟨⟨k1, k1'⟩, ⟨k2, k2'⟩, ⟨k3, k3'⟩, k4, k5, k6, k7, k8, k9, k10, k11⟩, hQ, hD, hL⟩ := hR
  unfold cs_ldr at hc
  dsimp only at hc
  split at hc
  · rename_i hcond
    obtain ⟨hha, hst⟩ := hcond
    subst hha
    injection hc with hc
    subst hc
    exact ml_ldrM hB htr (by rw [k1]; exact nI_ne0 (by omega) (by omega)) k6 k5 hD hL (fun r op ho wk pr h => H r _ ⟨⟨⟨rfl, by split <;> omega⟩, ⟨rfl, by omega⟩, ⟨rfl, by omega⟩, k4, k5, k6, k7, k8, k9, rfl, k11⟩, hQ, h, hL⟩)
  · exact absurd hc (by simp)
theorem ms_dec3 {post : St1 → Prop} {P : cp_P} {st vo he : Nat} {ha de : Bool} {q : List (Nat × Nat × Nat)} {se lo : Nat} {ms : Nat → Nat} {c' : cs_C} (hB : mb_B P) (hR : mx_R P (st, vo, he, ha, de, q, se, lo, ms) (z_op, z_st, z_vo, z_he, z_ns, z_nm, z_sl, z_pa, z_tr, z_td, z_ha, z_cc, z_fi, z_wa, z_se, z_lo, z_im, z_ls, z_lk, z_lt, z_ly, z_ln, z_nu, z_ho, z_wk, z_wn, z_pr, z_go, z_mk, z_mf, z_mt, z_mn)) (hc : cs_dec3 (pp_pa P) (pp_tr P) (pp_td P) (st, vo, he, ha, de, q, se, lo, ms) = some c') (H : ∀ u', mx_R P c' u' → post u') : wX_decideIfReady_64 post z_op z_st z_vo z_he z_ns z_nm z_sl z_pa z_tr z_td z_ha z_cc z_fi z_wa z_se z_lo z_im z_ls z_lk z_lt z_ly z_ln z_nu z_ho z_wk z_wn z_pr z_go z_mk z_mf z_mt z_mn := by
  have hR' := hR
  obtain ⟨⟨⟨k1, k1'⟩, ⟨k2, k2'⟩, ⟨k3, k3'⟩, k4, k5, k6, k7, k8, k9, k10, k11⟩, hQ, hD, hL⟩ := hR'
  have h8 := hB.2.2.2.1
  have t8 : pp_tr P < 8 := hB.2.2.2.2.1
  have d3 : pp_td P < 3 := hB.2.2.2.2.2.1
  have F125 : cs_rem (pp_pa P) (pp_tr P) (st, vo, he, ha, de, q, se, lo, ms) = some c' → wX_decideIfReady_125 post z_op z_st z_vo z_he z_ns z_nm z_sl z_pa z_tr z_td z_ha z_cc z_fi z_wa z_se z_lo z_im z_ls z_lk z_lt z_ly z_ln z_nu z_ho z_wk z_wn z_pr z_go z_mk z_mf z_mt z_mn := fun hc => ms_rem hB hR hc (fun u' h => by obtain ⟨z_op, z_st, z_vo, z_he, z_ns, z_nm, z_sl, z_pa, z_tr, z_td, z_ha, z_cc, z_fi, z_wa, z_se, z_lo, z_im, z_ls, z_lk, z_lt, z_ly, z_ln, z_nu, z_ho, z_wk, z_wn, z_pr, z_go, z_mk, z_mf, z_mt, z_mn⟩ := u'; exact H _ h)
  have F95 : cs_rem (pp_pa P) (pp_tr P) (st, vo, he, ha, de, q, se, lo, ms) = some c' → wX_decideIfReady_95 post z_op z_st z_vo z_he z_ns z_nm z_sl z_pa z_tr z_td z_ha z_cc z_fi z_wa z_se z_lo z_im z_ls z_lk z_lt z_ly z_ln z_nu z_ho z_wk z_wn z_pr z_go z_mk z_mf z_mt z_mn := fun hc => br_t rfl (F125 hc)
  subst k9
  have F91 : (pp_pa P).testBit (pp_td P) = false → (pp_tr P = 4 ∨ pp_tr P = 5) → wX_decideIfReady_91 post z_op z_st z_vo z_he z_ns z_nm z_sl z_pa z_tr (nI (pp_td P)) z_ha z_cc z_fi z_wa z_se z_lo z_im z_ls z_lk z_lt z_ly z_ln z_nu z_ho z_wk z_wn z_pr z_go z_mk z_mf z_mt z_mn := by
    intro ep et
    refine br_f (by decide) ?_
    subst k8
    refine ml_strikes (ha := ha) (pp_tr P) (pp_td P) t8 d3 t8 d3 rfl rfl k10 (fun _ eh _ => br_f (by decide) ?_) (fun z => br_t rfl ?_)
    · unfold cs_dec3 at hc
      dsimp only at hc
      rw [if_pos ⟨ep, et, eh⟩, Option.bind_eq_some_iff] at hc
      obtain ⟨⟨st1, vo1, he1, ha1, de1, q1, se1, lo1, ms1⟩, hc1, hc⟩ := hc
      refine ms_brk hB d3 rfl (by omega) hR hc1 (fun r u' h => ?_)
      obtain ⟨z_op, z_st, z_vo, z_he, z_ns, z_nm, z_sl, z_pa, z_tr, z_td, z_ha, z_cc, z_fi, z_wa, z_se, z_lo, z_im, z_ls, z_lk, z_lt, z_ly, z_ln, z_nu, z_ho, z_wk, z_wn, z_pr, z_go, z_mk, z_mf, z_mt, z_mn⟩ := u'
      exact ms_rem hB h hc (fun u' h => by obtain ⟨z_op, z_st, z_vo, z_he, z_ns, z_nm, z_sl, z_pa, z_tr, z_td, z_ha, z_cc, z_fi, z_wa, z_se, z_lo, z_im, z_ls, z_lk, z_lt, z_ly, z_ln, z_nu, z_ho, z_wk, z_wn, z_pr, z_go, z_mk, z_mf, z_mt, z_mn⟩ := u'; exact H _ h)
    · unfold cs_dec3 at hc
      dsimp only at hc
      rw [if_neg (fun q => z ⟨rfl, q.2.2, rfl⟩)] at hc
      exact F125 hc
  have hn : ¬ ((pp_pa P).testBit (pp_td P) = false ∧ (pp_tr P = 4 ∨ pp_tr P = 5) ∧ ha = false) → cs_rem (pp_pa P) (pp_tr P) (st, vo, he, ha, de, q, se, lo, ms) = some c' := by
    intro z
    unfold cs_dec3 at hc
    dsimp only at hc
    rw [if_neg z] at hc
    exact hc
  refine ml_isPart h8 d3 k7 (fun ep => br_t rfl ?_) (fun ep => br_f (by decide) (F95 (hn (fun q => by rw [ep] at q; exact absurd q.1 (by decide)))))
  refine pk_eq (pp_tr P) 4 (fun e => F91 ep (Or.inl e)) (fun e => pk_eq (pp_tr P) 5 (fun e5 => F91 ep (Or.inr e5)) (fun e5 => F95 (hn (fun q => q.2.1.elim e e5))) k8) k8
theorem ms_dec {post : St1 → Prop} {P : cp_P} {st vo he : Nat} {ha de : Bool} {q : List (Nat × Nat × Nat)} {se lo : Nat} {ms : Nat → Nat} {c' : cs_C} (hB : mb_B P) (hR : mx_R P (st, vo, he, ha, de, q, se, lo, ms) (z_op, z_st, z_vo, z_he, z_ns, z_nm, z_sl, z_pa, z_tr, z_td, z_ha, z_cc, z_fi, z_wa, z_se, z_lo, z_im, z_ls, z_lk, z_lt, z_ly, z_ln, z_nu, z_ho, z_wk, z_wn, z_pr, z_go, z_mk, z_mf, z_mt, z_mn)) (hc : cs_dec (pp_pa P) (pp_tr P) (pp_td P) (st, vo, he, ha, de, q, se, lo, ms) = some c') (H : ∀ u', mx_R P c' u' → post u') : wpX_decideIfReady post (z_op, z_st, z_vo, z_he, z_ns, z_nm, z_sl, z_pa, z_tr, z_td, z_ha, z_cc, z_fi, z_wa, z_se, z_lo, z_im, z_ls, z_lk, z_lt, z_ly, z_ln, z_nu, z_ho, z_wk, z_wn, z_pr, z_go, z_mk, z_mf, z_mt, z_mn) := by
  have hR' := hR
  obtain ⟨⟨⟨k1, k1'⟩, ⟨k2, k2'⟩, ⟨k3, k3'⟩, k4, k5, k6, k7, k8, k9, k10, k11⟩, hQ, hD, hL⟩ := hR'
  have h8 := hB.2.2.2.1
  have t8 : pp_tr P < 8 := hB.2.2.2.2.1
  have d3 : pp_td P < 3 := hB.2.2.2.2.2.1
  unfold cs_dec at hc
  dsimp only at hc
  subst k9
  refine pk_eq vo (pp_pa P) (fun e => ?_) (fun e => ?_) k2 k7
  rotate_left
  · rw [if_pos e] at hc
    injection hc with hc
    subst hc
    exact H _ hR
  rw [if_neg (fun z => z e)] at hc
  refine ml_strikes (ha := ha) 2 (pp_td P) t8 d3 (by omega) d3 k8 rfl k10 (fun e1 e2 _ => br_f (by decide) ?_) (fun z => br_t rfl ?_)
  · rw [if_pos ⟨e1, e2⟩] at hc
    exact ms_ldr hB (Or.inl e1) hR hc (fun r u' h => by obtain ⟨z_op, z_st, z_vo, z_he, z_ns, z_nm, z_sl, z_pa, z_tr, z_td, z_ha, z_cc, z_fi, z_wa, z_se, z_lo, z_im, z_ls, z_lk, z_lt, z_ly, z_ln, z_nu, z_ho, z_wk, z_wn, z_pr, z_go, z_mk, z_mf, z_mt, z_mn⟩ := u'; exact H _ h)
  rw [if_neg (fun q => z ⟨q.1, q.2, rfl⟩)] at hc
  by_cases ed : de = true
  · rw [if_pos ed] at hc
    exact absurd hc (by simp)
  rw [if_neg ed] at hc
  have ed' : de = false := by simpa using ed
  subst ed'
  have hL' := hL
  obtain ⟨n, g1, g2, g3, _⟩ := hL'
  have n40 := g2 rfl
  subst k5
  refine ml_log 3 n 5 0 (by omega) (by omega) (by omega) (by omega) g3 ?_
  have hR1 : mx_R P (2, vo, he, ha, true, q, se, lo, ms) (z_op, 2, z_vo, z_he, z_ns, nI (pp_N P), z_sl, z_pa, z_tr, nI (pp_td P), z_ha, z_cc, z_fi, z_wa, z_se, z_lo, z_im, upd z_ls 3 (nI (n + 1)), upd z_lk (3 * 64 + n) (nI 5), upd z_lt (3 * 64 + n) (nI (pp_N P)), upd z_ly (3 * 64 + n) (nI 0), upd z_ln (3 * 64 + n) 0, z_nu, z_ho, z_wk, z_wn, z_pr, z_go, z_mk, z_mf, z_mt, z_mn) := by
    obtain ⟨d1, d2, d3', d4, d5, d6, d7, d8, d9⟩ := hD
    exact ⟨⟨⟨rfl, by omega⟩, ⟨k2, k2'⟩, ⟨k3, k3'⟩, k4, rfl, k6, k7, k8, rfl, k10, k11⟩, hQ, ⟨d1, d2, d3', d4, d5, d6, d7, fun m hm => lf_same (pk_un (by omega)) (la_oth (by omega) (by omega)) (d8 m hm), d9⟩, mL_dec g3 n40 hL⟩
  refine ml_strikes (ha := ha) 3 (pp_td P) t8 d3 (by omega) d3 k8 rfl k10 (fun e1 e2 _ => br_f (by decide) ?_) (fun z => br_t rfl ?_)
  · rw [if_pos ⟨e1, e2⟩, Option.bind_eq_some_iff] at hc
    obtain ⟨⟨st1, vo1, he1, ha1, de1, q1, se1, lo1, ms1⟩, hc1, hc⟩ := hc
    refine ms_ldr hB (Or.inr e1) hR1 hc1 (fun r u' h => ?_)
    obtain ⟨z_op, z_st, z_vo, z_he, z_ns, z_nm, z_sl, z_pa, z_tr, z_td, z_ha, z_cc, z_fi, z_wa, z_se, z_lo, z_im, z_ls, z_lk, z_lt, z_ly, z_ln, z_nu, z_ho, z_wk, z_wn, z_pr, z_go, z_mk, z_mf, z_mt, z_mn⟩ := u'
    exact ms_dec3 hB h hc H
  · rw [if_neg (fun q => z ⟨q.1, q.2, rfl⟩)] at hc
    exact ms_dec3 hB hR1 hc H
theorem ms_prep {post : St1 → Prop} {P : cp_P} {st vo he : Nat} {ha de : Bool} {q : List (Nat × Nat × Nat)} {se lo : Nat} {ms : Nat → Nat} {c' : cs_C} {m : Nat} (hB : mb_B P) (hm : m < 3) (hR : mx_R P (st, vo, he, ha, de, q, se, lo, ms) (z_op, z_st, z_vo, z_he, z_ns, z_nm, z_sl, z_pa, z_tr, z_td, z_ha, z_cc, z_fi, z_wa, z_se, z_lo, z_im, z_ls, z_lk, z_lt, z_ly, z_ln, z_nu, z_ho, z_wk, z_wn, z_pr, z_go, z_mk, z_mf, z_mt, z_mn)) (hc : cs_prep (pp_tr P) (pp_td P) m (st, vo, he, ha, de, q, se, lo, ms) = some c') (H : ∀ u', mx_R P c' u' → post u') : wpX_hearPrepare post (z_op, z_st, z_vo, z_he, z_ns, z_nm, z_sl, z_pa, z_tr, z_td, z_ha, z_cc, z_fi, z_wa, z_se, z_lo, z_im, z_ls, z_lk, z_lt, z_ly, z_ln, z_nu, z_ho, z_wk, z_wn, z_pr, z_go, z_mk, z_mf, z_mt, z_mn) (nI m) := by
  have hR' := hR
  obtain ⟨⟨⟨k1, k1'⟩, ⟨k2, k2'⟩, ⟨k3, k3'⟩, k4, k5, k6, k7, k8, k9, k10, k11⟩, hQ, hD, hL⟩ := hR'
  have hs4 : pp_sl P < 4 := hB.2.2.1
  have t8 : pp_tr P < 8 := hB.2.2.2.2.1
  have d3 : pp_td P < 3 := hB.2.2.2.2.2.1
  unfold cs_prep at hc
  dsimp only at hc
  have ei : z_sl * 3 + nI m = nI (pp_sl P * 3 + m) := by rw [k6, ix_3]
  refine ml_strikes (ha := ha) 1 m t8 d3 (by omega) hm k8 k9 k10 (fun e1 e2 e3 => br_f (by decide) ?_) (fun z => br_t rfl (nm_r ei ⟨pk_in (pp_sl P * 3 + m) 12 (by omega), ?_⟩))
  · rw [if_pos ⟨e1, e2, e3⟩] at hc
    exact ms_brk hB hm e3.symm (by omega) hR hc (fun r u' h => by obtain ⟨z_op, z_st, z_vo, z_he, z_ns, z_nm, z_sl, z_pa, z_tr, z_td, z_ha, z_cc, z_fi, z_wa, z_se, z_lo, z_im, z_ls, z_lk, z_lt, z_ly, z_ln, z_nu, z_ho, z_wk, z_wn, z_pr, z_go, z_mk, z_mf, z_mt, z_mn⟩ := u'; exact H _ h)
  rw [if_neg z] at hc
  have ec : (nI (pp_sl P * 3 + m)).toNatClampNeg = pp_sl P * 3 + m := nI_clamp (by omega)
  obtain ⟨f1, f2, f3⟩ := hD.2.2.2.2.2.2.1
  have ep : z_pr (nI (pp_sl P * 3 + m)).toNatClampNeg = z_nm ↔ (ms m = 1 ∨ ms m = 4) := by
    rw [ec, k5]
    exact pr_eq hB hm hD.2.2.2.2.2.1
  by_cases e3 : ms m = 3
  · rw [if_pos e3] at hc
    refine br_f (by rw [ec]; exact f3 m hm e3) ?_
    exact ms_send 3 m 3 (by omega) (by omega) (by omega) hB hR hc (fun u' h => by obtain ⟨z_op, z_st, z_vo, z_he, z_ns, z_nm, z_sl, z_pa, z_tr, z_td, z_ha, z_cc, z_fi, z_wa, z_se, z_lo, z_im, z_ls, z_lk, z_lt, z_ly, z_ln, z_nu, z_ho, z_wk, z_wn, z_pr, z_go, z_mk, z_mf, z_mt, z_mn⟩ := u'; exact H _ h)
  rw [if_neg e3] at hc
  by_cases e1 : ms m = 1
  · rw [if_pos e1] at hc
    refine br_t (by rw [ec]; exact f2 m hm (Or.inr e1)) ⟨pk_in (pp_sl P * 3 + m) 12 (by omega), br_t (ep.mpr (Or.inl e1)) ?_⟩
    exact ms_send 2 m 3 (by omega) (by omega) (by omega) hB hR hc (fun u' h => by obtain ⟨z_op, z_st, z_vo, z_he, z_ns, z_nm, z_sl, z_pa, z_tr, z_td, z_ha, z_cc, z_fi, z_wa, z_se, z_lo, z_im, z_ls, z_lk, z_lt, z_ly, z_ln, z_nu, z_ho, z_wk, z_wn, z_pr, z_go, z_mk, z_mf, z_mt, z_mn⟩ := u'; exact H _ h)
  rw [if_neg e1] at hc
  by_cases e0 : ms m = 0
  · rw [if_pos e0] at hc
    refine br_t (by rw [ec]; exact f2 m hm (Or.inl e0)) ⟨pk_in (pp_sl P * 3 + m) 12 (by omega), br_f (fun y => by have := ep.mp y; omega) ?_⟩
    refine ml_promise hB hm e0 hD hL k6 k5 (fun ls lk lt ly ln pr h1 h2 => ?_)
    exact ms_send 2 m 3 (by omega) (by omega) (by omega) hB ⟨⟨⟨k1, k1'⟩, ⟨k2, k2'⟩, ⟨k3, k3'⟩, k4, k5, k6, k7, k8, k9, k10, k11⟩, hQ, h1, h2⟩ hc (fun u' h => by obtain ⟨z_op, z_st, z_vo, z_he, z_ns, z_nm, z_sl, z_pa, z_tr, z_td, z_ha, z_cc, z_fi, z_wa, z_se, z_lo, z_im, z_ls, z_lk, z_lt, z_ly, z_ln, z_nu, z_ho, z_wk, z_wn, z_pr, z_go, z_mk, z_mf, z_mt, z_mn⟩ := u'; exact H _ h)
  · rw [if_neg e0] at hc
    exact absurd hc (by simp)
theorem ms_com2 {post : St1 → Prop} {P : cp_P} {st vo he : Nat} {ha de : Bool} {q : List (Nat × Nat × Nat)} {se lo : Nat} {ms : Nat → Nat} {c' : cs_C} {m : Nat} (hB : mb_B P) (hm : m < 3) (hR : mx_R P (st, vo, he, ha, de, q, se, lo, ms) (z_op, z_st, z_vo, z_he, z_ns, z_nm, z_sl, z_pa, z_tr, z_td, z_ha, z_cc, z_fi, z_wa, z_se, z_lo, z_im, z_ls, z_lk, z_lt, z_ly, z_ln, z_nu, z_ho, z_wk, z_wn, z_pr, z_go, z_mk, z_mf, z_mt, z_mn)) (hc : cs_com2 (pp_tr P) (pp_td P) m (st, vo, he, ha, de, q, se, lo, ms) = some c') (H : ∀ u', mx_R P c' u' → post u') : wX_hearCommit_66 post (nI m) z_op z_st z_vo z_he z_ns z_nm z_sl z_pa z_tr z_td z_ha z_cc z_fi z_wa z_se z_lo z_im z_ls z_lk z_lt z_ly z_ln z_nu z_ho z_wk z_wn z_pr z_go z_mk z_mf z_mt z_mn := by
  have hR' := hR
  obtain ⟨⟨⟨k1, k1'⟩, ⟨k2, k2'⟩, ⟨k3, k3'⟩, k4, k5, k6, k7, k8, k9, k10, k11⟩, hQ, hD, hL⟩ := hR'
  have t8 : pp_tr P < 8 := hB.2.2.2.2.1
  have d3 : pp_td P < 3 := hB.2.2.2.2.2.1
  unfold cs_com2 at hc
  dsimp only at hc
  refine ml_strikes (ha := ha) 5 m t8 d3 (by omega) hm k8 k9 k10 (fun e1 e2 e3 => br_f (by decide) ?_) (fun z => br_t rfl ?_)
  · rw [if_pos ⟨e1, e2, e3⟩] at hc
    exact ms_brk hB hm e3.symm (by omega) hR hc (fun r u' h => by obtain ⟨z_op, z_st, z_vo, z_he, z_ns, z_nm, z_sl, z_pa, z_tr, z_td, z_ha, z_cc, z_fi, z_wa, z_se, z_lo, z_im, z_ls, z_lk, z_lt, z_ly, z_ln, z_nu, z_ho, z_wk, z_wn, z_pr, z_go, z_mk, z_mf, z_mt, z_mn⟩ := u'; exact H _ h)
  · rw [if_neg z] at hc
    exact ms_send 6 m 3 (by omega) (by omega) (by omega) hB hR hc (fun u' h => by obtain ⟨z_op, z_st, z_vo, z_he, z_ns, z_nm, z_sl, z_pa, z_tr, z_td, z_ha, z_cc, z_fi, z_wa, z_se, z_lo, z_im, z_ls, z_lk, z_lt, z_ly, z_ln, z_nu, z_ho, z_wk, z_wn, z_pr, z_go, z_mk, z_mf, z_mt, z_mn⟩ := u'; exact H _ h)
theorem ms_com {post : St1 → Prop} {P : cp_P} {st vo he : Nat} {ha de : Bool} {q : List (Nat × Nat × Nat)} {se lo : Nat} {ms : Nat → Nat} {c' : cs_C} {m : Nat} (hB : mb_B P) (hm : m < 3) (hR : mx_R P (st, vo, he, ha, de, q, se, lo, ms) (z_op, z_st, z_vo, z_he, z_ns, z_nm, z_sl, z_pa, z_tr, z_td, z_ha, z_cc, z_fi, z_wa, z_se, z_lo, z_im, z_ls, z_lk, z_lt, z_ly, z_ln, z_nu, z_ho, z_wk, z_wn, z_pr, z_go, z_mk, z_mf, z_mt, z_mn)) (hc : cs_com (pp_tr P) (pp_td P) m (st, vo, he, ha, de, q, se, lo, ms) = some c') (H : ∀ u', mx_R P c' u' → post u') : wpX_hearCommit post (z_op, z_st, z_vo, z_he, z_ns, z_nm, z_sl, z_pa, z_tr, z_td, z_ha, z_cc, z_fi, z_wa, z_se, z_lo, z_im, z_ls, z_lk, z_lt, z_ly, z_ln, z_nu, z_ho, z_wk, z_wn, z_pr, z_go, z_mk, z_mf, z_mt, z_mn) (nI m) := by
  have hR' := hR
  obtain ⟨⟨⟨k1, k1'⟩, ⟨k2, k2'⟩, ⟨k3, k3'⟩, k4, k5, k6, k7, k8, k9, k10, k11⟩, hQ, hD, hL⟩ := hR'
  have hs4 : pp_sl P < 4 := hB.2.2.1
  have t8 : pp_tr P < 8 := hB.2.2.2.2.1
  have d3 : pp_td P < 3 := hB.2.2.2.2.2.1
  unfold cs_com at hc
  dsimp only at hc
  have ei : z_sl * 3 + nI m = nI (pp_sl P * 3 + m) := by rw [k6, ix_3]
  refine ml_strikes (ha := ha) 4 m t8 d3 (by omega) hm k8 k9 k10 (fun e1 e2 e3 => br_f (by decide) ?_) (fun z => br_t rfl ⟨pk_in (pp_sl P * 3 + m) 12 (by omega) ei, ?_⟩)
  · rw [if_pos ⟨e1, e2, e3⟩] at hc
    exact ms_brk hB hm e3.symm (by omega) hR hc (fun r u' h => by obtain ⟨z_op, z_st, z_vo, z_he, z_ns, z_nm, z_sl, z_pa, z_tr, z_td, z_ha, z_cc, z_fi, z_wa, z_se, z_lo, z_im, z_ls, z_lk, z_lt, z_ly, z_ln, z_nu, z_ho, z_wk, z_wn, z_pr, z_go, z_mk, z_mf, z_mt, z_mn⟩ := u'; exact H _ h)
  rw [if_neg z] at hc
  have ep : z_pr (z_sl * 3 + nI m).toNatClampNeg = z_nm ↔ (ms m = 1 ∨ ms m = 4) := by
    rw [ei, nI_clamp (by omega), k5]
    exact pr_eq hB hm hD.2.2.2.2.2.1
  by_cases e1 : ms m = 1 ∨ ms m = 4
  · rw [if_pos e1] at hc
    refine br_t (ep.mpr e1) ?_
    subst k5 k6
    obtain ⟨n, n45, g4, hky, h, w, dh, dw, fin⟩ := md_done hB hm e1 hD hL
    refine ml_log m n 3 0 (by omega) (by omega) (by omega) (by omega) g4 ?_
    refine ml_apply m (n + 1) hm (by omega) pk_us hky (fun nu hnu => ?_)
    refine ml_releaseOn hs4 hm dh dw (fun b8 b9 h8 h9 => ?_)
    obtain ⟨f1, f2⟩ := fin nu b8 b9 hnu h8 h9
    exact ms_com2 hB hm ⟨⟨⟨k1, k1'⟩, ⟨k2, k2'⟩, ⟨k3, k3'⟩, k4, rfl, rfl, k7, k8, k9, k10, k11⟩, hQ, f1, f2⟩ hc H
  · rw [if_neg e1] at hc
    refine br_f (fun y => e1 (ep.mp y)) ?_
    by_cases e2 : ms m = 2
    · rw [if_pos e2] at hc
      exact ms_com2 hB hm hR hc H
    · rw [if_neg e2] at hc
      exact absurd hc (by simp)
theorem ms_ref {post : St1 → Prop} {P : cp_P} {st vo he : Nat} {ha de : Bool} {q : List (Nat × Nat × Nat)} {se lo : Nat} {ms : Nat → Nat} {c' : cs_C} {m : Nat} (hB : mb_B P) (hm : m < 3) (hR : mx_R P (st, vo, he, ha, de, q, se, lo, ms) (z_op, z_st, z_vo, z_he, z_ns, z_nm, z_sl, z_pa, z_tr, z_td, z_ha, z_cc, z_fi, z_wa, z_se, z_lo, z_im, z_ls, z_lk, z_lt, z_ly, z_ln, z_nu, z_ho, z_wk, z_wn, z_pr, z_go, z_mk, z_mf, z_mt, z_mn)) (hc : cs_ref (pp_tr P) m (st, vo, he, ha, de, q, se, lo, ms) = some c') (H : ∀ u', mx_R P c' u' → post u') : wpX_hearRefuse post (z_op, z_st, z_vo, z_he, z_ns, z_nm, z_sl, z_pa, z_tr, z_td, z_ha, z_cc, z_fi, z_wa, z_se, z_lo, z_im, z_ls, z_lk, z_lt, z_ly, z_ln, z_nu, z_ho, z_wk, z_wn, z_pr, z_go, z_mk, z_mf, z_mt, z_mn) (nI m) := by
  have hR' := hR
  obtain ⟨⟨⟨k1, k1'⟩, ⟨k2, k2'⟩, ⟨k3, k3'⟩, k4, k5, k6, k7, k8, k9, k10, k11⟩, hQ, hD, hL⟩ := hR'
  have hs4 : pp_sl P < 4 := hB.2.2.1
  have hN : 1 ≤ pp_N P ∧ pp_N P < 1000 := ⟨hB.1, hB.2.1⟩
  unfold cs_ref at hc
  dsimp only at hc
  have ei : z_sl * 3 + nI m = nI (pp_sl P * 3 + m) := by rw [k6, ix_3]
  have ep : z_pr (z_sl * 3 + nI m).toNatClampNeg = z_nm ↔ (ms m = 1 ∨ ms m = 4) := by
    rw [ei, nI_clamp (by omega), k5]
    exact pr_eq hB hm hD.2.2.2.2.2.1
  split at hc
  · rename_i hcond
    refine ⟨pk_in (pp_sl P * 3 + m) 12 (by omega) ei, ?_⟩
    have d8 := hD.2.2.2.2.2.2.2.1
    by_cases e1 : ms m = 1
    · refine br_t (ep.mpr (Or.inl e1)) ?_
      subst k5 k6
      have hLm := d8 m hm
      rw [e1] at hLm
      have hLm' := hLm
      obtain ⟨n, g1, g2, g3, g4, _⟩ := hLm'
      have n45 := g3 (Or.inl rfl)
      refine ml_log m n 4 0 (by omega) (by omega) (by omega) (by omega) g4 ?_
      refine ml_refd hB hm (by omega) rfl hD (fun q hq => ?_) (fun ho wk pr h => ?_)
      · by_cases e : q = m
        · rw [e, cu_s]
          exact lf_undo hN hm g4 n45 hLm
        · rw [cu_n e]
          exact lf_same (pk_un e) (la_oth (by omega) (by omega)) (d8 q hq)
      · exact ms_send 6 m 3 (by omega) (by omega) (by omega) hB ⟨⟨⟨k1, k1'⟩, ⟨k2, k2'⟩, ⟨k3, k3'⟩, k4, rfl, rfl, k7, k8, k9, k10, k11⟩, hQ, h, mL_oth hm (by omega) hL⟩ hc (fun u' h => by obtain ⟨z_op, z_st, z_vo, z_he, z_ns, z_nm, z_sl, z_pa, z_tr, z_td, z_ha, z_cc, z_fi, z_wa, z_se, z_lo, z_im, z_ls, z_lk, z_lt, z_ly, z_ln, z_nu, z_ho, z_wk, z_wn, z_pr, z_go, z_mk, z_mf, z_mt, z_mn⟩ := u'; exact H _ h)
    · have e3 : ms m = 3 := by omega
      refine br_f (fun y => by have := ep.mp y; omega) ?_
      subst k5 k6
      refine ml_refd hB hm (by omega) rfl hD (fun q hq => ?_) (fun ho wk pr h => ?_)
      · by_cases e : q = m
        · rw [e, cu_s]
          exact lf_36 (by rw [← e3]; exact d8 m hm)
        · rw [cu_n e]
          exact d8 q hq
      · exact ms_send 6 m 3 (by omega) (by omega) (by omega) hB ⟨⟨⟨k1, k1'⟩, ⟨k2, k2'⟩, ⟨k3, k3'⟩, k4, rfl, rfl, k7, k8, k9, k10, k11⟩, hQ, h, hL⟩ hc (fun u' h => by obtain ⟨z_op, z_st, z_vo, z_he, z_ns, z_nm, z_sl, z_pa, z_tr, z_td, z_ha, z_cc, z_fi, z_wa, z_se, z_lo, z_im, z_ls, z_lk, z_lt, z_ly, z_ln, z_nu, z_ho, z_wk, z_wn, z_pr, z_go, z_mk, z_mf, z_mt, z_mn⟩ := u'; exact H _ h)
  · exact absurd hc (by simp)
theorem ms_led {post : St1 → Prop} {P : cp_P} {st vo he : Nat} {ha de : Bool} {q : List (Nat × Nat × Nat)} {se lo : Nat} {ms : Nat → Nat} {c' : cs_C} {k f : Nat} (hB : mb_B P) (hk : k < 8) (hf : f < 4) (hR : mx_R P (st, vo, he, ha, de, q, se, lo, ms) (z_op, z_st, z_vo, z_he, z_ns, z_nm, z_sl, z_pa, z_tr, z_td, z_ha, z_cc, z_fi, z_wa, z_se, z_lo, z_im, z_ls, z_lk, z_lt, z_ly, z_ln, z_nu, z_ho, z_wk, z_wn, z_pr, z_go, z_mk, z_mf, z_mt, z_mn)) (hc : cs_led (pp_pa P) (pp_tr P) (pp_td P) k f (st, vo, he, ha, de, q, se, lo, ms) = some c') (H : ∀ u', mx_R P c' u' → post u') : wpX_hearAsLeader post (z_op, z_st, z_vo, z_he, z_ns, z_nm, z_sl, z_pa, z_tr, z_td, z_ha, z_cc, z_fi, z_wa, z_se, z_lo, z_im, z_ls, z_lk, z_lt, z_ly, z_ln, z_nu, z_ho, z_wk, z_wn, z_pr, z_go, z_mk, z_mf, z_mt, z_mn) (nI k) (nI f) := by
  have hR' := hR
  obtain ⟨⟨⟨k1, k1'⟩, ⟨k2, k2'⟩, ⟨k3, k3'⟩, k4, k5, k6, k7, k8, k9, k10, k11⟩, hQ, hD, hL⟩ := hR'
  unfold cs_led at hc
  dsimp only at hc
  have F90 : ¬ (k = 6 ∧ (st = 2 ∨ st = 3)) → ¬ (k = 2 ∧ st = 1) → ¬ (k = 3 ∧ st = 1) → wX_hearAsLeader_90 post (nI k) (nI f) z_op z_st z_vo z_he z_ns z_nm z_sl z_pa z_tr z_td z_ha z_cc z_fi z_wa z_se z_lo z_im z_ls z_lk z_lt z_ly z_ln z_nu z_ho z_wk z_wn z_pr z_go z_mk z_mf z_mt z_mn := by
    intro z1 z2 z3
    rw [if_neg z2, if_neg z3, if_neg z1] at hc
    refine pk_eq k 7 (fun e => ?_) (fun e => ?_)
    · rw [if_pos e] at hc
      split at hc
      · have hL' := hL
        obtain ⟨n, g1, g2, g3, g4, g5⟩ := hL'
        refine ml_isLogged 3 n (by omega) (by omega) g3 (fun y => br_f (by decide) ?_) (fun y => br_t rfl ?_)
        · rw [k5] at y
          rw [if_pos (g4.mpr y)] at hc
          exact ms_send 4 3 f (by omega) (by omega) (by omega) hB hR hc (fun u' h => by obtain ⟨z_op, z_st, z_vo, z_he, z_ns, z_nm, z_sl, z_pa, z_tr, z_td, z_ha, z_cc, z_fi, z_wa, z_se, z_lo, z_im, z_ls, z_lk, z_lt, z_ly, z_ln, z_nu, z_ho, z_wk, z_wn, z_pr, z_go, z_mk, z_mf, z_mt, z_mn⟩ := u'; exact H _ h)
        · rw [k5] at y
          rw [if_neg (fun x => y (g4.mp x))] at hc
          exact ms_send 5 3 f (by omega) (by omega) (by omega) hB hR hc (fun u' h => by obtain ⟨z_op, z_st, z_vo, z_he, z_ns, z_nm, z_sl, z_pa, z_tr, z_td, z_ha, z_cc, z_fi, z_wa, z_se, z_lo, z_im, z_ls, z_lk, z_lt, z_ly, z_ln, z_nu, z_ho, z_wk, z_wn, z_pr, z_go, z_mk, z_mf, z_mt, z_mn⟩ := u'; exact H _ h)
      · exact absurd hc (by simp)
    · rw [if_neg e] at hc
      injection hc with hc
      subst hc
      exact H _ hR
  have F75 : ¬ (k = 2 ∧ st = 1) → ¬ (k = 3 ∧ st = 1) → k = 6 → (st = 2 ∨ st = 3) → wX_hearAsLeader_75 post (nI f) z_op z_st z_vo z_he z_ns z_nm z_sl z_pa z_tr z_td z_ha z_cc z_fi z_wa z_se z_lo z_im z_ls z_lk z_lt z_ly z_ln z_nu z_ho z_wk z_wn z_pr z_go z_mk z_mf z_mt z_mn := by
    intro z2 z3 e6 es
    rw [if_neg z2, if_neg z3, if_pos ⟨e6, es⟩] at hc
    split at hc
    · rename_i hf3
      injection hc with hc
      subst hc
      have eo : z_he ||| ((1 : Int32) <<< (nI f &&& 31)) = nI (he ||| 2 ^ f) := by rw [k3]; exact (bq_or he k3' f hf3).1
      exact nm_r eo (H _ ⟨⟨⟨k1, k1'⟩, ⟨k2, k2'⟩, ⟨rfl, (bq_or he k3' f hf3).2⟩, k4, k5, k6, k7, k8, k9, k10, k11⟩, hQ, hD, hL⟩)
    · exact absurd hc (by simp)
  have F53 : ¬ (k = 2 ∧ st = 1) → ¬ (k = 3 ∧ st = 1) → wX_hearAsLeader_53 post (nI k) (nI f) z_op z_st z_vo z_he z_ns z_nm z_sl z_pa z_tr z_td z_ha z_cc z_fi z_wa z_se z_lo z_im z_ls z_lk z_lt z_ly z_ln z_nu z_ho z_wk z_wn z_pr z_go z_mk z_mf z_mt z_mn := by
    intro z2 z3
    refine pk_eq k 6 (fun e => ?_) (fun e => F90 (fun q => e q.1) z2 z3)
    refine pk_eq st 2 (fun e2 => F75 z2 z3 e (Or.inl e2)) (fun e2 => ?_) k1
    exact pk_eq st 3 (fun e3 => F75 z2 z3 e (Or.inr e3)) (fun e3 => F90 (by omega) z2 z3) k1
  have F32 : ¬ (k = 2 ∧ st = 1) → wX_hearAsLeader_32 post (nI k) (nI f) z_op z_st z_vo z_he z_ns z_nm z_sl z_pa z_tr z_td z_ha z_cc z_fi z_wa z_se z_lo z_im z_ls z_lk z_lt z_ly z_ln z_nu z_ho z_wk z_wn z_pr z_go z_mk z_mf z_mt z_mn := by
    intro z2
    refine pk_eq k 3 (fun e => ?_) (fun e => F53 z2 (fun q => e q.1))
    refine pk_eq st 1 (fun e1 => ?_) (fun e1 => F53 z2 (fun q => e1 q.2)) k1
    rw [if_neg z2, if_pos ⟨e, e1⟩] at hc
    injection hc with hc
    subst hc
    exact H _ ⟨⟨⟨rfl, by omega⟩, ⟨k2, k2'⟩, ⟨k3, k3'⟩, k4, k5, k6, k7, k8, k9, k10, k11⟩, hQ, hD, hL⟩
  refine pk_eq k 2 (fun e => ?_) (fun e => F32 (fun q => e q.1))
  refine pk_eq st 1 (fun e1 => ?_) (fun e1 => F32 (fun q => e1 q.2)) k1
  rw [if_pos ⟨e, e1⟩] at hc
  split at hc
  · rename_i hf3
    have eo : z_vo ||| ((1 : Int32) <<< (nI f &&& 31)) = nI (vo ||| 2 ^ f) := by rw [k2]; exact (bq_or vo k2' f hf3).1
    refine nm_r eo ?_
    exact ms_dec hB ⟨⟨⟨k1, k1'⟩, ⟨rfl, (bq_or vo k2' f hf3).2⟩, ⟨k3, k3'⟩, k4, k5, k6, k7, k8, k9, k10, k11⟩, hQ, hD, hL⟩ hc (fun u' h => by obtain ⟨z_op, z_st, z_vo, z_he, z_ns, z_nm, z_sl, z_pa, z_tr, z_td, z_ha, z_cc, z_fi, z_wa, z_se, z_lo, z_im, z_ls, z_lk, z_lt, z_ly, z_ln, z_nu, z_ho, z_wk, z_wn, z_pr, z_go, z_mk, z_mf, z_mt, z_mn⟩ := u'; exact H _ h)
  · exact absurd hc (by simp)
theorem ms_dlv {post : St1 → Prop} {P : cp_P} {st vo he : Nat} {ha de : Bool} {q : List (Nat × Nat × Nat)} {se lo : Nat} {ms : Nat → Nat} {c' : cs_C} {e : Nat × Nat × Nat} (hB : mb_B P) (hR : mx_R P (st, vo, he, ha, de, e :: q, se, lo, ms) (z_op, z_st, z_vo, z_he, z_ns, z_nm, z_sl, z_pa, z_tr, z_td, z_ha, z_cc, z_fi, z_wa, z_se, z_lo, z_im, z_ls, z_lk, z_lt, z_ly, z_ln, z_nu, z_ho, z_wk, z_wn, z_pr, z_go, z_mk, z_mf, z_mt, z_mn)) (hc : cs_dlv (pp_pa P) (pp_tr P) (pp_td P) (st, vo, he, ha, de, e :: q, se, lo, ms) = some c') (H : ∀ u', mx_R P c' u' → post u') : wpX_deliver post (z_op, z_st, z_vo, z_he, z_ns, z_nm, z_sl, z_pa, z_tr, z_td, z_ha, z_cc, z_fi, z_wa, z_se, z_lo, z_im, z_ls, z_lk, z_lt, z_ly, z_ln, z_nu, z_ho, z_wk, z_wn, z_pr, z_go, z_mk, z_mf, z_mt, z_mn) := by
  obtain ⟨k, f, t⟩ := e
  obtain ⟨hK, ⟨p, q1, q2, q3, q4, q5, q6, q7, q8, q9⟩, hD, hL⟩ := hR
  obtain ⟨⟨e1, e2, e3, e4, e5, e6, e7⟩, q10⟩ := q9
  have hK' := hK
  obtain ⟨⟨k1, k1'⟩, ⟨k2, k2'⟩, ⟨k3, k3'⟩, k4, k5, k6, k7, k8, k9, k10, k11⟩ := hK'
  dsimp only at e1 e2 e3 e4 e5 e6 e7
  subst q2
  have ec : (nI p).toNatClampNeg = p := nI_clamp (by omega)
  have ef : nI p + 1 - (nI p + 1) / 64 * 64 = nI ((p + 1) % 64) := by
    rw [nI_1, show (64 : Int32) = nI 64 from rfl, pk_rem (by omega) (by omega) (by omega)]
  have ql : q.length + 1 ≤ 62 := by simpa using q4
  have ew : z_wa - 1 = nI q.length := by
    rw [q3, List.length_cons]
    exact nI_pred _
  have hin : vp_in (nI p) 64 := pk_in p 64 q1
  have hR1 : mx_R P (st, vo, he, ha, de, q, se, lo, ms) (z_op, z_st, z_vo, z_he, z_ns, z_nm, z_sl, z_pa, z_tr, z_td, z_ha, z_cc, nI ((p + 1) % 64), nI q.length, z_se, z_lo, z_im, z_ls, z_lk, z_lt, z_ly, z_ln, z_nu, z_ho, z_wk, z_wn, z_pr, z_go, z_mk, z_mf, z_mt, z_mn) := ⟨hK, ⟨(p + 1) % 64, by omega, rfl, rfl, by omega, q5, q6, q7, q8, q10⟩, hD, hL⟩
  refine ⟨by decide, nm_r ef (nm_r ew ⟨hin, br_t (by rw [ec, e4, k5]) ⟨hin, ?_⟩⟩)⟩
  have ef2 : z_mf (nI p).toNatClampNeg = nI f := by rw [ec]; exact e2
  have et2 : z_mt (nI p).toNatClampNeg = nI t := by rw [ec]; exact e3
  have ek2 : z_mk (nI p).toNatClampNeg = nI k := by rw [ec]; exact e1
  refine nm_r ef2 ⟨hin, ?_⟩
  unfold cs_dlv at hc
  dsimp only at hc
  rw [et2, ek2]
  refine pk_eq t 3 (fun y => ⟨hin, ?_⟩) (fun y => ⟨hin, hin, ?_⟩)
  · rw [if_pos y] at hc
    exact ms_led hB e5 e6 hR1 hc (fun u' h => by obtain ⟨z_op, z_st, z_vo, z_he, z_ns, z_nm, z_sl, z_pa, z_tr, z_td, z_ha, z_cc, z_fi, z_wa, z_se, z_lo, z_im, z_ls, z_lk, z_lt, z_ly, z_ln, z_nu, z_ho, z_wk, z_wn, z_pr, z_go, z_mk, z_mf, z_mt, z_mn⟩ := u'; exact H _ h)
  · have t3 : t < 3 := by omega
    rw [if_neg y, if_pos t3] at hc
    refine pk_eq k 1 (fun x => ?_) (fun x => pk_eq k 4 (fun w => ?_) (fun w => ?_))
    · rw [if_pos x] at hc
      exact ms_prep hB t3 hR1 hc (fun u' h => by obtain ⟨z_op, z_st, z_vo, z_he, z_ns, z_nm, z_sl, z_pa, z_tr, z_td, z_ha, z_cc, z_fi, z_wa, z_se, z_lo, z_im, z_ls, z_lk, z_lt, z_ly, z_ln, z_nu, z_ho, z_wk, z_wn, z_pr, z_go, z_mk, z_mf, z_mt, z_mn⟩ := u'; exact H _ h)
    · rw [if_neg x, if_pos w] at hc
      exact ms_com hB t3 hR1 hc (fun u' h => by obtain ⟨z_op, z_st, z_vo, z_he, z_ns, z_nm, z_sl, z_pa, z_tr, z_td, z_ha, z_cc, z_fi, z_wa, z_se, z_lo, z_im, z_ls, z_lk, z_lt, z_ly, z_ln, z_nu, z_ho, z_wk, z_wn, z_pr, z_go, z_mk, z_mf, z_mt, z_mn⟩ := u'; exact H _ h)
    · rw [if_neg x, if_neg w] at hc
      exact ms_ref hB t3 hR1 hc (fun u' h => by obtain ⟨z_op, z_st, z_vo, z_he, z_ns, z_nm, z_sl, z_pa, z_tr, z_td, z_ha, z_cc, z_fi, z_wa, z_se, z_lo, z_im, z_ls, z_lk, z_lt, z_ly, z_ln, z_nu, z_ho, z_wk, z_wn, z_pr, z_go, z_mk, z_mf, z_mt, z_mn⟩ := u'; exact H _ h)
end HEAR
end
section
/-! ===== startCommit, shortenLogs, the loop of messages ===== -/
def ps_i (h : Nat → Nat) (t : Nat) : Nat → Nat
  | 0 => 0
  | i + 1 => ps_i h t i ||| (if hs_a h i t = true then 2 ^ i else 0)
def ps_b (b0 b1 b2 : Bool) : Nat := ((0 ||| (if b0 = true then 2 ^ 0 else 0)) ||| (if b1 = true then 2 ^ 1 else 0)) ||| (if b2 = true then 2 ^ 2 else 0)
theorem ps_eq (h : Nat → Nat) (t : Nat) : ps_i h t 3 = ps_b (hs_a h 0 t) (hs_a h 1 t) (hs_a h 2 t) := rfl
theorem ps_bt : ∀ b0 b1 b2 : Bool, ps_b b0 b1 b2 < 8 ∧ (ps_b b0 b1 b2).testBit 0 = b0 ∧ (ps_b b0 b1 b2).testBit 1 = b1 ∧ (ps_b b0 b1 b2).testBit 2 = b2 := by decide
theorem ps_lt (h : Nat → Nat) (t : Nat) : ps_i h t 3 < 8 := by
  rw [ps_eq]
  exact (ps_bt _ _ _).1
theorem ps_bit (h : Nat → Nat) (t : Nat) {m : Nat} (hm : m < 3) : (ps_i h t 3).testBit m = hs_a h m t := by
  rw [ps_eq]
  exact co_3 (P := fun m => (ps_b (hs_a h 0 t) (hs_a h 1 t) (hs_a h 2 t)).testBit m = hs_a h m t) (ps_bt _ _ _).2.1 (ps_bt _ _ _).2.2.1 (ps_bt _ _ _).2.2.2 hm
theorem ps_step : ∀ i, i < 3 → ∀ p, p < 2 ^ i → (p ||| 2 ^ i < 2 ^ (i + 1) ∧ p ||| 0 < 2 ^ (i + 1)) ∧ nI p ||| ((1 : Int32) <<< (nI i &&& 31)) = nI (p ||| 2 ^ i) := by decide +kernel
theorem ps_iL (h : Nat → Nat) (t : Nat) : ∀ i, i ≤ 3 → ps_i h t i < 2 ^ i := by
  intro i
  induction i with
  | zero => intro _; exact Nat.zero_lt_one
  | succ i ih =>
    intro hi
    have p := ih (by omega)
    unfold ps_i
    split
    · exact (ps_step i (by omega) _ p).1.1
    · exact (ps_step i (by omega) _ p).1.2
section LOOP
variable {z_op z_st z_vo z_he z_ns z_nm z_sl z_pa z_tr z_td z_ha z_cc z_fi z_wa z_se z_lo : Int32} {z_im z_ls z_lk z_lt z_ly z_ln z_nu z_ho z_wk z_wn z_pr z_go z_mk z_mf z_mt z_mn : Nat → Int32}
theorem ml_start {post : St1 → Prop} {h : Nat → Nat} {t N : Nat} (ht : t < 4) (hh : vh_H z_ho h) (hns : z_ns = nI N)
    (H : post (z_op, 1, 0, 0, nI (N + 1), nI (N + 1), nI t, nI (ps_i h t 3), z_tr, z_td, 0, z_cc, 0, 0, 0, 0, z_im, z_ls, z_lk, z_lt, z_ly, z_ln, z_nu, z_ho, z_wk, z_wn, z_pr, z_go, z_mk, z_mf, z_mt, z_mn)) : wpX_startCommit post (z_op, z_st, z_vo, z_he, z_ns, z_nm, z_sl, z_pa, z_tr, z_td, z_ha, z_cc, z_fi, z_wa, z_se, z_lo, z_im, z_ls, z_lk, z_lt, z_ly, z_ln, z_nu, z_ho, z_wk, z_wn, z_pr, z_go, z_mk, z_mf, z_mt, z_mn) (nI t) := by
  subst hns
  refine nm_r (nI_1 N) ?_
  refine pk_loop (σ := Int32) (fun n i s => wX_startCommit_30 post (nI t) z_op z_st z_vo z_he (nI (N + 1)) (nI (N + 1)) (nI t) z_tr z_td z_ha z_cc z_fi z_wa z_se z_lo z_im z_ls z_lk z_lt z_ly z_ln z_nu z_ho z_wk z_wn z_pr z_go z_mk z_mf z_mt z_mn n (nI i) s) (fun i s => s = nI (ps_i h t i)) 3 0 0 (by omega) rfl ?_ ?_
  · rintro n s rfl
    exact pk_le 3 3 (fun _ => H) (fun z => absurd z (by omega))
  · rintro n i s hi rfl hn
    refine pk_le 3 i (fun z => absurd z (by omega)) (fun _ => ?_)
    refine ml_holdersOn hi hh (rd_b (oc_z (hs_a h i) ht) (fun e => nm_e (nm_r (nI_1 i) (hn _ ?_))) (fun e => nm_e (nm_r (nI_1 i) (hn _ ?_))))
    · rw [show nI (ps_i h t i) ||| 0 = nI (ps_i h t i) from Int32.or_zero]
      show _ = nI (ps_i h t i ||| (if hs_a h i t = true then 2 ^ i else 0))
      rw [e, if_neg (by decide), Nat.or_zero]
    · show _ = nI (ps_i h t i ||| (if hs_a h i t = true then 2 ^ i else 0))
      rw [if_pos e]
      exact (ps_step i hi _ (ps_iL h t i (by omega))).2
/-- a machine's log after the shortening: as it was and short, or empty with the numbers at its beginning -/
def sh_ok (im ls nu im' ls' : Nat → Int32) (m : Nat) : Prop := ((∃ n, n ≤ 40 ∧ ls m = nI n) ∧ ls' m = ls m ∧ ∀ k, k < 12 → k % 3 = m → im' k = im k) ∨ (ls' m = 0 ∧ ∀ k, k < 12 → k % 3 = m → im' k = nu k)
theorem ml_sh20 {post : St1 → Prop} {J : Int32 → (Nat → Int32) → (Nat → Int32) → (Nat → Int32) → (Nat → Int32) → (Nat → Int32) → (Nat → Int32) → (Nat → Int32) → (Nat → Int32) → (Nat → Int32) → (Nat → Int32) → (Nat → Int32) → (Nat → Int32) → (Nat → Int32) → (Nat → Int32) → (Nat → Int32) → (Nat → Int32) → Prop} {m : Nat} (hm : m < 3) (H : ∀ im', (∀ k, k < 12 → im' k = if k % 3 = m then z_nu k else z_im k) → J (nI (m + 1)) im' (upd z_ls m 0) z_lk z_lt z_ly z_ln z_nu z_ho z_wk z_wn z_pr z_go z_mk z_mf z_mt z_mn) : ∃ f, wX_shortenLogs_20 post J (nI m) z_op z_st z_vo z_he z_ns z_nm z_sl z_pa z_tr z_td z_ha z_cc z_fi z_wa z_se z_lo f (nI m) z_im z_ls z_lk z_lt z_ly z_ln z_nu z_ho z_wk z_wn z_pr z_go z_mk z_mf z_mt z_mn := by
  refine pk_loop (σ := Nat → Int32) (fun f i s => wX_shortenLogs_20 post J (nI m) z_op z_st z_vo z_he z_ns z_nm z_sl z_pa z_tr z_td z_ha z_cc z_fi z_wa z_se z_lo f (nI (m + 3 * i)) s z_ls z_lk z_lt z_ly z_ln z_nu z_ho z_wk z_wn z_pr z_go z_mk z_mf z_mt z_mn) (fun i s => ∀ k, k < 12 → s k = if k % 3 = m ∧ k < m + 3 * i then z_nu k else z_im k) 4 0 z_im (by omega) (fun k hk => (if_neg (by omega)).symm) ?_ ?_
  · intro f b1 h1
    refine pk_le 12 (m + 3 * 4) (fun _ => ⟨pk_in m 4 (by omega), ?_⟩) (fun z => absurd z (by omega))
    intro b2 e2
    rw [nI_clamp (by omega)] at e2
    subst e2
    refine nm_r (nI_1 m) (H b1 (fun k hk => ?_))
    rw [h1 k hk]
    exact ic_c ⟨fun z => z.1, fun z => ⟨z, by omega⟩⟩
  · intro f i b1 hi h1 hw
    refine pk_le 12 (m + 3 * i) (fun z => absurd z (by omega)) (fun _ => ⟨pk_in (m + 3 * i) 12 (by omega), pk_in (m + 3 * i) 12 (by omega), ?_⟩)
    intro c1 e1
    rw [nI_clamp (by omega)] at e1
    subst e1
    refine nm_r (ix_p3 _) (hw _ (fun k hk => ?_))
    by_cases e : k = m + 3 * i
    · rw [e, pk_us, if_pos ⟨by omega, by omega⟩]
    · rw [pk_un e, h1 k hk]
      exact ic_c ⟨fun z => ⟨z.1, by omega⟩, fun z => ⟨z.1, by omega⟩⟩
theorem ml_shorten {post : St1 → Prop} (hl : ∀ m, m < 3 → ∃ n, n ≤ 46 ∧ z_ls m = nI n) (h3 : ∃ n, n ≤ 42 ∧ z_ls 3 = nI n)
    (H : ∀ im' ls', (∀ m, m < 3 → sh_ok z_im z_ls z_nu im' ls' m) → (((∃ n, n ≤ 40 ∧ z_ls 3 = nI n) ∧ ls' 3 = z_ls 3) ∨ ls' 3 = 0) → post (z_op, z_st, z_vo, z_he, z_ns, z_nm, z_sl, z_pa, z_tr, z_td, z_ha, z_cc, z_fi, z_wa, z_se, z_lo, im', ls', z_lk, z_lt, z_ly, z_ln, z_nu, z_ho, z_wk, z_wn, z_pr, z_go, z_mk, z_mf, z_mt, z_mn)) : wpX_shortenLogs post (z_op, z_st, z_vo, z_he, z_ns, z_nm, z_sl, z_pa, z_tr, z_td, z_ha, z_cc, z_fi, z_wa, z_se, z_lo, z_im, z_ls, z_lk, z_lt, z_ly, z_ln, z_nu, z_ho, z_wk, z_wn, z_pr, z_go, z_mk, z_mf, z_mt, z_mn) := by
  refine pk_loop (σ := (Nat → Int32) × (Nat → Int32)) (fun f i s => wX_shortenLogs_2 post z_op z_st z_vo z_he z_ns z_nm z_sl z_pa z_tr z_td z_ha z_cc z_fi z_wa z_se z_lo f (nI i) s.1 s.2 z_lk z_lt z_ly z_ln z_nu z_ho z_wk z_wn z_pr z_go z_mk z_mf z_mt z_mn)
    (fun i s => (∀ m, m < 3 → m < i → sh_ok z_im z_ls z_nu s.1 s.2 m) ∧ (∀ m, m < 3 → i ≤ m → s.2 m = z_ls m ∧ ∀ k, k < 12 → k % 3 = m → s.1 k = z_im k) ∧ s.2 3 = z_ls 3) 3 0 (z_im, z_ls) (by omega) ⟨fun m _ h => absurd h (by omega), fun m _ _ => ⟨rfl, fun k _ _ => rfl⟩, rfl⟩ ?_ ?_
  · rintro f ⟨b1, b2⟩ ⟨i1, i2, i3⟩
    dsimp only at i1 i2 i3
    obtain ⟨n, n42, en⟩ := h3
    show wX_shortenLogs_2 post z_op z_st z_vo z_he z_ns z_nm z_sl z_pa z_tr z_td z_ha z_cc z_fi z_wa z_se z_lo (f + 1) (nI 3) b1 b2 z_lk z_lt z_ly z_ln z_nu z_ho z_wk z_wn z_pr z_go z_mk z_mf z_mt z_mn
    refine pk_le 3 3 (fun _ => ?_) (fun z => absurd z (by omega))
    refine pk_le n 40 (fun z => H b1 b2 (fun m hm => i1 m hm hm) (Or.inl ⟨⟨n, z, en⟩, i3⟩)) (fun z => ?_) (i3.trans en)
    intro c2 e2
    subst e2
    refine H b1 _ (fun m hm => ?_) (Or.inr pk_us)
    have := i1 m hm hm
    unfold sh_ok at this ⊢
    rw [pk_un (by omega)]
    exact this
  · rintro f i ⟨b1, b2⟩ hi ⟨i1, i2, i3⟩ hw
    dsimp only at i1 i2 i3
    obtain ⟨n, n46, en⟩ := hl i hi
    have e2 : b2 (nI i).toNatClampNeg = nI n := by rw [nI_clamp (by omega), (i2 i hi (Nat.le_refl _)).1]; exact en
    show wX_shortenLogs_2 post z_op z_st z_vo z_he z_ns z_nm z_sl z_pa z_tr z_td z_ha z_cc z_fi z_wa z_se z_lo (f + 1) (nI i) b1 b2 z_lk z_lt z_ly z_ln z_nu z_ho z_wk z_wn z_pr z_go z_mk z_mf z_mt z_mn
    refine pk_le 3 i (fun z => absurd z (by omega)) (fun _ => ⟨pk_in i 4 (by omega), pk_le n 40 (fun z => nm_r (nI_1 i) ?_) (fun z => ?_) e2⟩)
    · refine hw (b1, b2) ⟨fun m hm hmi => ?_, fun m hm hmi => i2 m hm (by omega), i3⟩
      rcases Nat.lt_or_ge m i with q | q
      · exact i1 m hm q
      · have : m = i := by omega
        subst this
        exact Or.inl ⟨⟨n, z, en⟩, (i2 m hm (Nat.le_refl _)).1, (i2 m hm (Nat.le_refl _)).2⟩
    · refine ml_sh20 hi (fun im' h1 => ?_)
      refine hw (im', upd b2 i 0) ⟨fun m hm hmi => ?_, fun m hm hmi => ⟨?_, fun k hk hkm => ?_⟩, ?_⟩
      · dsimp only
        by_cases e : m = i
        · subst e
          exact Or.inr ⟨pk_us, fun k hk hkm => by rw [h1 k hk, if_pos hkm]⟩
        · have := i1 m hm (by omega)
          unfold sh_ok at this ⊢
          rw [pk_un e]
          rcases this with ⟨a1, a2, a3⟩ | ⟨a1, a2⟩
          · exact Or.inl ⟨a1, a2, fun k hk hkm => by rw [h1 k hk, if_neg (by omega)]; exact a3 k hk hkm⟩
          · exact Or.inr ⟨a1, fun k hk hkm => by rw [h1 k hk, if_neg (by omega)]; exact a2 k hk hkm⟩
      · dsimp only
        rw [pk_un (by omega)]
        exact (i2 m hm (by omega)).1
      · dsimp only
        rw [h1 k hk, if_neg (by omega)]
        exact (i2 m hm (by omega)).2 k hk hkm
      · dsimp only
        rw [pk_un (by omega)]
        exact i3
theorem ml_isOver {post : Int32 → Prop} {st he pa : Nat} (h4 : st < 4) (h8 : he < 8) (p8 : pa < 8) (k1 : z_st = nI st) (k3 : z_he = nI he) (k7 : z_pa = nI pa) (H1 : (st = 2 ∨ st = 3) → he = pa → post 1) (H0 : ¬ ((st = 2 ∨ st = 3) ∧ he = pa) → post 0) : wpX_isOver post (z_op, z_st, z_vo, z_he, z_ns, z_nm, z_sl, z_pa, z_tr, z_td, z_ha, z_cc, z_fi, z_wa, z_se, z_lo, z_im, z_ls, z_lk, z_lt, z_ly, z_ln, z_nu, z_ho, z_wk, z_wn, z_pr, z_go, z_mk, z_mf, z_mt, z_mn) := by
  have F16 : (st = 2 ∨ st = 3) → wX_isOver_16 post z_op z_st z_vo z_he z_ns z_nm z_sl z_pa z_tr z_td z_ha z_cc z_fi z_wa z_se z_lo z_im z_ls z_lk z_lt z_ly z_ln z_nu z_ho z_wk z_wn z_pr z_go z_mk z_mf z_mt z_mn := fun z => pk_eq he pa (fun e => H1 z e) (fun e => H0 (fun q => e q.2)) k3 k7
  exact pk_eq st 2 (fun e => F16 (Or.inl e)) (fun e => pk_eq st 3 (fun e3 => F16 (Or.inr e3)) (fun e3 => H0 (fun q => q.1.elim e e3)) k1) k1
theorem ms_loop {post : Int32 → St1 → Prop} {P : cp_P} {t : Nat} (hB : mb_B P)
    (HE : ∀ (c : cs_C) (z_op z_st z_vo z_he z_ns z_nm z_sl z_pa z_tr z_td z_ha z_cc z_fi z_wa z_se z_lo : Int32) (z_im z_ls z_lk z_lt z_ly z_ln z_nu z_ho z_wk z_wn z_pr z_go z_mk z_mf z_mt z_mn : Nat → Int32), cs_fin (pp_pa P) (pp_tr P) (pp_td P) c = true → mx_R P c (z_op, z_st, z_vo, z_he, z_ns, z_nm, z_sl, z_pa, z_tr, z_td, z_ha, z_cc, z_fi, z_wa, z_se, z_lo, z_im, z_ls, z_lk, z_lt, z_ly, z_ln, z_nu, z_ho, z_wk, z_wn, z_pr, z_go, z_mk, z_mf, z_mt, z_mn) → wX_commit_114 post (nI t) z_op z_st z_vo z_he z_ns z_nm z_sl z_pa z_tr z_td z_ha z_cc z_fi z_wa z_se z_lo z_im z_ls z_lk z_lt z_ly z_ln z_nu z_ho z_wk z_wn z_pr z_go z_mk z_mf z_mt z_mn) :
    ∀ n (c : cs_C) x (z_op z_st z_vo z_he z_ns z_nm z_sl z_pa z_tr z_td z_ha z_cc z_fi z_wa z_se z_lo : Int32) (z_im z_ls z_lk z_lt z_ly z_ln z_nu z_ho z_wk z_wn z_pr z_go z_mk z_mf z_mt z_mn : Nat → Int32), cs_run (pp_pa P) (pp_tr P) (pp_td P) n c = true → mx_R P c (z_op, z_st, z_vo, z_he, z_ns, z_nm, z_sl, z_pa, z_tr, z_td, z_ha, z_cc, z_fi, z_wa, z_se, z_lo, z_im, z_ls, z_lk, z_lt, z_ly, z_ln, z_nu, z_ho, z_wk, z_wn, z_pr, z_go, z_mk, z_mf, z_mt, z_mn) → x + n < 2000 → wX_commit_75 post (nI t) n (nI x) z_op z_st z_vo z_he z_ns z_nm z_sl z_pa z_tr z_td z_ha z_cc z_fi z_wa z_se z_lo z_im z_ls z_lk z_lt z_ly z_ln z_nu z_ho z_wk z_wn z_pr z_go z_mk z_mf z_mt z_mn := by
  intro n
  induction n with
  | zero => intro c x z_op z_st z_vo z_he z_ns z_nm z_sl z_pa z_tr z_td z_ha z_cc z_fi z_wa z_se z_lo z_im z_ls z_lk z_lt z_ly z_ln z_nu z_ho z_wk z_wn z_pr z_go z_mk z_mf z_mt z_mn hc; exact absurd hc (by unfold cs_run; decide)
  | succ n ih =>
    intro c x z_op z_st z_vo z_he z_ns z_nm z_sl z_pa z_tr z_td z_ha z_cc z_fi z_wa z_se z_lo z_im z_ls z_lk z_lt z_ly z_ln z_nu z_ho z_wk z_wn z_pr z_go z_mk z_mf z_mt z_mn hc hR hx
    obtain ⟨st, vo, he, ha, de, q, se, lo, ms⟩ := c
    have hR' := hR
    obtain ⟨⟨⟨k1, k1'⟩, ⟨k2, k2'⟩, ⟨k3, k3'⟩, k4, k5, k6, k7, k8, k9, k10, k11⟩, hQ, hD, hL⟩ := hR'
    unfold cs_run at hc
    refine pk_le 2000 x (fun z => absurd z (by omega)) (fun _ => ?_)
    refine ml_isOver k1' k3' hB.2.2.2.1 k1 k3 k7 (fun e1 e2 => br_f (by decide) ?_) (fun e => br_t rfl ?_)
    · have eo : cs_over (pp_pa P) (st, vo, he, ha, de, q, se, lo, ms) = true := by
        unfold cs_over
        dsimp only
        rw [Bool.and_eq_true, Bool.or_eq_true, decide_eq_true_eq, decide_eq_true_eq, decide_eq_true_eq]
        exact ⟨e1, e2⟩
      rw [if_pos eo] at hc
      exact HE (st, vo, he, ha, de, q, se, lo, ms) _ _ _ _ _ _ _ _ _ _ _ _ _ _ _ _ _ _ _ _ _ _ _ _ _ _ _ _ _ _ _ _ hc hR
    · have eo : ¬ cs_over (pp_pa P) (st, vo, he, ha, de, q, se, lo, ms) = true := by
        unfold cs_over
        dsimp only
        rw [Bool.and_eq_true, Bool.or_eq_true, decide_eq_true_eq, decide_eq_true_eq, decide_eq_true_eq]
        exact e
      rw [if_neg eo] at hc
      obtain ⟨p, q1, q2, q3, q4⟩ := hQ
      cases q with
      | nil =>
        refine br_t (by rw [q3]; rfl) ?_
        cases hs : cs_step (pp_pa P) (pp_tr P) (pp_td P) (st, vo, he, ha, de, [], se, lo, ms) with
        | none => rw [hs] at hc; exact absurd hc Bool.false_ne_true
        | some c' =>
          rw [hs] at hc
          refine ms_rem hB hR hs (fun u' h => ?_)
          obtain ⟨z_op, z_st, z_vo, z_he, z_ns, z_nm, z_sl, z_pa, z_tr, z_td, z_ha, z_cc, z_fi, z_wa, z_se, z_lo, z_im, z_ls, z_lk, z_lt, z_ly, z_ln, z_nu, z_ho, z_wk, z_wn, z_pr, z_go, z_mk, z_mf, z_mt, z_mn⟩ := u'
          exact nm_r (nI_1 x) (ih c' (x + 1) _ _ _ _ _ _ _ _ _ _ _ _ _ _ _ _ _ _ _ _ _ _ _ _ _ _ _ _ _ _ _ _ hc h (by omega))
      | cons e0 q =>
        have ql : (e0 :: q).length ≤ 62 := q4.1
        refine br_f (by rw [q3]; exact nI_ne0 (by simp) (by omega)) ?_
        cases hs : cs_step (pp_pa P) (pp_tr P) (pp_td P) (st, vo, he, ha, de, e0 :: q, se, lo, ms) with
        | none => rw [hs] at hc; exact absurd hc Bool.false_ne_true
        | some c' =>
          rw [hs] at hc
          refine ms_dlv hB hR hs (fun u' h => ?_)
          obtain ⟨z_op, z_st, z_vo, z_he, z_ns, z_nm, z_sl, z_pa, z_tr, z_td, z_ha, z_cc, z_fi, z_wa, z_se, z_lo, z_im, z_ls, z_lk, z_lt, z_ly, z_ln, z_nu, z_ho, z_wk, z_wn, z_pr, z_go, z_mk, z_mf, z_mt, z_mn⟩ := u'
          exact nm_r (nI_1 x) (ih c' (x + 1) _ _ _ _ _ _ _ _ _ _ _ _ _ _ _ _ _ _ _ _ _ _ _ _ _ _ _ _ _ _ _ _ hc h (by omega))
end LOOP
end
section
/-! ===== between calls: the invariant; commit ===== -/
def iv_L (N m B : Nat) (im ls lk lt ly ln nu : Nat → Int32) : Prop :=
  ∃ n, n ≤ B ∧ ls m = nI n ∧ (∀ i, i < n → ∃ x, 1 ≤ x ∧ x ≤ N ∧ lt (m * 64 + i) = nI x ∧ (lk (m * 64 + i) = 1 → ∃ k, k < 12 ∧ k % 3 = m ∧ ly (m * 64 + i) = nI k)) ∧
    (∀ k, k < 12 → k % 3 = m → pl_r lk lt ly ln (m * 64) n k n (im k) = nu k) ∧ pl_o lk lt (m * 64) n = 0
def iv_LL (N B : Nat) (ls lt : Nat → Int32) : Prop := ∃ n, n ≤ B ∧ ls 3 = nI n ∧ ∀ i, i < n → ∃ x, x ≤ N ∧ lt (3 * 64 + i) = nI x
def iv_D (o : Nat → Bool) (h : Nat → Nat) (w : Nat → Nat → Bool) (nu wn pr go : Nat → Int32) : Prop :=
  (∀ k, k < 12 → h k < 4 → o (h k) = true) ∧ (∀ t, t < 4 → o t = true → ∀ k, k < 12 → w t k = true → h k = t) ∧ (∀ k, k < 12 → rg_ok (nu k)) ∧ (∀ j, j < 48 → rg_ok (wn j)) ∧ (∀ j, j < 12 → pr j = 0) ∧ (∀ t, t < 4 → o t = true → ∀ m, m < 3 → go (t * 3 + m) = 0)
def iv_I (N : Nat) (o : Nat → Bool) (h : Nat → Nat) (w : Nat → Nat → Bool) (u : St1) : Prop := match u with
  | (z_op, z_st, z_vo, z_he, z_ns, z_nm, z_sl, z_pa, z_tr, z_td, z_ha, z_cc, z_fi, z_wa, z_se, z_lo, z_im, z_ls, z_lk, z_lt, z_ly, z_ln, z_nu, z_ho, z_wk, z_wn, z_pr, z_go, z_mk, z_mf, z_mt, z_mn) => z_st = 0 ∧ z_ns = nI N ∧ z_op = oc_E o ∧ vh_H z_ho h ∧ vh_W z_wk w ∧ iv_D o h w z_nu z_wn z_pr z_go ∧ (∀ m, m < 3 → iv_L N m 40 z_im z_ls z_lk z_lt z_ly z_ln z_nu) ∧ iv_LL N 40 z_ls z_lt
theorem iv_same {N m B : Nat} {im ls lk lt ly ln nu ls' lk' lt' ly' ln' : Nat → Int32} (hB : B ≤ 64) (hl : ls' m = ls m) (hA : la_A (m * 64) 64 lk lt ly ln lk' lt' ly' ln') (h : iv_L N m B im ls lk lt ly ln nu) : iv_L N m B im ls' lk' lt' ly' ln' nu := by
  obtain ⟨n, h1, h2, h3, h4, h5⟩ := h
  have A : la_A (m * 64) n lk lt ly ln lk' lt' ly' ln' := fun i hi => hA i (by omega)
  refine ⟨n, h1, by rw [hl]; exact h2, fun i hi => ?_, fun k hk hm => ?_, ?_⟩
  · obtain ⟨a1, a2, a3, a4⟩ := A i hi
    rw [a1, a2, a3]
    exact h3 i hi
  · rw [pl_r_eq n _ A (fun i hi _ v => pl_v_eq n v A)]
    exact h4 k hk hm
  · rw [pl_o_eq (lk := lk) (lt := lt) (ly := ly) (ln := ln) n A]
    exact h5
/-- the status of a machine as a commit begins -/
theorem lf_of {P : cp_P} {N m s : Nat} {im ls lk lt ly ln : Nat → Int32} (hN : pp_N P = N + 1) (hs : s = 0 ∨ s = 5) (h : iv_L N m 40 im ls lk lt ly ln (pp_nu P)) : mx_LF P m s im ls lk lt ly ln := by
  obtain ⟨n, h1, h2, h3, h4, h5⟩ := h
  refine ⟨n, by omega, fun _ => h1, fun _ => by omega, h2, fun i hi => ?_, fun z => absurd z (by omega), fun k hk hm => ?_, ?_⟩
  · obtain ⟨x, a1, a2, a3, a4⟩ := h3 i hi
    refine ⟨x, a1, by omega, a3, fun z => ?_, fun _ _ => by omega, fun _ => by omega⟩
    obtain ⟨k, c1, c2, c3⟩ := a4 z
    exact ⟨k, c1, c2, c3, fun y => absurd y (by omega)⟩
  · rw [h4 k hk hm, if_neg (by omega)]
  · rw [h5, if_neg (by omega)]
theorem iv_of {P : cp_P} {N m s : Nat} {im ls lk lt ly ln nu : Nat → Int32} (hN : pp_N P = N) (hs : s = 2 ∨ s = 5 ∨ s = 6) (hnu : ∀ k, k < 12 → k % 3 = m → nu k = if s = 2 then pp_nw P k else pp_nu P k) (h : mx_LF P m s im ls lk lt ly ln) : iv_L N m 46 im ls lk lt ly ln nu := by
  obtain ⟨n, h1, h2, h3, h4, h5, h6, h7, h8⟩ := h
  refine ⟨n, h1, h4, fun i hi => ?_, fun k hk hm => by rw [h7 k hk hm, hnu k hk hm], by rw [h8, if_neg (by omega)]⟩
  obtain ⟨x, a1, a2, a3, a4, a5⟩ := h5 i hi
  refine ⟨x, a1, by omega, a3, fun z => ?_⟩
  obtain ⟨k, c1, c2, c3, c4⟩ := a4 z
  exact ⟨k, c1, c2, c3⟩
theorem iv_short {N m : Nat} {im ls lk lt ly ln nu im' ls' : Nat → Int32} (hs : sh_ok im ls nu im' ls' m) (h : iv_L N m 46 im ls lk lt ly ln nu) : iv_L N m 40 im' ls' lk lt ly ln nu := by
  rcases hs with ⟨⟨n0, a1, a2⟩, a3, a4⟩ | ⟨a1, a2⟩
  · obtain ⟨n, h1, h2, h3, h4, h5⟩ := h
    have en : n = n0 := by rw [a2, nn_inj (by omega) (by omega)] at h2; exact h2.symm
    subst en
    exact ⟨n, a1, by rw [a3]; exact h2, h3, fun k hk hm => by rw [a4 k hk hm]; exact h4 k hk hm, h5⟩
  · exact ⟨0, by omega, a1, fun i hi => absurd hi (by omega), fun k hk hm => a2 k hk hm, rfl⟩
def cs_i0 (pa m : Nat) : Nat := if pa.testBit m = true then 0 else 5
theorem cs_05 (pa m : Nat) : cs_i0 pa m = 0 ∨ cs_i0 pa m = 5 := by
  unfold cs_i0
  split
  · exact Or.inl rfl
  · exact Or.inr rfl
def ck_K (o : Nat → Bool) (h : Nat → Nat) (t tr td : Nat) (t' : Nat) : Bool := decide (t' = t) || (cs_hap tr && (!decide (t' = t) && (if tr = 2 ∨ tr = 3 then o t' else hs_a h td t')))
theorem ck_dd {N t tr td t' : Nat} {o : Nat → Bool} {h : Nat → Nat} {w : Nat → Nat → Bool} {wn nu im go : Nat → Int32} {cc : Int32} (e : t' ≠ t) : ck_K o h t tr td t' = pp_dd (N + 1, t, ps_i h t 3, tr, td, o, h, w, wn, nu, im, go, cc) (cs_hap tr) t' := by
  show (decide (t' = t) || (cs_hap tr && (!decide (t' = t) && (if tr = 2 ∨ tr = 3 then o t' else hs_a h td t')))) = (cs_hap tr && (!decide (t' = t) && (if tr = 2 ∨ tr = 3 then o t' else hs_a h td t')))
  rw [decide_eq_false e, Bool.false_or]
theorem ck_s {t tr td : Nat} {o : Nat → Bool} {h : Nat → Nat} : ck_K o h t tr td t = true := by
  unfold ck_K
  simp
def ck_r (h : Nat → Nat) (t tr td : Nat) : Bool := !(decide (tr = 2) || (decide (tr = 1) && hs_a h td t))
/-- what a commit leaves: numbers, written numbers, the written keys of those that stay open, the count -/
def iv_C (res : Bool) (t : Nat) (o' : Nat → Bool) (w w' : Nat → Nat → Bool) (wn nu : Nat → Int32) (cc : Int32) (u' : St1) : Prop := match u' with
  | (z_op, z_st, z_vo, z_he, z_ns, z_nm, z_sl, z_pa, z_tr, z_td, z_ha, z_cc, z_fi, z_wa, z_se, z_lo, z_im, z_ls, z_lk, z_lt, z_ly, z_ln, z_nu, z_ho, z_wk, z_wn, z_pr, z_go, z_mk, z_mf, z_mt, z_mn) => (∀ k, k < 12 → z_nu k = if res = true ∧ w t k = true then wn (t * 12 + k) else nu k) ∧ (∀ j, j < 48 → z_wn j = wn j) ∧ (∀ t', t' < 4 → o' t' = true → ∀ k, k < 12 → w' t' k = w t' k) ∧ z_cc = cc + nI res.toNat
section COMMIT
variable {z_op z_st z_vo z_he z_ns z_nm z_sl z_pa z_tr z_td z_ha z_cc z_fi z_wa z_se z_lo : Int32} {z_im z_ls z_lk z_lt z_ly z_ln z_nu z_ho z_wk z_wn z_pr z_go z_mk z_mf z_mt z_mn : Nat → Int32}
/-- the end of a commit -/
theorem ms_end {post : Int32 → St1 → Prop} {N t tr td : Nat} {o : Nat → Bool} {h : Nat → Nat} {w : Nat → Nat → Bool} {wn nu im go : Nat → Int32} {cc : Int32} {c : cs_C}
    (hB : mb_B (N + 1, t, ps_i h t 3, tr, td, o, h, w, wn, nu, im, go, cc)) (ht : t < 4) (htd : td < 3) (hi1 : ∀ k, k < 12 → h k < 4 → o (h k) = true) (hi2 : ∀ t, t < 4 → o t = true → ∀ k, k < 12 → w t k = true → h k = t) (hi3 : ∀ k, k < 12 → rg_ok (nu k)) (hi4 : ∀ j, j < 48 → rg_ok (wn j)) (hi6 : ∀ t, t < 4 → o t = true → ∀ m, m < 3 → go (t * 3 + m) = 0)
    (hf : cs_fin (ps_i h t 3) tr td c = true) (hR : mx_R (N + 1, t, ps_i h t 3, tr, td, o, h, w, wn, nu, im, go, cc) c (z_op, z_st, z_vo, z_he, z_ns, z_nm, z_sl, z_pa, z_tr, z_td, z_ha, z_cc, z_fi, z_wa, z_se, z_lo, z_im, z_ls, z_lk, z_lt, z_ly, z_ln, z_nu, z_ho, z_wk, z_wn, z_pr, z_go, z_mk, z_mf, z_mt, z_mn))
    (H : ∀ u' w', iv_I (N + 1) (ko_K o (ck_K o h t tr td)) (kh_K h (ck_K o h t tr td)) w' u' → iv_C (ck_r h t tr td) t (ko_K o (ck_K o h t tr td)) w w' wn nu cc u' → post (nI (ck_r h t tr td).toNat) u') : wX_commit_114 post (nI t) z_op z_st z_vo z_he z_ns z_nm z_sl z_pa z_tr z_td z_ha z_cc z_fi z_wa z_se z_lo z_im z_ls z_lk z_lt z_ly z_ln z_nu z_ho z_wk z_wn z_pr z_go z_mk z_mf z_mt z_mn := by
  obtain ⟨st, vo, he, ha, de, q, se, lo, ms⟩ := c
  obtain ⟨⟨⟨k1, k1'⟩, ⟨k2, k2'⟩, ⟨k3, k3'⟩, k4, k5, k6, k7, k8, k9, k10, k11⟩, hQ, hD, hL⟩ := hR
  have hN1 : N + 1 < 1000 := hB.2.1
  have h05 : ∀ k, k < 12 → h k < 5 := hB.2.2.2.2.2.2.2.2.1
  have er : cs_res (ps_i h t 3) tr td = ck_r h t tr td := by
    unfold cs_res ck_r
    rw [ps_bit h t htd]
  unfold cs_fin at hf
  dsimp only at hf
  rw [er] at hf
  simp only [Bool.and_eq_true, List.all_eq_true, List.mem_range, beq_iff_eq] at hf
  obtain ⟨⟨f1, f2⟩, f3⟩ := hf
  have fm : ∀ m, m < 3 → ms m = if hs_a h m t = true then (if ck_r h t tr td = true then 2 else 6) else 5 := by
    intro m hm
    have := f3 m hm
    rw [ps_bit h t hm] at this
    cases hq : hs_a h m t
    · rw [hq] at this
      simpa using this
    · rw [hq] at this
      cases hr : ck_r h t tr td
      · rw [hr] at this
        simpa using this
      · rw [hr] at this
        simpa using this
  have fm2 : ∀ m, m < 3 → (ms m = 2 ↔ (ck_r h t tr td = true ∧ hs_a h m t = true)) := by
    intro m hm
    rw [fm m hm]
    cases hs_a h m t <;> cases ck_r h t tr td <;> simp
  have fms : ∀ m, m < 3 → ms m = 2 ∨ ms m = 5 ∨ ms m = 6 := by
    intro m hm
    rw [fm m hm]
    cases hs_a h m t <;> cases ck_r h t tr td <;> simp
  subst f2
  have k5' : z_nm = nI (N + 1) := k5
  subst k5'
  obtain ⟨d1, ⟨h1, w1, dh, dw, dhw⟩, d3, d4, d5, d6, d7, d8, d9⟩ := hD
  obtain ⟨n, g1, g2, g3, g4, g5⟩ := hL
  have nue : ∀ k, k < 12 → z_nu k = if ck_r h t tr td = true ∧ w t k = true then wn (t * 12 + k) else nu k := by
    intro k hk
    rw [d4 k hk]
    show (if ms (k % 3) = 2 then (if w t k = true then wn (t * 12 + k) else nu k) else nu k) = _
    by_cases ew : w t k = true
    · have eh : h k = t := hi2 t ht (hB.2.2.2.2.2.2.1) k hk ew
      have e2 : hs_a h (k % 3) t = true := (hs_iff (by omega)).mpr ⟨k, hk, rfl, eh⟩
      rw [if_pos ew]
      refine ic_c ?_
      rw [fm2 _ (by omega)]
      exact ⟨fun z => ⟨z.1, ew⟩, fun z => ⟨z.1, e2⟩⟩
    · have ne : ¬ (ck_r h t tr td = true ∧ w t k = true) := fun z => ew z.2
      rw [if_neg ew, if_neg ne]
      split <;> rfl
  have F132 : wX_commit_132 post (nI t) (nI (ck_r h t tr td).toNat) z_op z_st z_vo z_he z_ns (nI (N + 1)) z_sl z_pa z_tr z_td z_ha z_cc z_fi z_wa z_se z_lo z_im z_ls z_lk z_lt z_ly z_ln z_nu z_ho z_wk z_wn z_pr z_go z_mk z_mf z_mt z_mn := by
    refine ml_log 3 n 6 0 (by omega) (by omega) (by omega) (by omega) g3 ?_
    refine ml_rollBack (o := ko_K o (pp_dd (N + 1, t, ps_i h t 3, tr, td, o, h, w, wn, nu, im, go, cc) (cs_hap tr))) ht d1 dh dw (fun b8 b9 b11 h8 h9 h11 => nm_e ?_)
    refine ml_shorten (fun m hm => ?_) ⟨n + 1, by omega, pk_us⟩ (fun im' ls' hs hs3 => ?_)
    · obtain ⟨n', a1, a2, a3, a4, _⟩ := d8 m hm
      exact ⟨n', a1, by rw [pk_un (by omega)]; exact a4⟩
    refine H _ (wr_a w1 t) ⟨rfl, k4, oc_ext (fun t' ht' => ?_), vh_Hc h8 (fun k hk => ?_), h9, ⟨fun k hk z => ?_, fun t' ht' e k hk z => ?_, fun k hk => ?_, fun j hj => ?_, fun j hj => ?_, fun t' ht' e m hm => ?_⟩, fun m hm => ?_, ?_⟩ ⟨nue, d3, fun t' ht' e k hk => ?_, by rw [k11]; rfl⟩
    · unfold oc_up ko_K
      by_cases e : t' = t
      · rw [if_pos e, e, ck_s]
        simp
      · rw [if_neg e, ck_dd e]
    · unfold hr_a
      by_cases e : h k = t
      · have e2 := (dhw.2.1 k hk e).1
        have e2' : h1 k = t ∨ h1 k = 4 := e2
        unfold kh_K
        rw [e, ck_s, if_pos rfl]
        split <;> omega
      · have e2 := dhw.1 k hk e
        have e2' : h1 k = kh_K h (pp_dd (N + 1, t, ps_i h t 3, tr, td, o, h, w, wn, nu, im, go, cc) (cs_hap tr)) k := e2
        have e3 : ck_K o h t tr td (h k) = pp_dd (N + 1, t, ps_i h t 3, tr, td, o, h, w, wn, nu, im, go, cc) (cs_hap tr) (h k) := ck_dd e
        rw [e2']
        unfold kh_K
        rw [e3]
        by_cases e4 : pp_dd (N + 1, t, ps_i h t 3, tr, td, o, h, w, wn, nu, im, go, cc) (cs_hap tr) (h k) = true
        · rw [if_pos e4, if_neg (by omega)]
        · rw [if_neg e4, if_neg e]
    · unfold kh_K at z ⊢
      unfold ko_K
      split at z
      · omega
      · rename_i e
        rw [if_neg e]
        have e' : ck_K o h t tr td (h k) = false := by simpa using e
        rw [e', hi1 k hk z]
        rfl
    · unfold ko_K at e
      rw [Bool.and_eq_true] at e
      have ek : ck_K o h t tr td t' = false := by simpa using e.2
      have et : t' ≠ t := by
        intro q
        rw [q, ck_s] at ek
        exact absurd ek (by decide)
      have ed : pp_dd (N + 1, t, ps_i h t 3, tr, td, o, h, w, wn, nu, im, go, cc) (cs_hap tr) t' = false := (ck_dd et).symm.trans ek
      unfold wr_a at z
      rw [if_neg et, dhw.2.2.1 t' ht' et ed k hk] at z
      have := hi2 t' ht' e.1 k hk z
      unfold kh_K
      rw [this, ek, if_neg (by decide)]
    · rw [nue k hk]
      split
      · exact hi4 _ (by omega)
      · exact hi3 k hk
    · rw [d3 j hj]
      exact hi4 j hj
    · rw [h11 j hj]
      by_cases e : j / 3 = t
      · rw [if_pos e]
      · rw [if_neg e, d6 j hj, if_neg (fun z => e z.1)]
    · unfold ko_K at e
      rw [Bool.and_eq_true] at e
      have ek : ck_K o h t tr td t' = false := by simpa using e.2
      have et : t' ≠ t := by
        intro q
        rw [q, ck_s] at ek
        exact absurd ek (by decide)
      rw [d7.1 (t' * 3 + m) (by omega) (by show (t' * 3 + m) / 3 ≠ t; omega)]
      exact hi6 t' ht' e.1 m hm
    · have hF := d8 m hm
      have hI : iv_L (N + 1) m 46 z_im z_ls z_lk z_lt z_ly z_ln z_nu := iv_of (P := (N + 1, t, ps_i h t 3, tr, td, o, h, w, wn, nu, im, go, cc)) rfl (fms m hm) (fun k hk hkm => by rw [← hkm]; exact d4 k hk) hF
      refine iv_short (hs m hm) ?_
      exact iv_same (by omega) (pk_un (by omega)) (la_oth (by omega) (by omega)) hI
    · have hent : ∀ i, i < n + 1 → ∃ x, x ≤ N + 1 ∧ upd z_lt (3 * 64 + n) (nI (N + 1)) (3 * 64 + i) = nI x := by
        intro i hi
        by_cases e : i = n
        · subst e
          exact ⟨N + 1, Nat.le_refl _, pk_us⟩
        · rw [pk_un (by omega)]
          exact g5 i (by omega)
      rcases hs3 with ⟨⟨n0, a1, a2⟩, a3⟩ | a3
      · have en : n0 = n + 1 := by
          rw [pk_us, nn_inj (by omega) (by omega)] at a2
          exact a2.symm
        subst en
        exact ⟨n + 1, a1, by rw [a3]; exact pk_us, hent⟩
      · exact ⟨0, by omega, a3, fun i hi => absurd hi (by omega)⟩
    · unfold ko_K at e
      rw [Bool.and_eq_true] at e
      have ek : ck_K o h t tr td t' = false := by simpa using e.2
      have et : t' ≠ t := by
        intro q
        rw [q, ck_s] at ek
        exact absurd ek (by decide)
      have ed : pp_dd (N + 1, t, ps_i h t 3, tr, td, o, h, w, wn, nu, im, go, cc) (cs_hap tr) t' = false := (ck_dd et).symm.trans ek
      unfold wr_a
      rw [if_neg et, dhw.2.2.1 t' ht' et ed k hk]
      rfl
  refine ml_isLogged 3 n (by omega) (by omega) g3 (fun y => br_f (by decide) ?_) (fun y => br_t rfl ?_)
  · have := g4.mpr y
    rw [f1] at this
    rw [this] at F132
    exact F132
  · have : ck_r h t tr td = false := by
      cases hq : ck_r h t tr td
      · rfl
      · rw [hq] at f1
        exact absurd (g4.mp f1) y
    rw [this] at F132
    exact F132
theorem ms_68 {post : Int32 → St1 → Prop} {N t tr td : Nat} {o : Nat → Bool} {h : Nat → Nat} {w : Nat → Nat → Bool} {wn nu im go : Nat → Int32} {cc : Int32} {c1 : cs_C}
    (hB : mb_B (N + 1, t, ps_i h t 3, tr, td, o, h, w, wn, nu, im, go, cc)) (ht : t < 4) (htd : td < 3) (hi1 : ∀ k, k < 12 → h k < 4 → o (h k) = true) (hi2 : ∀ t, t < 4 → o t = true → ∀ k, k < 12 → w t k = true → h k = t) (hi3 : ∀ k, k < 12 → rg_ok (nu k)) (hi4 : ∀ j, j < 48 → rg_ok (wn j)) (hi6 : ∀ t, t < 4 → o t = true → ∀ m, m < 3 → go (t * 3 + m) = 0)
    (H : ∀ u' w', iv_I (N + 1) (ko_K o (ck_K o h t tr td)) (kh_K h (ck_K o h t tr td)) w' u' → iv_C (ck_r h t tr td) t (ko_K o (ck_K o h t tr td)) w w' wn nu cc u' → post (nI (ck_r h t tr td).toNat) u')
    (hok : cs_run (ps_i h t 3) tr td 64 c1 = true) :
    ∀ (c : cs_C) (z_op z_st z_vo z_he z_ns z_nm z_sl z_pa z_tr z_td z_ha z_cc z_fi z_wa z_se z_lo : Int32) (z_im z_ls z_lk z_lt z_ly z_ln z_nu z_ho z_wk z_wn z_pr z_go z_mk z_mf z_mt z_mn : Nat → Int32), cs_dec (ps_i h t 3) tr td c = some c1 → mx_R (N + 1, t, ps_i h t 3, tr, td, o, h, w, wn, nu, im, go, cc) c (z_op, z_st, z_vo, z_he, z_ns, z_nm, z_sl, z_pa, z_tr, z_td, z_ha, z_cc, z_fi, z_wa, z_se, z_lo, z_im, z_ls, z_lk, z_lt, z_ly, z_ln, z_nu, z_ho, z_wk, z_wn, z_pr, z_go, z_mk, z_mf, z_mt, z_mn) → wX_commit_68 post (nI t) z_op z_st z_vo z_he z_ns z_nm z_sl z_pa z_tr z_td z_ha z_cc z_fi z_wa z_se z_lo z_im z_ls z_lk z_lt z_ly z_ln z_nu z_ho z_wk z_wn z_pr z_go z_mk z_mf z_mt z_mn := by
  intro c z_op z_st z_vo z_he z_ns z_nm z_sl z_pa z_tr z_td z_ha z_cc z_fi z_wa z_se z_lo z_im z_ls z_lk z_lt z_ly z_ln z_nu z_ho z_wk z_wn z_pr z_go z_mk z_mf z_mt z_mn hd hR
  obtain ⟨st, vo, he, ha, de, q, se, lo, ms⟩ := c
  refine ms_dec hB hR hd (fun u' h' => ?_)
  obtain ⟨z_op, z_st, z_vo, z_he, z_ns, z_nm, z_sl, z_pa, z_tr, z_td, z_ha, z_cc, z_fi, z_wa, z_se, z_lo, z_im, z_ls, z_lk, z_lt, z_ly, z_ln, z_nu, z_ho, z_wk, z_wn, z_pr, z_go, z_mk, z_mf, z_mt, z_mn⟩ := u'
  exact ⟨64, ms_loop hB (fun c' z_op z_st z_vo z_he z_ns z_nm z_sl z_pa z_tr z_td z_ha z_cc z_fi z_wa z_se z_lo z_im z_ls z_lk z_lt z_ly z_ln z_nu z_ho z_wk z_wn z_pr z_go z_mk z_mf z_mt z_mn hf hR' => ms_end hB ht htd hi1 hi2 hi3 hi4 hi6 hf hR' H) 64 c1 0 _ _ _ _ _ _ _ _ _ _ _ _ _ _ _ _ _ _ _ _ _ _ _ _ _ _ _ _ _ _ _ _ hok h' (by omega)⟩
theorem ml_commit {post : Int32 → St1 → Prop} {N t tr td : Nat} {o : Nat → Bool} {h : Nat → Nat} {w : Nat → Nat → Bool} (hN : N < 900) (ht : t < 4) (htr : tr < 8) (htd : td < 3) (hI : iv_I N o h w (z_op, z_st, z_vo, z_he, z_ns, z_nm, z_sl, z_pa, z_tr, z_td, z_ha, z_cc, z_fi, z_wa, z_se, z_lo, z_im, z_ls, z_lk, z_lt, z_ly, z_ln, z_nu, z_ho, z_wk, z_wn, z_pr, z_go, z_mk, z_mf, z_mt, z_mn))
    (H0 : o t = false → post (-100000) (z_op, z_st, z_vo, z_he, z_ns, z_nm, z_sl, z_pa, z_tr, z_td, z_ha, z_cc, z_fi, z_wa, z_se, z_lo, z_im, z_ls, z_lk, z_lt, z_ly, z_ln, z_nu, z_ho, z_wk, z_wn, z_pr, z_go, z_mk, z_mf, z_mt, z_mn))
    (H1 : o t = true → ∀ u' w', iv_I (N + 1) (ko_K o (ck_K o h t tr td)) (kh_K h (ck_K o h t tr td)) w' u' → iv_C (ck_r h t tr td) t (ko_K o (ck_K o h t tr td)) w w' z_wn z_nu z_cc u' → post (nI (ck_r h t tr td).toNat) u') : wpX_commit post (z_op, z_st, z_vo, z_he, z_ns, z_nm, z_sl, z_pa, z_tr, z_td, z_ha, z_cc, z_fi, z_wa, z_se, z_lo, z_im, z_ls, z_lk, z_lt, z_ly, z_ln, z_nu, z_ho, z_wk, z_wn, z_pr, z_go, z_mk, z_mf, z_mt, z_mn) (nI t) (nI tr) (nI td) := by
  obtain ⟨i1, i2, i3, i4, i5, ⟨j1, j2, j3, j4, j5, j6⟩, i7, i8⟩ := hI
  unfold wpX_commit
  refine ml_isOpen ht i3 (fun e => br_t rfl (H0 e)) (fun e => br_f (by decide) ?_)
  refine br_f (nI_pos (by omega)) (pk_lt 7 tr (fun z => absurd z (by omega)) (fun _ => br_f (nI_pos (by omega)) (br_t (nI_lt (b := 3) htd (by decide)) ?_)))
  refine ml_start ht i4 i2 ?_
  have hB : mb_B (N + 1, t, ps_i h t 3, tr, td, o, h, w, z_wn, z_nu, z_im, z_go, z_cc) := ⟨by show 1 ≤ N + 1; omega, by show N + 1 < 1000; omega, ht, ps_lt h t, htr, htd, e, fun m hm => ps_bit h t hm, fun k hk => (i4 k hk).1, fun k hk z => j2 t ht e k hk z⟩
  have hR0 : mx_R (N + 1, t, ps_i h t 3, tr, td, o, h, w, z_wn, z_nu, z_im, z_go, z_cc) (1, 0, 0, false, false, [], 0, 0, cs_i0 (ps_i h t 3)) (z_op, 1, 0, 0, nI (N + 1), nI (N + 1), nI t, nI (ps_i h t 3), nI tr, nI td, 0, z_cc, 0, 0, 0, 0, z_im, z_ls, z_lk, z_lt, z_ly, z_ln, z_nu, z_ho, z_wk, z_wn, z_pr, z_go, z_mk, z_mf, z_mt, z_mn) := by
    have m05 := cs_05 (ps_i h t 3)
    refine ⟨⟨⟨rfl, by omega⟩, ⟨rfl, by omega⟩, ⟨rfl, by omega⟩, rfl, rfl, rfl, rfl, rfl, rfl, rfl, rfl⟩, ⟨0, by omega, rfl, rfl, by simp, rfl, by omega, rfl, by omega, trivial⟩, ⟨?_, ⟨h, w, i4, i5, ?_⟩, fun j hj => rfl, fun k hk => ?_, fun k hk => rfl, fun j hj => ?_, ⟨fun j hj _ => rfl, fun m hm _ => j6 t ht e m hm, fun m hm z => ?_⟩, fun m hm => ?_, fun m hm z => ?_⟩, ?_⟩
    · rw [i3]
      refine oc_ext (fun t' ht' => ?_)
      show o t' = (o t' && !(false && _))
      simp
    · exact ⟨fun k hk z => (kh_0 (N + 1, t, ps_i h t 3, tr, td, o, h, w, z_wn, z_nu, z_im, z_go, z_cc) k).symm, fun k hk z => ⟨Or.inl z, fun _ => z⟩, fun t' ht' _ _ k hk => rfl, fun k hk _ => rfl⟩
    · rw [if_neg (by have := m05 (k % 3); omega)]
      rfl
    · rw [if_neg (fun z => by have := m05 (j % 3); omega)]
      exact j5 j hj
    · have := m05 m
      omega
    · exact lf_of (N := N) rfl (m05 m) (i7 m hm)
    · unfold cs_i0 at z
      split at z
      · rename_i q
        rw [ps_bit h t hm] at q
        exact q
      · exact absurd z (by decide)
    · obtain ⟨n, a1, a2, a3⟩ := i8
      refine ⟨n, by omega, fun _ => a1, a2, ⟨fun z => absurd z (by decide), ?_⟩, fun i hi => ?_⟩
      · rintro ⟨i, hi, b1, b2⟩
        obtain ⟨x, c1, c2⟩ := a3 i hi
        have b2' : z_lt (3 * 64 + i) = nI (N + 1) := b2
        rw [c2, nn_inj (by omega) (by omega)] at b2'
        omega
      · obtain ⟨x, c1, c2⟩ := a3 i hi
        exact ⟨x, by show x ≤ N + 1; omega, c2⟩
  have hok := cs_ok (ps_i h t 3) (ps_lt h t) tr htr td htd
  unfold cs_all at hok
  cases hini : cs_ini (ps_i h t 3) tr td with
  | none => rw [hini] at hok; exact absurd hok Bool.false_ne_true
  | some c1 =>
    rw [hini] at hok
    unfold cs_ini at hini
    have F68 := ms_68 (post := post) (t := t) hB ht htd j1 j2 j3 j4 j6 (H1 e) hok
    refine ml_isPart (ps_lt h t) htd rfl (fun ep => br_t rfl ?_) (fun ep => br_f (by decide) ?_)
    · refine ml_strikes (tr := tr) (td := td) (ha := false) 1 td htr htd (by omega) htd rfl rfl rfl (fun e1 _ _ => br_f (by decide) ?_) (fun z => br_t rfl ?_)
      · rw [if_pos ⟨ep, e1⟩, Option.bind_eq_some_iff] at hini
        obtain ⟨⟨st, vo, he, ha, de, q, se, lo, ms⟩, hb, hd⟩ := hini
        refine ms_brk hB htd rfl (by show ¬ (tr = 2 ∨ tr = 3); omega) hR0 hb (fun r u' h => ?_)
        obtain ⟨x_op, x_st, x_vo, x_he, x_ns, x_nm, x_sl, x_pa, x_tr, x_td, x_ha, x_cc, x_fi, x_wa, x_se, x_lo, x_im, x_ls, x_lk, x_lt, x_ly, x_ln, x_nu, x_ho, x_wk, x_wn, x_pr, x_go, x_mk, x_mf, x_mt, x_mn⟩ := u'
        exact F68 _ _ _ _ _ _ _ _ _ _ _ _ _ _ _ _ _ _ _ _ _ _ _ _ _ _ _ _ _ _ _ _ _ hd h
      · rw [if_neg (fun q => z ⟨q.2, rfl, rfl⟩)] at hini
        exact F68 _ _ _ _ _ _ _ _ _ _ _ _ _ _ _ _ _ _ _ _ _ _ _ _ _ _ _ _ _ _ _ _ _ hini hR0
    · rw [if_neg (fun q => by rw [ep] at q; exact absurd q.1 (by decide))] at hini
      exact F68 _ _ _ _ _ _ _ _ _ _ _ _ _ _ _ _ _ _ _ _ _ _ _ _ _ _ _ _ _ _ _ _ _ hini hR0
end COMMIT
end
section
/-! ===== the picture of a store between calls, and what each call does to it ===== -/
def vw_V (N : Nat) (o : Nat → Bool) (h : Nat → Nat) (w : Nat → Nat → Bool) (nu wn : Nat → Int32) (cc : Int32) (u : St1) : Prop := match u with
  | (z_op, z_st, z_vo, z_he, z_ns, z_nm, z_sl, z_pa, z_tr, z_td, z_ha, z_cc, z_fi, z_wa, z_se, z_lo, z_im, z_ls, z_lk, z_lt, z_ly, z_ln, z_nu, z_ho, z_wk, z_wn, z_pr, z_go, z_mk, z_mf, z_mt, z_mn) => iv_I N o h w (z_op, z_st, z_vo, z_he, z_ns, z_nm, z_sl, z_pa, z_tr, z_td, z_ha, z_cc, z_fi, z_wa, z_se, z_lo, z_im, z_ls, z_lk, z_lt, z_ly, z_ln, z_nu, z_ho, z_wk, z_wn, z_pr, z_go, z_mk, z_mf, z_mt, z_mn) ∧ (∀ k, k < 12 → z_nu k = nu k) ∧ (∀ j, j < 48 → z_wn j = wn j) ∧ z_cc = cc
section OPS
variable {N : Nat} {o : Nat → Bool} {h : Nat → Nat} {w : Nat → Nat → Bool} {nu wn : Nat → Int32} {cc : Int32} {u : St1}
theorem sv_pic {z_nu z_wn : Nat → Int32} {t k : Nat} (ht : t < 4) (hk : k < 12) (e1 : ∀ k, k < 12 → z_nu k = nu k) (e2 : ∀ j, j < 48 → z_wn j = wn j) : sv_v w z_wn z_nu t k = sv_v w wn nu t k := by
  unfold sv_v
  rw [e1 k hk, e2 _ (by omega)]
theorem vw_rg (hv : vw_V N o h w nu wn cc u) : (∀ k, k < 12 → rg_ok (nu k)) ∧ (∀ j, j < 48 → rg_ok (wn j)) := by
  obtain ⟨z_op, z_st, z_vo, z_he, z_ns, z_nm, z_sl, z_pa, z_tr, z_td, z_ha, z_cc, z_fi, z_wa, z_se, z_lo, z_im, z_ls, z_lk, z_lt, z_ly, z_ln, z_nu, z_ho, z_wk, z_wn, z_pr, z_go, z_mk, z_mf, z_mt, z_mn⟩ := u
  obtain ⟨⟨i1, i2, i3, i4, i5, ⟨j1, j2, j3, j4, j5, j6⟩, i7, i8⟩, v1, v2, v3⟩ := hv
  exact ⟨fun k hk => by rw [← v1 k hk]; exact j3 k hk, fun j hj => by rw [← v2 j hj]; exact j4 j hj⟩
theorem sp_begin {post : Int32 → St1 → Prop} (hv : vw_V N o h w nu wn cc u)
    (H0 : (∀ t, t < 4 → o t = true) → post (-200000) u)
    (H1 : ∀ t, t < 4 → (∀ t', t' < t → o t' = true) → o t = false → ∀ u', vw_V N (oc_up o t true) h (wr_a w t) nu wn cc u' → post (nI t) u') : wpX_begin post u := by
  obtain ⟨z_op, z_st, z_vo, z_he, z_ns, z_nm, z_sl, z_pa, z_tr, z_td, z_ha, z_cc, z_fi, z_wa, z_se, z_lo, z_im, z_ls, z_lk, z_lt, z_ly, z_ln, z_nu, z_ho, z_wk, z_wn, z_pr, z_go, z_mk, z_mf, z_mt, z_mn⟩ := u
  obtain ⟨⟨i1, i2, i3, i4, i5, ⟨j1, j2, j3, j4, j5, j6⟩, i7, i8⟩, v1, v2, v3⟩ := hv
  refine ml_begin i3 i5 H0 (fun t ht hp hf b9 b11 b12 h9 h11 h12 => ?_)
  refine H1 t ht hp hf _ ⟨⟨i1, i2, rfl, i4, h9, ⟨fun k hk z => ?_, fun t' ht' e k hk z => ?_, j3, j4, fun j hj => ?_, fun t' ht' e m hm => ?_⟩, i7, i8⟩, v1, v2, v3⟩
  · unfold oc_up
    split
    · rfl
    · exact j1 k hk z
  · unfold wr_a at z
    split at z
    · exact absurd z (by decide)
    · rename_i q
      unfold oc_up at e
      rw [if_neg q] at e
      exact j2 t' ht' e k hk z
  · rw [h11 j hj]
    split
    · rfl
    · exact j5 j hj
  · rw [h12 _ (by omega)]
    split
    · rfl
    · rename_i q
      unfold oc_up at e
      rw [if_neg (by omega)] at e
      exact j6 t' ht' e m hm
theorem iv_get {t k : Nat} (ht : t < 4) (hf : h k = 4 ∨ h k = t) (j2 : ∀ t, t < 4 → o t = true → ∀ k, k < 12 → w t k = true → h k = t) : ∀ t', t' < 4 → o t' = true → ∀ k', k' < 12 → w t' k' = true → hu_s h k t k' = t' := by
  intro t' ht' e k' hk' z
  have := j2 t' ht' e k' hk' z
  unfold hu_s
  split
  · rename_i q
    subst q
    omega
  · exact this
theorem iv_open {t k : Nat} (e : o t = true) (j1 : ∀ k, k < 12 → h k < 4 → o (h k) = true) : ∀ k', k' < 12 → hu_s h k t k' < 4 → o (hu_s h k t k') = true := by
  intro k' hk' z
  unfold hu_s at z ⊢
  split
  · exact e
  · rename_i q
    rw [if_neg q] at z
    exact j1 k' hk' z
theorem sp_get {post : Int32 → St1 → Prop} {t k : Nat} (ht : t < 4) (hk : k < 12) (hv : vw_V N o h w nu wn cc u)
    (H0 : o t = false → post (-100000) u) (H1 : o t = true → ¬ (h k = 4 ∨ h k = t) → post (-300000) u)
    (H2 : o t = true → (h k = 4 ∨ h k = t) → ∀ u', vw_V N o (hu_s h k t) w nu wn cc u' → post (sv_v w wn nu t k) u') : wpX_get post u (nI t) (nI k) := by
  obtain ⟨z_op, z_st, z_vo, z_he, z_ns, z_nm, z_sl, z_pa, z_tr, z_td, z_ha, z_cc, z_fi, z_wa, z_se, z_lo, z_im, z_ls, z_lk, z_lt, z_ly, z_ln, z_nu, z_ho, z_wk, z_wn, z_pr, z_go, z_mk, z_mf, z_mt, z_mn⟩ := u
  obtain ⟨⟨i1, i2, i3, i4, i5, ⟨j1, j2, j3, j4, j5, j6⟩, i7, i8⟩, v1, v2, v3⟩ := hv
  refine ml_get ht hk i3 i4 i5 H0 H1 (fun e hf b8 h8 => ?_)
  rw [sv_pic ht hk v1 v2]
  exact H2 e hf _ ⟨⟨i1, i2, i3, h8, i5, ⟨iv_open e j1, iv_get ht hf j2, j3, j4, j5, j6⟩, i7, i8⟩, v1, v2, v3⟩
theorem iv_put {t k : Nat} (ht : t < 4) (hf : h k = 4 ∨ h k = t) (j2 : ∀ t, t < 4 → o t = true → ∀ k, k < 12 → w t k = true → h k = t) : ∀ t', t' < 4 → o t' = true → ∀ k', k' < 12 → wu_s w t k true t' k' = true → hu_s h k t k' = t' := by
  intro t' ht' e k' hk' z
  unfold wu_s at z
  split at z
  · rename_i q
    unfold hu_s
    rw [if_pos q.2]
    exact q.1.symm
  · exact iv_get ht hf j2 t' ht' e k' hk' z
theorem up_pic {z_wn : Nat → Int32} {x : Nat} {v : Int32} (e : ∀ j, j < 48 → z_wn j = wn j) : ∀ j, j < 48 → upd z_wn x v j = upd wn x v j := by
  intro j hj
  by_cases q : j = x
  · rw [q, pk_us, pk_us]
  · rw [pk_un q, pk_un q]
    exact e j hj
theorem up_rg {f : Nat → Int32} {x : Nat} {v : Int32} (e : ∀ j, j < 48 → rg_ok (f j)) (hv : rg_ok v) : ∀ j, j < 48 → rg_ok (upd f x v j) := by
  intro j hj
  by_cases q : j = x
  · rw [q, pk_us]
    exact hv
  · rw [pk_un q]
    exact e j hj
theorem sp_put {post : Int32 → St1 → Prop} {t k : Nat} {v : Int32} (ht : t < 4) (hk : k < 12) (hr : rg_ok v) (hv : vw_V N o h w nu wn cc u)
    (H0 : o t = false → post (-100000) u) (H1 : o t = true → ¬ (h k = 4 ∨ h k = t) → post (-300000) u)
    (H2 : o t = true → (h k = 4 ∨ h k = t) → ∀ u', vw_V N o (hu_s h k t) (wu_s w t k true) nu (upd wn (t * 12 + k) v) cc u' → post (sv_v w wn nu t k) u') : wpX_put post u (nI t) (nI k) v := by
  obtain ⟨z_op, z_st, z_vo, z_he, z_ns, z_nm, z_sl, z_pa, z_tr, z_td, z_ha, z_cc, z_fi, z_wa, z_se, z_lo, z_im, z_ls, z_lk, z_lt, z_ly, z_ln, z_nu, z_ho, z_wk, z_wn, z_pr, z_go, z_mk, z_mf, z_mt, z_mn⟩ := u
  obtain ⟨⟨i1, i2, i3, i4, i5, ⟨j1, j2, j3, j4, j5, j6⟩, i7, i8⟩, v1, v2, v3⟩ := hv
  refine ml_put ht hk hr i3 i4 i5 H0 H1 (fun e hf b8 b9 h8 h9 => ?_)
  rw [sv_pic ht hk v1 v2]
  exact H2 e hf _ ⟨⟨i1, i2, i3, h8, h9, ⟨iv_open e j1, iv_put ht hf j2, j3, up_rg j4 hr, j5, j6⟩, i7, i8⟩, v1, up_pic v2, v3⟩
theorem sp_move {post : Int32 → St1 → Prop} {t k k2 a : Nat} (ht : t < 4) (hk : k < 12) (hk2 : k2 < 12) (hne : k ≠ k2) (ha : a < 128) (hv : vw_V N o h w nu wn cc u)
    (H0 : o t = false → post (-100000) u) (H1 : o t = true → ¬ ((h k = 4 ∨ h k = t) ∧ (h k2 = 4 ∨ h k2 = t)) → post (-300000) u)
    (H2 : o t = true → ((h k = 4 ∨ h k = t) ∧ (h k2 = 4 ∨ h k2 = t)) → ¬ (rg_ok (sv_v w wn nu t k - nI a) ∧ rg_ok (sv_v w wn nu t k2 + nI a)) → post (-200000) u)
    (H3 : o t = true → ((h k = 4 ∨ h k = t) ∧ (h k2 = 4 ∨ h k2 = t)) → (rg_ok (sv_v w wn nu t k - nI a) ∧ rg_ok (sv_v w wn nu t k2 + nI a)) → ∀ u', vw_V N o (hu_s (hu_s h k t) k2 t) (wu_s (wu_s w t k true) t k2 true) nu (upd (upd wn (t * 12 + k) (sv_v w wn nu t k - nI a)) (t * 12 + k2) (sv_v w wn nu t k2 + nI a)) cc u' →
      post (sv_v w wn nu t k - nI a) u') : wpX_move post u (nI t) (nI k + 12 * nI k2) (nI a) := by
  obtain ⟨z_op, z_st, z_vo, z_he, z_ns, z_nm, z_sl, z_pa, z_tr, z_td, z_ha, z_cc, z_fi, z_wa, z_se, z_lo, z_im, z_ls, z_lk, z_lt, z_ly, z_ln, z_nu, z_ho, z_wk, z_wn, z_pr, z_go, z_mk, z_mf, z_mt, z_mn⟩ := u
  obtain ⟨⟨i1, i2, i3, i4, i5, ⟨j1, j2, j3, j4, j5, j6⟩, i7, i8⟩, v1, v2, v3⟩ := hv
  have s1 := sv_pic (w := w) ht hk v1 v2
  have s2 := sv_pic (w := w) ht hk2 v1 v2
  refine ml_move ht hk hk2 hne ha i3 i4 i5 H0 H1 (fun e hf hr => ?_) (fun e hf hr b8 b9 h8 h9 => ?_)
  · rw [s1, s2] at hr
    exact H2 e hf hr
  · rw [s1, s2] at hr ⊢
    have hf2 : hu_s h k t k2 = 4 ∨ hu_s h k t k2 = t := by
      unfold hu_s
      rw [if_neg (fun z => hne z.symm)]
      exact hf.2
    exact H3 e hf hr _ ⟨⟨i1, i2, i3, h8, h9, ⟨iv_open e (iv_open e j1), iv_put ht hf2 (iv_put ht hf.1 j2), j3, up_rg (up_rg j4 hr.1) hr.2, j5, j6⟩, i7, i8⟩, v1, up_pic (up_pic v2), v3⟩
/-- a set of transactions is rolled back -/
theorem iv_kill {K : Nat → Bool} {w' : Nat → Nat → Bool} {z_nu z_wn z_pr z_go pr' : Nat → Int32} (hw : ∀ t, t < 4 → K t = false → ∀ k, k < 12 → w' t k = w t k) (hp : ∀ j, j < 12 → pr' j = 0) (h05 : ∀ k, k < 12 → h k < 5) (g : iv_D o h w z_nu z_wn z_pr z_go) : iv_D (ko_K o K) (kh_K h K) w' z_nu z_wn pr' z_go := by
  obtain ⟨j1, j2, j3, j4, j5, j6⟩ := g
  refine ⟨fun k hk z => ?_, fun t ht e k hk z => ?_, j3, j4, hp, fun t ht e m hm => ?_⟩
  · unfold kh_K at z ⊢
    split at z
    · omega
    · rename_i q
      rw [if_neg q]
      unfold ko_K
      rw [j1 k hk z, show K (h k) = false by simpa using q]
      rfl
  · unfold ko_K at e
    rw [Bool.and_eq_true] at e
    have ek : K t = false := by simpa using e.2
    rw [hw t ht ek k hk] at z
    have := j2 t ht e.1 k hk z
    unfold kh_K
    rw [this, ek, if_neg (by decide)]
  · unfold ko_K at e
    rw [Bool.and_eq_true] at e
    exact j6 t ht e.1 m hm
theorem sp_abort {post : Int32 → St1 → Prop} {t : Nat} (ht : t < 4) (hv : vw_V N o h w nu wn cc u)
    (H0 : o t = false → post (-100000) u)
    (H1 : o t = true → ∀ u' w', (∀ t', t' < 4 → decide (t' = t) = false → ∀ k, k < 12 → w' t' k = w t' k) → vw_V N (ko_K o (fun t' => decide (t' = t))) (kh_K h (fun t' => decide (t' = t))) w' nu wn cc u' → post (nI (cn_i h t 12)) u') : wpX_abort post u (nI t) := by
  obtain ⟨z_op, z_st, z_vo, z_he, z_ns, z_nm, z_sl, z_pa, z_tr, z_td, z_ha, z_cc, z_fi, z_wa, z_se, z_lo, z_im, z_ls, z_lk, z_lt, z_ly, z_ln, z_nu, z_ho, z_wk, z_wn, z_pr, z_go, z_mk, z_mf, z_mt, z_mn⟩ := u
  obtain ⟨⟨i1, i2, i3, i4, i5, g, i7, i8⟩, v1, v2, v3⟩ := hv
  refine ml_abort ht i3 i4 i5 H0 (fun e b8 b9 b11 h8 h9 h11 => ?_)
  have hw : ∀ t', t' < 4 → decide (t' = t) = false → ∀ k, k < 12 → wr_a w t t' k = w t' k := by
    intro t' ht' z k hk
    unfold wr_a
    rw [if_neg (of_decide_eq_false z)]
  refine H1 e _ (wr_a w t) hw ⟨⟨i1, i2, oc_ext (fun t' ht' => ?_), vh_Hc h8 (fun k hk => ?_), h9, iv_kill hw (fun j hj => ?_) (fun k hk => (i4 k hk).1) g, i7, i8⟩, v1, v2, v3⟩
  · unfold oc_up ko_K
    by_cases q : t' = t
    · simp [q]
    · simp [q]
  · unfold hr_a kh_K
    by_cases q : h k = t
    · simp [q]
    · simp [q]
  · rw [h11 j hj]
    split
    · rfl
    · exact g.2.2.2.2.1 j hj
def kd_K (h : Nat → Nat) (m t : Nat) : Bool := decide (t < 4) && hs_a h m t
theorem sp_crash {post : Int32 → St1 → Prop} {m : Nat} (hm : m < 3) (hv : vw_V N o h w nu wn cc u)
    (H : ∀ u' w', (∀ t', t' < 4 → kd_K h m t' = false → ∀ k, k < 12 → w' t' k = w t' k) → vw_V N (ko_K o (kd_K h m)) (kh_K h (kd_K h m)) w' nu wn cc u' → post (nI (cb_i h m 4 4)) u') : wpX_crash post u (nI m) := by
  obtain ⟨z_op, z_st, z_vo, z_he, z_ns, z_nm, z_sl, z_pa, z_tr, z_td, z_ha, z_cc, z_fi, z_wa, z_se, z_lo, z_im, z_ls, z_lk, z_lt, z_ly, z_ln, z_nu, z_ho, z_wk, z_wn, z_pr, z_go, z_mk, z_mf, z_mt, z_mn⟩ := u
  obtain ⟨⟨i1, i2, i3, i4, i5, g, i7, i8⟩, v1, v2, v3⟩ := hv
  have hb4 : ∀ t q, hb_i h m 4 4 t q = kd_K h m t := by
    intro t q
    unfold hb_i kd_K
    by_cases e : t < 4
    · have : ¬ t = 4 := by omega
      simp [e, this]
    · simp [e]
  refine br_f (nI_pos (by omega)) (br_t (nI_le (b := 3) (by omega) (by decide)) (br_f (by show ¬ nI m = nI 3; rw [nI_eq (by omega) (by omega)]; omega) ?_))
  obtain ⟨n, n1, n2, n3, n4, n5⟩ := i7 m hm
  refine ml_breakDown (o := o) (h := h) (w := w) m n 4 hm (by omega) n2 (fun i hi e => ?_) (Or.inl ⟨i1, rfl, n5⟩) i3 i4 i5 (fun o' b7 b8 b9 b10 b11 b12 eo e7 e8 e9 e10 e11 e12 => ?_)
  · obtain ⟨x, a1, a2, a3, a4⟩ := n3 i hi
    exact a4 e
  have hw : ∀ t', t' < 4 → kd_K h m t' = false → ∀ k, k < 12 → wh_i w h m 4 4 t' k = w t' k := by
    intro t' ht' z k hk
    unfold wh_i
    rw [hb4, z]
    simp
  have e7' : ∀ k, k < 12 → b7 k = z_nu k := by
    intro k hk
    rw [e7 k hk]
    by_cases e : k % 3 = m
    · rw [if_pos e]
      exact n4 k hk e
    · rw [if_neg e]
  have e10' : ∀ j, j < 48 → b10 j = z_wn j := by
    intro j hj
    rw [e10 j hj, if_neg (fun z => z.1 n5)]
  have g' : iv_D o h w b7 b10 z_pr b12 := by
    obtain ⟨j1, j2, j3, j4, j5, j6⟩ := g
    refine ⟨j1, j2, fun k hk => by rw [e7' k hk]; exact j3 k hk, fun j hj => by rw [e10' j hj]; exact j4 j hj, j5, fun t ht e m' hm' => ?_⟩
    rw [e12 _ (by omega)]
    unfold gh_i
    rw [if_neg (fun z => by omega)]
    exact j6 t ht e m' hm'
  refine H _ (wh_i w h m 4 4) hw ⟨⟨i1, i2, oc_ext (fun t' ht' => ?_), vh_Hc e8 (fun k hk => ?_), vh_Wg e9 (fun t' ht' k hk => ?_), iv_kill hw (fun j hj => ?_) (fun k hk => (i4 k hk).1) g', fun m' hm' => ?_, i8⟩, fun k hk => (e7' k hk).trans (v1 k hk), fun j hj => (e10' j hj).trans (v2 j hj), v3⟩
  · rw [eo t' ht']
    unfold ob_i ko_K kd_K
    have : ¬ t' = 4 := by omega
    simp [this]
  · rw [if_neg (fun z => z.1 n5)]
    unfold kh_K hh_i
    rw [hb4]
  · rw [decide_eq_false (fun z => z.1 n5)]
    simp
  · rw [e11 j hj, if_neg (fun z => z.1 n5)]
    unfold ph_i
    split
    · rfl
    · exact g.2.2.2.2.1 j hj
  · obtain ⟨n', p1, p2, p3, p4, p5⟩ := i7 m' hm'
    exact ⟨n', p1, p2, p3, fun k hk hkm => by rw [e7' k hk]; exact p4 k hk hkm, p5⟩
def ka_K (o : Nat → Bool) (t : Nat) : Bool := decide (t < 4) && o t
theorem sp_leader {post : Int32 → St1 → Prop} (hv : vw_V N o h w nu wn cc u)
    (H : ∀ u' w', (∀ t', t' < 4 → ka_K o t' = false → ∀ k, k < 12 → w' t' k = w t' k) → vw_V N (ko_K o (ka_K o)) (kh_K h (ka_K o)) w' nu wn cc u' → post (nI (cl_i o 4 4)) u') : wpX_crash post u (nI 3) := by
  obtain ⟨z_op, z_st, z_vo, z_he, z_ns, z_nm, z_sl, z_pa, z_tr, z_td, z_ha, z_cc, z_fi, z_wa, z_se, z_lo, z_im, z_ls, z_lk, z_lt, z_ly, z_ln, z_nu, z_ho, z_wk, z_wn, z_pr, z_go, z_mk, z_mf, z_mt, z_mn⟩ := u
  obtain ⟨⟨i1, i2, i3, i4, i5, g, i7, i8⟩, v1, v2, v3⟩ := hv
  have hk4 : ∀ t, kl_i o 4 4 t = ka_K o t := by
    intro t
    unfold kl_i ka_K
    by_cases e : t < 4
    · have : ¬ t = 4 := by omega
      simp [e, this]
    · simp [e]
  have hk4' : kl_i o 4 4 = ka_K o := funext hk4
  refine br_f (nI_pos (by omega)) (br_t (by decide) (br_t rfl ?_))
  obtain ⟨n, n1, n2, n3⟩ := i8
  refine ml_breakLeader (o := o) (h := h) (w := w) (d := decide (∃ i, i < n ∧ z_lk (3 * 64 + i) = 5 ∧ z_lt (3 * 64 + i) = z_nm)) n 4 (by omega) n2 decide_eq_true_iff (Or.inl ⟨i1, rfl⟩) i3 i4 i5 (fun _ o' b8 b9 b11 eo e8 e9 e11 => ?_) (fun z => absurd i1 z)
  rw [hk4'] at eo e8 e9 e11
  have hw : ∀ t', t' < 4 → ka_K o t' = false → ∀ k, k < 12 → kw_K w (ka_K o) t' k = w t' k := by
    intro t' ht' z k hk
    unfold kw_K
    rw [z]
    simp
  refine H _ (kw_K w (ka_K o)) hw ⟨⟨i1, i2, oc_ext eo, e8, e9, iv_kill hw (fun j hj => ?_) (fun k hk => (i4 k hk).1) g, i7, ⟨n, n1, n2, n3⟩⟩, v1, v2, v3⟩
  rw [e11 j hj]
  unfold kp_K
  split
  · rfl
  · exact g.2.2.2.2.1 j hj
theorem sp_commit {post : Int32 → St1 → Prop} {t tr td : Nat} (hN : N < 900) (ht : t < 4) (htr : tr < 8) (htd : td < 3) (hv : vw_V N o h w nu wn cc u)
    (H0 : o t = false → post (-100000) u)
    (H1 : o t = true → ∀ u' w', (∀ t', t' < 4 → ko_K o (ck_K o h t tr td) t' = true → ∀ k, k < 12 → w' t' k = w t' k) → vw_V (N + 1) (ko_K o (ck_K o h t tr td)) (kh_K h (ck_K o h t tr td)) w' (fun k => if ck_r h t tr td = true ∧ w t k = true then wn (t * 12 + k) else nu k) wn (cc + nI (ck_r h t tr td).toNat) u' → post (nI (ck_r h t tr td).toNat) u') : wpX_commit post u (nI t) (nI tr) (nI td) := by
  obtain ⟨z_op, z_st, z_vo, z_he, z_ns, z_nm, z_sl, z_pa, z_tr, z_td, z_ha, z_cc, z_fi, z_wa, z_se, z_lo, z_im, z_ls, z_lk, z_lt, z_ly, z_ln, z_nu, z_ho, z_wk, z_wn, z_pr, z_go, z_mk, z_mf, z_mt, z_mn⟩ := u
  obtain ⟨hI, v1, v2, v3⟩ := hv
  refine ml_commit hN ht htr htd hI H0 (fun e u' w' hI' hC => ?_)
  refine H1 e u' w' ?_ ?_
  · obtain ⟨x_op, x_st, x_vo, x_he, x_ns, x_nm, x_sl, x_pa, x_tr, x_td, x_ha, x_cc, x_fi, x_wa, x_se, x_lo, x_im, x_ls, x_lk, x_lt, x_ly, x_ln, x_nu, x_ho, x_wk, x_wn, x_pr, x_go, x_mk, x_mf, x_mt, x_mn⟩ := u'
    exact hC.2.2.1
  · obtain ⟨x_op, x_st, x_vo, x_he, x_ns, x_nm, x_sl, x_pa, x_tr, x_td, x_ha, x_cc, x_fi, x_wa, x_se, x_lo, x_im, x_ls, x_lk, x_lt, x_ly, x_ln, x_nu, x_ho, x_wk, x_wn, x_pr, x_go, x_mk, x_mf, x_mt, x_mn⟩ := u'
    obtain ⟨c1, c2, c3, c4⟩ := hC
    refine ⟨hI', fun k hk => ?_, fun j hj => (c2 j hj).trans (v2 j hj), by rw [c4, v3]⟩
    rw [c1 k hk, v1 k hk, v2 _ (by omega)]
end OPS
end
section
/-! ===== the turned twin: pictures alone ===== -/
def rt_k (c k : Nat) : Nat := (k + c) % 12
theorem rt_lt (c k : Nat) : rt_k c k < 12 := Nat.mod_lt _ (by omega)
theorem rt_inj {c k i : Nat} (hk : k < 12) (hi : i < 12) : rt_k c i = rt_k c k ↔ i = k := by
  unfold rt_k
  omega
theorem rt_3 (c k : Nat) : rt_k c k % 3 = (k % 3 + c) % 3 := by
  unfold rt_k
  omega
theorem rt_sur {c j : Nat} (hc : c < 12) (hj : j < 12) : ∃ k, k < 12 ∧ rt_k c k = j := ⟨(j + (12 - c)) % 12, by omega, by unfold rt_k; omega⟩
def tw_T (c : Nat) (o : Nat → Bool) (h h' : Nat → Nat) (w w' : Nat → Nat → Bool) (nu nu' wn wn' : Nat → Int32) : Prop :=
  (∀ k, k < 12 → h' (rt_k c k) = h k) ∧ (∀ t, t < 4 → o t = true → ∀ k, k < 12 → w' t (rt_k c k) = w t k) ∧ (∀ k, k < 12 → nu' (rt_k c k) = - nu k) ∧
  (∀ t, t < 4 → o t = true → ∀ k, k < 12 → w t k = true → wn' (t * 12 + rt_k c k) = - wn (t * 12 + k))
def tw_W (c N : Nat) (u v : St1) : Prop := ∃ o h h' w w' nu nu' wn wn' cc, vw_V N o h w nu wn cc u ∧ vw_V N o h' w' nu' wn' cc v ∧ tw_T c o h h' w w' nu nu' wn wn'
section TW
variable {c N : Nat} {o o' : Nat → Bool} {h h' g : Nat → Nat} {w w' : Nat → Nat → Bool} {nu nu' wn wn' : Nat → Int32} {cc : Int32} {u : St1}
theorem vw_cong (eo : ∀ t, t < 4 → o' t = o t) (eh : ∀ k, k < 12 → g k = h k) (hv : vw_V N o h w nu wn cc u) : vw_V N o' g w nu wn cc u := by
  obtain ⟨z_op, z_st, z_vo, z_he, z_ns, z_nm, z_sl, z_pa, z_tr, z_td, z_ha, z_cc, z_fi, z_wa, z_se, z_lo, z_im, z_ls, z_lk, z_lt, z_ly, z_ln, z_nu, z_ho, z_wk, z_wn, z_pr, z_go, z_mk, z_mf, z_mt, z_mn⟩ := u
  obtain ⟨⟨i1, i2, i3, i4, i5, ⟨j1, j2, j3, j4, j5, j6⟩, i7, i8⟩, v1, v2, v3⟩ := hv
  refine ⟨⟨i1, i2, i3.trans (oc_ext (fun t ht => (eo t ht).symm)), vh_Hc i4 eh, i5, ⟨fun k hk z => ?_, fun t ht e k hk z => ?_, j3, j4, j5, fun t ht e m hm => ?_⟩, i7, i8⟩, v1, v2, v3⟩
  · rw [eh k hk] at z ⊢
    rw [eo _ z]
    exact j1 k hk z
  · rw [eh k hk]
    rw [eo t ht] at e
    exact j2 t ht e k hk z
  · rw [eo t ht] at e
    exact j6 t ht e m hm
theorem hs_rot {m t : Nat} (hc : c < 12) (hm : m < 3) (e : ∀ k, k < 12 → h' (rt_k c k) = h k) : hs_a h' ((m + c) % 3) t = hs_a h m t := by
  apply Bool.eq_iff_iff.mpr
  rw [hs_iff (by omega), hs_iff hm]
  constructor
  · rintro ⟨j, a1, a2, a3⟩
    obtain ⟨k, b1, b2⟩ := rt_sur hc a1
    subst b2
    rw [e k b1] at a3
    rw [rt_3] at a2
    exact ⟨k, b1, by omega, a3⟩
  · rintro ⟨k, a1, a2, a3⟩
    refine ⟨rt_k c k, rt_lt c k, ?_, by rw [e k a1]; exact a3⟩
    rw [rt_3, a2]
theorem tw_begin {t : Nat} (T : tw_T c o h h' w w' nu nu' wn wn') : tw_T c (oc_up o t true) h h' (wr_a w t) (wr_a w' t) nu nu' wn wn' := by
  obtain ⟨a1, a2, a3, a4⟩ := T
  refine ⟨a1, fun t' ht' e k hk => ?_, a3, fun t' ht' e k hk z => ?_⟩
  · unfold wr_a
    by_cases q : t' = t
    · rw [if_pos q, if_pos q]
    · unfold oc_up at e
      rw [if_neg q] at e
      rw [if_neg q, if_neg q]
      exact a2 t' ht' e k hk
  · unfold wr_a at z
    by_cases q : t' = t
    · rw [if_pos q] at z
      exact absurd z (by decide)
    · unfold oc_up at e
      rw [if_neg q] at e z
      exact a4 t' ht' e k hk z
theorem tw_get {t k : Nat} (hk : k < 12) (T : tw_T c o h h' w w' nu nu' wn wn') : tw_T c o (hu_s h k t) (hu_s h' (rt_k c k) t) w w' nu nu' wn wn' := by
  obtain ⟨a1, a2, a3, a4⟩ := T
  refine ⟨fun i hi => ?_, a2, a3, a4⟩
  unfold hu_s
  rw [a1 i hi]
  exact ic_c (rt_inj hk hi)
theorem tw_put {t k : Nat} {v : Int32} (hk : k < 12) (T : tw_T c o h h' w w' nu nu' wn wn') : tw_T c o (hu_s h k t) (hu_s h' (rt_k c k) t) (wu_s w t k true) (wu_s w' t (rt_k c k) true) nu nu' (upd wn (t * 12 + k) v) (upd wn' (t * 12 + rt_k c k) (-v)) := by
  obtain ⟨b1, b2, b3, b4⟩ := tw_get (t := t) hk T
  obtain ⟨a1, a2, a3, a4⟩ := T
  refine ⟨b1, fun t' ht' e i hi => ?_, a3, fun t' ht' e i hi z => ?_⟩
  · unfold wu_s
    rw [a2 t' ht' e i hi]
    refine ic_c ?_
    rw [rt_inj hk hi]
  · have r1 := rt_lt c k
    have r2 := rt_lt c i
    by_cases q : t' = t ∧ i = k
    · rw [q.1, q.2, pk_us, pk_us]
    · unfold wu_s at z
      rw [if_neg q] at z
      have q2 : ¬ (t' * 12 + rt_k c i = t * 12 + rt_k c k) := by
        intro y
        have e1 : t' = t := by omega
        have e2 : rt_k c i = rt_k c k := by omega
        exact q ⟨e1, (rt_inj hk hi).mp e2⟩
      rw [pk_un q2, pk_un (by omega)]
      exact a4 t' ht' e i hi z
theorem tw_sv {t k : Nat} (ht : t < 4) (e : o t = true) (hk : k < 12) (T : tw_T c o h h' w w' nu nu' wn wn') : sv_v w' wn' nu' t (rt_k c k) = - sv_v w wn nu t k := by
  obtain ⟨a1, a2, a3, a4⟩ := T
  unfold sv_v
  rw [a2 t ht e k hk]
  by_cases z : w t k = true
  · rw [if_pos z, if_pos z]
    exact a4 t ht e k hk z
  · rw [if_neg z, if_neg z]
    exact a3 k hk
theorem hu_com (h : Nat → Nat) (a b t : Nat) : hu_s (hu_s h a t) b t = hu_s (hu_s h b t) a t := by
  funext i
  unfold hu_s
  split <;> split <;> rfl
theorem wu_com (w : Nat → Nat → Bool) (t a b : Nat) : wu_s (wu_s w t a true) t b true = wu_s (wu_s w t b true) t a true := by
  funext i j
  unfold wu_s
  split <;> split <;> rfl
theorem up_com (f : Nat → Int32) {a b : Nat} (x y : Int32) (hne : a ≠ b) : upd (upd f a x) b y = upd (upd f b y) a x := by
  funext i
  by_cases e1 : i = b
  · subst e1
    rw [pk_us, pk_un (by omega), pk_us]
  · rw [pk_un e1]
    by_cases e2 : i = a
    · subst e2
      rw [pk_us, pk_us]
    · rw [pk_un e2, pk_un e2, pk_un e1]
theorem tw_kill {K : Nat → Bool} {w1 w1' : Nat → Nat → Bool} (hw : ∀ t, t < 4 → ko_K o K t = true → ∀ k, k < 12 → w1 t k = w t k) (hw' : ∀ t, t < 4 → ko_K o K t = true → ∀ k, k < 12 → w1' t k = w' t k) (T : tw_T c o h h' w w' nu nu' wn wn') : tw_T c (ko_K o K) (kh_K h K) (kh_K h' K) w1 w1' nu nu' wn wn' := by
  obtain ⟨a1, a2, a3, a4⟩ := T
  have ho : ∀ t, ko_K o K t = true → o t = true := fun t z => by
    unfold ko_K at z
    rw [Bool.and_eq_true] at z
    exact z.1
  refine ⟨fun k hk => ?_, fun t ht e k hk => ?_, a3, fun t ht e k hk z => ?_⟩
  · unfold kh_K
    rw [a1 k hk]
  · rw [hw t ht e k hk, hw' t ht e _ (rt_lt c k)]
    exact a2 t ht (ho t e) k hk
  · rw [hw t ht e k hk] at z
    exact a4 t ht (ho t e) k hk z
theorem kh_cong {K K' : Nat → Bool} (hK : ∀ t, t < 4 → K' t = K t) (h5 : ∀ k, k < 12 → h k < 5) : ∀ k, k < 12 → kh_K h K k = kh_K h K' k := by
  intro k hk
  unfold kh_K
  have := h5 k hk
  by_cases e : h k < 4
  · rw [hK _ e]
  · have e4 : h k = 4 := by omega
    rw [e4]
    split <;> split <;> rfl
theorem ko_cong {K K' : Nat → Bool} (hK : ∀ t, t < 4 → K' t = K t) : ∀ t, t < 4 → ko_K o K t = ko_K o K' t := by
  intro t ht
  unfold ko_K
  rw [hK t ht]
theorem vw_h5 (hv : vw_V N o h w nu wn cc u) : ∀ k, k < 12 → h k < 5 := by
  obtain ⟨z_op, z_st, z_vo, z_he, z_ns, z_nm, z_sl, z_pa, z_tr, z_td, z_ha, z_cc, z_fi, z_wa, z_se, z_lo, z_im, z_ls, z_lk, z_lt, z_ly, z_ln, z_nu, z_ho, z_wk, z_wn, z_pr, z_go, z_mk, z_mf, z_mt, z_mn⟩ := u
  exact fun k hk => (hv.1.2.2.2.1 k hk).1
/-! sums and counts over turned keys -/
def sn_N (f : Nat → Nat) : Nat → Nat
  | 0 => 0
  | n + 1 => sn_N f n + f n
theorem c12 {P : Nat → Prop} {c : Nat} (hc : c < 12) (h : ∀ c, c = 0 ∨ c = 1 ∨ c = 2 ∨ c = 3 ∨ c = 4 ∨ c = 5 ∨ c = 6 ∨ c = 7 ∨ c = 8 ∨ c = 9 ∨ c = 10 ∨ c = 11 → P c) : P c := h c (by omega)
theorem sn_rot (f : Nat → Nat) (hc : c < 12) : sn_N (fun k => f (rt_k c k)) 12 = sn_N f 12 := by
  have : c = 0 ∨ c = 1 ∨ c = 2 ∨ c = 3 ∨ c = 4 ∨ c = 5 ∨ c = 6 ∨ c = 7 ∨ c = 8 ∨ c = 9 ∨ c = 10 ∨ c = 11 := by omega
  rcases this with rfl | rfl | rfl | rfl | rfl | rfl | rfl | rfl | rfl | rfl | rfl | rfl <;> (simp only [sn_N, rt_k, Nat.reduceAdd, Nat.reduceMod, Nat.reduceMul, Nat.zero_add, Nat.add_zero, Nat.mul_zero, Nat.mul_one] <;> omega)
theorem cn_sn (h : Nat → Nat) (t : Nat) : ∀ n, cn_i h t n = sn_N (fun k => if h k = t then 1 else 0) n := by
  intro n
  induction n with
  | zero => rfl
  | succ n ih =>
    unfold cn_i sn_N
    rw [ih]
theorem sn_ext {f g : Nat → Nat} : ∀ n, (∀ k, k < n → f k = g k) → sn_N f n = sn_N g n := by
  intro n
  induction n with
  | zero => intro _; rfl
  | succ n ih =>
    intro h
    unfold sn_N
    rw [ih (fun k hk => h k (by omega)), h n (by omega)]
theorem cn_rot {t : Nat} (hc : c < 12) (e : ∀ k, k < 12 → h' (rt_k c k) = h k) : cn_i h' t 12 = cn_i h t 12 := by
  rw [cn_sn, cn_sn, ← sn_rot _ hc]
  exact sn_ext 12 (fun k hk => by rw [e k hk])
theorem cb_rot {m : Nat} (hc : c < 12) (hm : m < 3) (e : ∀ k, k < 12 → h' (rt_k c k) = h k) : ∀ n, cb_i h' ((m + c) % 3) 4 n = cb_i h m 4 n := by
  intro n
  induction n with
  | zero => rfl
  | succ n ih =>
    unfold cb_i
    rw [ih, hs_rot hc hm e]
theorem ts_neg (f : Nat → Int32) : ∀ n, ts_a (fun k => - f k) n = - ts_a f n := by
  intro n
  induction n with
  | zero => exact (by decide : (0 : Int32) = - 0)
  | succ n ih =>
    unfold ts_a
    rw [ih]
    grind
theorem ts_ext {f g : Nat → Int32} : ∀ n, (∀ k, k < n → f k = g k) → ts_a f n = ts_a g n := by
  intro n
  induction n with
  | zero => intro _; rfl
  | succ n ih =>
    intro h
    unfold ts_a
    rw [ih (fun k hk => h k (by omega)), h n (by omega)]
theorem ts_rot (f : Nat → Int32) (hc : c < 12) : ts_a (fun k => f (rt_k c k)) 12 = ts_a f 12 := by
  have : c = 0 ∨ c = 1 ∨ c = 2 ∨ c = 3 ∨ c = 4 ∨ c = 5 ∨ c = 6 ∨ c = 7 ∨ c = 8 ∨ c = 9 ∨ c = 10 ∨ c = 11 := by omega
  rcases this with rfl | rfl | rfl | rfl | rfl | rfl | rfl | rfl | rfl | rfl | rfl | rfl <;> (simp only [ts_a, rt_k, Nat.reduceAdd, Nat.reduceMod, Nat.reduceMul, Nat.zero_add, Nat.add_zero, Nat.mul_zero, Nat.mul_one] <;> grind)
theorem tw_total (hc : c < 12) (e : ∀ k, k < 12 → nu' (rt_k c k) = - nu k) : ts_a nu 12 = - ts_a nu' 12 := by
  have h1 : ts_a nu' 12 = - ts_a nu 12 := by
    rw [← ts_rot nu' hc, ← ts_neg]
    exact ts_ext 12 e
  rw [h1]
  grind
theorem tw_sum {m : Nat} (hc : c < 12) (hm : m < 3) (e : ∀ k, k < 12 → nu' (rt_k c k) = - nu k) : ts_m nu m 4 = - ts_m nu' ((m + c) % 3) 4 := by
  have hcc : c = 0 ∨ c = 1 ∨ c = 2 ∨ c = 3 ∨ c = 4 ∨ c = 5 ∨ c = 6 ∨ c = 7 ∨ c = 8 ∨ c = 9 ∨ c = 10 ∨ c = 11 := by omega
  have hmm : m = 0 ∨ m = 1 ∨ m = 2 := by omega
  have e0 := e m (by omega)
  have e1 := e (m + 3) (by omega)
  have e2 := e (m + 6) (by omega)
  have e3 := e (m + 9) (by omega)
  clear e
  rcases hmm with rfl | rfl | rfl <;> rcases hcc with rfl | rfl | rfl | rfl | rfl | rfl | rfl | rfl | rfl | rfl | rfl | rfl <;> (simp only [ts_m, rt_k, Nat.reduceAdd, Nat.reduceMod, Nat.reduceMul, Nat.zero_add, Nat.add_zero, Nat.mul_zero, Nat.mul_one] at e0 e1 e2 e3 ⊢ <;> grind)
end TW
end
section
/-! ===== alike ===== -/
section ALIKE
variable {z_op z_st z_vo z_he z_ns z_nm z_sl z_pa z_tr z_td z_ha z_cc z_fi z_wa z_se z_lo : Int32} {z_im z_ls z_lk z_lt z_ly z_ln z_nu z_ho z_wk z_wn z_pr z_go z_mk z_mf z_mt z_mn : Nat → Int32} {y_op y_st y_vo y_he y_ns y_nm y_sl y_pa y_tr y_td y_ha y_cc y_fi y_wa y_se y_lo : Int32} {y_im y_ls y_lk y_lt y_ly y_ln y_nu y_ho y_wk y_wn y_pr y_go y_mk y_mf y_mt y_mn : Nat → Int32}
theorem ml_peek {post : Int32 → Prop} {k : Nat} (hk : k < 12) (H : post (z_nu k)) : wpX_peek post (z_op, z_st, z_vo, z_he, z_ns, z_nm, z_sl, z_pa, z_tr, z_td, z_ha, z_cc, z_fi, z_wa, z_se, z_lo, z_im, z_ls, z_lk, z_lt, z_ly, z_ln, z_nu, z_ho, z_wk, z_wn, z_pr, z_go, z_mk, z_mf, z_mt, z_mn) (nI k) := by
  unfold wpX_peek
  refine ml_isKey hk (br_f (by decide) ⟨pk_in k 12 hk, ?_⟩)
  rw [nI_clamp (by omega)]
  exact H
def hd_v (x : Nat) : Int32 := if x = 4 then -200000 else hc_E x
theorem ml_holder {post : Int32 → Prop} {h : Nat → Nat} {k : Nat} (hk : k < 12) (hh : vh_H z_ho h) (H : post (hd_v (h k))) : wpX_holder post (z_op, z_st, z_vo, z_he, z_ns, z_nm, z_sl, z_pa, z_tr, z_td, z_ha, z_cc, z_fi, z_wa, z_se, z_lo, z_im, z_ls, z_lk, z_lt, z_ly, z_ln, z_nu, z_ho, z_wk, z_wn, z_pr, z_go, z_mk, z_mf, z_mt, z_mn) (nI k) := by
  unfold wpX_holder
  obtain ⟨h5, e⟩ := hh k hk
  have e' : z_ho (nI k).toNatClampNeg = hc_E (h k) := by rw [nI_clamp (by omega)]; exact e
  have g1 : z_ho (nI k).toNatClampNeg = -1 ↔ h k = 4 := by rw [e']; exact hc_m1 _ h5
  refine ml_isKey hk (br_f (by decide) ⟨pk_in k 12 hk, rd_if g1 (fun z => ?_) (fun z => ⟨pk_in k 12 hk, ?_⟩)⟩)
  · unfold hd_v at H
    rw [if_pos z] at H
    exact H
  · unfold hd_v at H
    rw [if_neg z] at H
    rw [e']
    exact H
theorem ml_written {post : Int32 → Prop} {o : Nat → Bool} {w : Nat → Nat → Bool} {t : Nat} (ht : t < 4) (ho : z_op = oc_E o) (hw : vh_W z_wk w) (H : ∀ x, (∀ k, k < 12 → tb_t x k = (o t && w t k)) → post x) : wpX_written post (z_op, z_st, z_vo, z_he, z_ns, z_nm, z_sl, z_pa, z_tr, z_td, z_ha, z_cc, z_fi, z_wa, z_se, z_lo, z_im, z_ls, z_lk, z_lt, z_ly, z_ln, z_nu, z_ho, z_wk, z_wn, z_pr, z_go, z_mk, z_mf, z_mt, z_mn) (nI t) := by
  unfold wpX_written
  refine ml_isOpen ht ho (fun e => br_t rfl (H 0 (fun k hk => ?_))) (fun e => br_f (by decide) ⟨pk_in t 4 ht, ?_⟩)
  · rw [e, tb_zero k (by omega)]
    rfl
  · rw [nI_clamp (by omega)]
    refine H _ (fun k hk => ?_)
    rw [e, hw t ht k hk]
    rfl
theorem bit_eq {x y : Int32} {k j : Nat} (hk : k < 12) (hj : j < 12) (e : tb_t x k = tb_t y j) : ((x >>> (nI k &&& 31)) &&& 1) = ((y >>> (nI j &&& 31)) &&& 1) := by
  rw [tb_get x (by omega), tb_get y (by omega), e]
theorem al_103 {post : Int32 → Prop} {J : Int32 → Int32 → Prop} {c k : Nat} {o : Nat → Bool} {h h' : Nat → Nat} {w w' : Nat → Nat → Bool} (hk : k < 12) (o1 : z_op = oc_E o) (o2 : y_op = oc_E o) (h1 : vh_H z_ho h) (h2 : vh_H y_ho h') (w1 : vh_W z_wk w) (w2 : vh_W y_wk w')
    (eh : h' (rt_k c k) = h k) (ew : ∀ t, t < 4 → o t = true → w' t (rt_k c k) = w t k) (H : J 1 (nI (k + 1))) : ∃ f, wL_alike_103 post J (nI c) (nI k) (nI (rt_k c k)) z_op z_st z_vo z_he z_ns z_nm z_sl z_pa z_tr z_td z_ha z_cc z_fi z_wa z_se z_lo z_im z_ls z_lk z_lt z_ly z_ln z_nu z_ho z_wk z_wn z_pr z_go z_mk z_mf z_mt z_mn y_op y_st y_vo y_he y_ns y_nm y_sl y_pa y_tr y_td y_ha y_cc y_fi y_wa y_se y_lo y_im y_ls y_lk y_lt y_ly y_ln y_nu y_ho y_wk y_wn y_pr y_go y_mk y_mf y_mt y_mn f 1 0 := by
  have r := rt_lt c k
  refine pk_loop (σ := Unit) (fun f i _ => wL_alike_103 post J (nI c) (nI k) (nI (rt_k c k)) z_op z_st z_vo z_he z_ns z_nm z_sl z_pa z_tr z_td z_ha z_cc z_fi z_wa z_se z_lo z_im z_ls z_lk z_lt z_ly z_ln z_nu z_ho z_wk z_wn z_pr z_go z_mk z_mf z_mt z_mn y_op y_st y_vo y_he y_ns y_nm y_sl y_pa y_tr y_td y_ha y_cc y_fi y_wa y_se y_lo y_im y_ls y_lk y_lt y_ly y_ln y_nu y_ho y_wk y_wn y_pr y_go y_mk y_mf y_mt y_mn f 1 (nI i)) (fun _ _ => True) 4 0 () (by omega) trivial ?_ ?_
  · intro f _ _
    exact pk_le 4 4 (fun _ => nm_r (nI_1 k) H) (fun z => absurd z (by omega))
  · intro f t _ ht _ hn
    refine pk_le 4 t (fun z => absurd z (by omega)) (fun _ => br_f (by decide) ?_)
    refine ml_keys ht o1 h1 (fun x hx => ?_)
    refine ml_keys ht o2 h2 (fun y hy => ?_)
    refine br_t (bit_eq hk r (by rw [hx k hk, hy _ r, eh])) ?_
    refine ml_written ht o1 w1 (fun x hx => ?_)
    refine ml_written ht o2 w2 (fun y hy => ?_)
    refine br_t (bit_eq hk r ?_) (nm_r (nI_1 t) (hn () trivial))
    rw [hx k hk, hy _ r]
    cases hq : o t
    · rfl
    · rw [ew t ht hq]
theorem al_184 {post : Int32 → Prop} {c : Nat} (hc : c < 12) (en : ∀ k, k < 12 → y_nu (rt_k c k) = - z_nu k) (H : post 1) : ∃ f, wL_alike_184 post (nI c) z_op z_st z_vo z_he z_ns z_nm z_sl z_pa z_tr z_td z_ha z_cc z_fi z_wa z_se z_lo z_im z_ls z_lk z_lt z_ly z_ln z_nu z_ho z_wk z_wn z_pr z_go z_mk z_mf z_mt z_mn y_op y_st y_vo y_he y_ns y_nm y_sl y_pa y_tr y_td y_ha y_cc y_fi y_wa y_se y_lo y_im y_ls y_lk y_lt y_ly y_ln y_nu y_ho y_wk y_wn y_pr y_go y_mk y_mf y_mt y_mn f 1 0 := by
  refine pk_loop (σ := Unit) (fun f i _ => wL_alike_184 post (nI c) z_op z_st z_vo z_he z_ns z_nm z_sl z_pa z_tr z_td z_ha z_cc z_fi z_wa z_se z_lo z_im z_ls z_lk z_lt z_ly z_ln z_nu z_ho z_wk z_wn z_pr z_go z_mk z_mf z_mt z_mn y_op y_st y_vo y_he y_ns y_nm y_sl y_pa y_tr y_td y_ha y_cc y_fi y_wa y_se y_lo y_im y_ls y_lk y_lt y_ly y_ln y_nu y_ho y_wk y_wn y_pr y_go y_mk y_mf y_mt y_mn f 1 (nI i)) (fun _ _ => True) 3 0 () (by omega) trivial ?_ ?_
  · intro f _ _
    exact pk_le 3 3 (fun _ => ⟨rfl, H⟩) (fun z => absurd z (by omega))
  · intro f m _ hm _ hn
    refine pk_le 3 m (fun z => absurd z (by omega)) (fun _ => br_f (by decide) ?_)
    refine ml_sum hm ⟨by decide, ?_⟩
    have em : nI m + nI c - (nI m + nI c) / 3 * 3 = nI ((m + c) % 3) := by
      rw [nI_add, show (3 : Int32) = nI 3 from rfl, pk_rem (by omega) (by omega) (by omega)]
    rw [em]
    refine ml_sum (by omega) ?_
    exact br_t (tw_sum hc hm en) (nm_r (nI_1 m) (hn () trivial))
theorem al_43 {post : Int32 → Prop} {c : Nat} {o : Nat → Bool} {h h' : Nat → Nat} {w w' : Nat → Nat → Bool} (hc : c < 12) (o1 : z_op = oc_E o) (o2 : y_op = oc_E o) (h1 : vh_H z_ho h) (h2 : vh_H y_ho h') (w1 : vh_W z_wk w) (w2 : vh_W y_wk w')
    (eh : ∀ k, k < 12 → h' (rt_k c k) = h k) (ew : ∀ t, t < 4 → o t = true → ∀ k, k < 12 → w' t (rt_k c k) = w t k) (en : ∀ k, k < 12 → y_nu (rt_k c k) = - z_nu k) (H : post 1) : ∃ f, wL_alike_43 post (nI c) z_op z_st z_vo z_he z_ns z_nm z_sl z_pa z_tr z_td z_ha z_cc z_fi z_wa z_se z_lo z_im z_ls z_lk z_lt z_ly z_ln z_nu z_ho z_wk z_wn z_pr z_go z_mk z_mf z_mt z_mn y_op y_st y_vo y_he y_ns y_nm y_sl y_pa y_tr y_td y_ha y_cc y_fi y_wa y_se y_lo y_im y_ls y_lk y_lt y_ly y_ln y_nu y_ho y_wk y_wn y_pr y_go y_mk y_mf y_mt y_mn f 1 0 := by
  refine pk_loop (σ := Unit) (fun f i _ => wL_alike_43 post (nI c) z_op z_st z_vo z_he z_ns z_nm z_sl z_pa z_tr z_td z_ha z_cc z_fi z_wa z_se z_lo z_im z_ls z_lk z_lt z_ly z_ln z_nu z_ho z_wk z_wn z_pr z_go z_mk z_mf z_mt z_mn y_op y_st y_vo y_he y_ns y_nm y_sl y_pa y_tr y_td y_ha y_cc y_fi y_wa y_se y_lo y_im y_ls y_lk y_lt y_ly y_ln y_nu y_ho y_wk y_wn y_pr y_go y_mk y_mf y_mt y_mn f 1 (nI i)) (fun _ _ => True) 12 0 () (by omega) trivial ?_ ?_
  · intro f _ _
    exact pk_le 12 12 (fun _ => al_184 hc en H) (fun z => absurd z (by omega))
  · intro f k _ hk _ hn
    have r := rt_lt c k
    have ek : nI k + nI c - (nI k + nI c) / 12 * 12 = nI (rt_k c k) := by
      rw [nI_add, show (12 : Int32) = nI 12 from rfl, pk_rem (by omega) (by omega) (by omega)]
      rfl
    refine pk_le 12 k (fun z => absurd z (by omega)) (fun _ => ⟨by decide, nm_r ek (br_f (by decide) ?_)⟩)
    refine ml_peek hk ?_
    refine ml_peek r ?_
    refine br_t (by rw [en k hk]; grind) ?_
    refine ml_holder hk h1 ?_
    refine ml_holder r h2 ?_
    refine br_t (by rw [eh k hk]) ?_
    exact al_103 hk o1 o2 h1 h2 w1 w2 (eh k hk) (fun t ht e => ew t ht e k hk) (hn () trivial)
theorem ml_alike {post : Int32 → Prop} {c N : Nat} (hc : c < 12) (hT : tw_W c N (z_op, z_st, z_vo, z_he, z_ns, z_nm, z_sl, z_pa, z_tr, z_td, z_ha, z_cc, z_fi, z_wa, z_se, z_lo, z_im, z_ls, z_lk, z_lt, z_ly, z_ln, z_nu, z_ho, z_wk, z_wn, z_pr, z_go, z_mk, z_mf, z_mt, z_mn) (y_op, y_st, y_vo, y_he, y_ns, y_nm, y_sl, y_pa, y_tr, y_td, y_ha, y_cc, y_fi, y_wa, y_se, y_lo, y_im, y_ls, y_lk, y_lt, y_ly, y_ln, y_nu, y_ho, y_wk, y_wn, y_pr, y_go, y_mk, y_mf, y_mt, y_mn)) (H : post 1) : wpL_alike post (z_op, z_st, z_vo, z_he, z_ns, z_nm, z_sl, z_pa, z_tr, z_td, z_ha, z_cc, z_fi, z_wa, z_se, z_lo, z_im, z_ls, z_lk, z_lt, z_ly, z_ln, z_nu, z_ho, z_wk, z_wn, z_pr, z_go, z_mk, z_mf, z_mt, z_mn, y_op, y_st, y_vo, y_he, y_ns, y_nm, y_sl, y_pa, y_tr, y_td, y_ha, y_cc, y_fi, y_wa, y_se, y_lo, y_im, y_ls, y_lk, y_lt, y_ly, y_ln, y_nu, y_ho, y_wk, y_wn, y_pr, y_go, y_mk, y_mf, y_mt, y_mn) (nI c) := by
  obtain ⟨o, h, h', w, w', nu, nu', wn, wn', cc, hv, hv', ⟨t1, t2, t3, t4⟩⟩ := hT
  obtain ⟨⟨i1, i2, i3, i4, i5, i6, i7, i8⟩, v1, v2, v3⟩ := hv
  obtain ⟨⟨j1, j2, j3, j4, j5, j6, j7, j8⟩, x1, x2, x3⟩ := hv'
  have en : ∀ k, k < 12 → y_nu (rt_k c k) = - z_nu k := fun k hk => by rw [x1 _ (rt_lt c k), v1 k hk]; exact t3 k hk
  show (z_op = y_op → _) ∧ (¬ z_op = y_op → _)
  refine br_t (i3.trans j3.symm) ?_
  refine ml_total ?_
  refine ml_total ?_
  refine br_t (tw_total hc en) ?_
  show (z_cc = y_cc → _) ∧ (¬ z_cc = y_cc → _)
  refine br_t (v3.trans x3.symm) ?_
  exact al_43 hc i3 j3 i4 j4 i5 j5 t1 t2 en H
end ALIKE
end
section
/-! ===== the law ===== -/
theorem rg_neg (x : Int32) : rg_ok (-x) ↔ rg_ok x := by
  unfold rg_ok
  have h1 : (-9999 : Int32).toInt = -9999 := by decide
  have h2 : (9999 : Int32).toInt = 9999 := by decide
  rw [Int32.lt_iff_toInt_lt, Int32.lt_iff_toInt_lt, Int32.lt_iff_toInt_lt, Int32.lt_iff_toInt_lt, h1, h2, Int32.toInt_neg]
  have b1 := Int32.minValue_le_toInt x
  have b2 := Int32.toInt_le x
  have e : ∀ y : Int, -2147483648 ≤ y → y ≤ 2147483647 → ((¬ (-y).bmod (2 ^ 32) < -9999 ∧ ¬ 9999 < (-y).bmod (2 ^ 32)) ↔ (¬ y < -9999 ∧ ¬ 9999 < y)) := by
    intro y q1 q2
    by_cases q : y = -2147483648
    · subst q
      decide
    · rw [Int.bmod_eq_of_le (by omega) (by omega)]
      omega
  exact e _ (Int.le_trans (by decide) b1) (Int.le_trans b2 (by decide))
theorem rg_v : ∀ j, j < 256 → rg_ok (nI j - 128) := by unfold rg_ok; decide +kernel
theorem ng_bad : ¬ rg_ok (-100000) := by unfold rg_ok; decide
theorem ng_busy : ¬ rg_ok (-300000) := by unfold rg_ok; decide
theorem ml_turn {post : Int32 → Prop} {v : St3} {x : Int32} (hx : rg_ok x) (H : post (-x)) : wpL_turned post v x := br_f hx.1 (br_f hx.2 H)
theorem ml_turnN {post : Int32 → Prop} {v : St3} {x : Int32} (hx : ¬ rg_ok x) (H : post x) : wpL_turned post v x := br_c (fun _ => H) (fun z => br_c (fun _ => H) (fun y => absurd ⟨z, y⟩ hx))
theorem sv_rg {w : Nat → Nat → Bool} {wn nu : Nat → Int32} {t k : Nat} (ht : t < 4) (hk : k < 12) (h : (∀ k, k < 12 → rg_ok (nu k)) ∧ (∀ j, j < 48 → rg_ok (wn j))) : rg_ok (sv_v w wn nu t k) := by
  unfold sv_v
  split
  · exact h.2 _ (by omega)
  · exact h.1 k hk
theorem hu_id {h : Nat → Nat} {k t : Nat} (e : h k = t) : hu_s h k t = h := by
  funext i
  unfold hu_s
  split
  · rename_i q
    rw [q, e]
  · rfl
section LAW
variable {z_op z_st z_vo z_he z_ns z_nm z_sl z_pa z_tr z_td z_ha z_cc z_fi z_wa z_se z_lo : Int32} {z_im z_ls z_lk z_lt z_ly z_ln z_nu z_ho z_wk z_wn z_pr z_go z_mk z_mf z_mt z_mn : Nat → Int32} {y_op y_st y_vo y_he y_ns y_nm y_sl y_pa y_tr y_td y_ha y_cc y_fi y_wa y_se y_lo : Int32} {y_im y_ls y_lk y_lt y_ly y_ln y_nu y_ho y_wk y_wn y_pr y_go y_mk y_mf y_mt y_mn : Nat → Int32}
theorem vw_tot {N : Nat} {o : Nat → Bool} {h : Nat → Nat} {w : Nat → Nat → Bool} {nu wn : Nat → Int32} {cc : Int32} (hv : vw_V N o h w nu wn cc (z_op, z_st, z_vo, z_he, z_ns, z_nm, z_sl, z_pa, z_tr, z_td, z_ha, z_cc, z_fi, z_wa, z_se, z_lo, z_im, z_ls, z_lk, z_lt, z_ly, z_ln, z_nu, z_ho, z_wk, z_wn, z_pr, z_go, z_mk, z_mf, z_mt, z_mn)) : ts_a z_nu 12 = ts_a nu 12 := ts_ext 12 hv.2.1
theorem lx_547 {post : Int32 → Prop} {L : Nat} {xs : Nat → Int32} {J : Int32 → Int32 → Int32 → Int32 → Int32 → Int32 → Int32 → Int32 → Int32 → Int32 → Int32 → Int32 → Int32 → Int32 → Int32 → Int32 → Int32 → (Nat → Int32) → (Nat → Int32) → (Nat → Int32) → (Nat → Int32) → (Nat → Int32) → (Nat → Int32) → (Nat → Int32) → (Nat → Int32) → (Nat → Int32) → (Nat → Int32) → (Nat → Int32) → (Nat → Int32) → (Nat → Int32) → (Nat → Int32) → (Nat → Int32) → (Nat → Int32) → Int32 → Int32 → Int32 → Int32 → Int32 → Int32 → Int32 → Int32 → Int32 → Int32 → Int32 → Int32 → Int32 → Int32 → Int32 → Int32 → (Nat → Int32) → (Nat → Int32) → (Nat → Int32) → (Nat → Int32) → (Nat → Int32) → (Nat → Int32) → (Nat → Int32) → (Nat → Int32) → (Nat → Int32) → (Nat → Int32) → (Nat → Int32) → (Nat → Int32) → (Nat → Int32) → (Nat → Int32) → (Nat → Int32) → (Nat → Int32) → Prop} {c N s w kc ks : Nat} {x11 x12 x13 : Int32} (hc : c < 12) (hw : w < 16) (hT : tw_W c N (z_op, z_st, z_vo, z_he, z_ns, z_nm, z_sl, z_pa, z_tr, z_td, z_ha, z_cc, z_fi, z_wa, z_se, z_lo, z_im, z_ls, z_lk, z_lt, z_ly, z_ln, z_nu, z_ho, z_wk, z_wn, z_pr, z_go, z_mk, z_mf, z_mt, z_mn) (y_op, y_st, y_vo, y_he, y_ns, y_nm, y_sl, y_pa, y_tr, y_td, y_ha, y_cc, y_fi, y_wa, y_se, y_lo, y_im, y_ls, y_lk, y_lt, y_ly, y_ln, y_nu, y_ho, y_wk, y_wn, y_pr, y_go, y_mk, y_mf, y_mt, y_mn)) (e : x12 = x13) (ht : w < 10 → ts_a z_nu 12 = x11) (HJ : J (nI (s + 1)) z_op z_st z_vo z_he z_ns z_nm z_sl z_pa z_tr z_td z_ha z_cc z_fi z_wa z_se z_lo z_im z_ls z_lk z_lt z_ly z_ln z_nu z_ho z_wk z_wn z_pr z_go z_mk z_mf z_mt z_mn y_op y_st y_vo y_he y_ns y_nm y_sl y_pa y_tr y_td y_ha y_cc y_fi y_wa y_se y_lo y_im y_ls y_lk y_lt y_ly y_ln y_nu y_ho y_wk y_wn y_pr y_go y_mk y_mf y_mt y_mn) :
    wL_law_547 post L xs J (nI c) (nI s) (nI w) x11 x12 x13 kc ks z_op z_st z_vo z_he z_ns z_nm z_sl z_pa z_tr z_td z_ha z_cc z_fi z_wa z_se z_lo z_im z_ls z_lk z_lt z_ly z_ln z_nu z_ho z_wk z_wn z_pr z_go z_mk z_mf z_mt z_mn y_op y_st y_vo y_he y_ns y_nm y_sl y_pa y_tr y_td y_ha y_cc y_fi y_wa y_se y_lo y_im y_ls y_lk y_lt y_ly y_ln y_nu y_ho y_wk y_wn y_pr y_go y_mk y_mf y_mt y_mn := by
  refine br_t e ?_
  refine ml_alike hc hT (br_f (by decide) ?_)
  exact pk_le 10 w (fun z => nm_r (nI_1 s) HJ) (fun z => ml_total (br_t (ht z) (nm_r (nI_1 s) HJ)))
/-- the checks behind a move that came off -/
theorem lx_342 {post : Int32 → Prop} {L : Nat} {xs : Nat → Int32} {J : Int32 → Int32 → Int32 → Int32 → Int32 → Int32 → Int32 → Int32 → Int32 → Int32 → Int32 → Int32 → Int32 → Int32 → Int32 → Int32 → Int32 → (Nat → Int32) → (Nat → Int32) → (Nat → Int32) → (Nat → Int32) → (Nat → Int32) → (Nat → Int32) → (Nat → Int32) → (Nat → Int32) → (Nat → Int32) → (Nat → Int32) → (Nat → Int32) → (Nat → Int32) → (Nat → Int32) → (Nat → Int32) → (Nat → Int32) → (Nat → Int32) → Int32 → Int32 → Int32 → Int32 → Int32 → Int32 → Int32 → Int32 → Int32 → Int32 → Int32 → Int32 → Int32 → Int32 → Int32 → Int32 → (Nat → Int32) → (Nat → Int32) → (Nat → Int32) → (Nat → Int32) → (Nat → Int32) → (Nat → Int32) → (Nat → Int32) → (Nat → Int32) → (Nat → Int32) → (Nat → Int32) → (Nat → Int32) → (Nat → Int32) → (Nat → Int32) → (Nat → Int32) → (Nat → Int32) → (Nat → Int32) → Prop} {c N s w kc ks t k k2 : Nat} {x11 x17 : Int32} {o : Nat → Bool} {h h' : Nat → Nat} {wr wr' : Nat → Nat → Bool} {nu nu' wn wn' : Nat → Int32} {cc : Int32}
    (hc : c < 12) (hw : w < 16) (ht : t < 4) (hk : k < 12) (hk2 : k2 < 12) (eo : o t = true) (hv : vw_V N o h wr nu wn cc (z_op, z_st, z_vo, z_he, z_ns, z_nm, z_sl, z_pa, z_tr, z_td, z_ha, z_cc, z_fi, z_wa, z_se, z_lo, z_im, z_ls, z_lk, z_lt, z_ly, z_ln, z_nu, z_ho, z_wk, z_wn, z_pr, z_go, z_mk, z_mf, z_mt, z_mn)) (hv' : vw_V N o h' wr' nu' wn' cc (y_op, y_st, y_vo, y_he, y_ns, y_nm, y_sl, y_pa, y_tr, y_td, y_ha, y_cc, y_fi, y_wa, y_se, y_lo, y_im, y_ls, y_lk, y_lt, y_ly, y_ln, y_nu, y_ho, y_wk, y_wn, y_pr, y_go, y_mk, y_mf, y_mt, y_mn)) (T : tw_T c o h h' wr wr' nu nu' wn wn') (e1 : h k = t) (e2 : h k2 = t) (es : sv_v wr wn nu t k = x17) (et : ts_a nu 12 = x11)
    (HJ : ∀ (z_op z_st z_vo z_he z_ns z_nm z_sl z_pa z_tr z_td z_ha z_cc z_fi z_wa z_se z_lo : Int32) (z_im z_ls z_lk z_lt z_ly z_ln z_nu z_ho z_wk z_wn z_pr z_go z_mk z_mf z_mt z_mn : Nat → Int32) (y_op y_st y_vo y_he y_ns y_nm y_sl y_pa y_tr y_td y_ha y_cc y_fi y_wa y_se y_lo : Int32) (y_im y_ls y_lk y_lt y_ly y_ln y_nu y_ho y_wk y_wn y_pr y_go y_mk y_mf y_mt y_mn : Nat → Int32), tw_W c N (z_op, z_st, z_vo, z_he, z_ns, z_nm, z_sl, z_pa, z_tr, z_td, z_ha, z_cc, z_fi, z_wa, z_se, z_lo, z_im, z_ls, z_lk, z_lt, z_ly, z_ln, z_nu, z_ho, z_wk, z_wn, z_pr, z_go, z_mk, z_mf, z_mt, z_mn) (y_op, y_st, y_vo, y_he, y_ns, y_nm, y_sl, y_pa, y_tr, y_td, y_ha, y_cc, y_fi, y_wa, y_se, y_lo, y_im, y_ls, y_lk, y_lt, y_ly, y_ln, y_nu, y_ho, y_wk, y_wn, y_pr, y_go, y_mk, y_mf, y_mt, y_mn) → J (nI (s + 1)) z_op z_st z_vo z_he z_ns z_nm z_sl z_pa z_tr z_td z_ha z_cc z_fi z_wa z_se z_lo z_im z_ls z_lk z_lt z_ly z_ln z_nu z_ho z_wk z_wn z_pr z_go z_mk z_mf z_mt z_mn y_op y_st y_vo y_he y_ns y_nm y_sl y_pa y_tr y_td y_ha y_cc y_fi y_wa y_se y_lo y_im y_ls y_lk y_lt y_ly y_ln y_nu y_ho y_wk y_wn y_pr y_go y_mk y_mf y_mt y_mn) :
    wL_law_342 post L xs J (nI c) (nI s) (nI w) (nI t) (nI k) (nI (rt_k c k)) x11 1 (nI k2) (nI (rt_k c k2)) x17 1 1 kc ks z_op z_st z_vo z_he z_ns z_nm z_sl z_pa z_tr z_td z_ha z_cc z_fi z_wa z_se z_lo z_im z_ls z_lk z_lt z_ly z_ln z_nu z_ho z_wk z_wn z_pr z_go z_mk z_mf z_mt z_mn y_op y_st y_vo y_he y_ns y_nm y_sl y_pa y_tr y_td y_ha y_cc y_fi y_wa y_se y_lo y_im y_ls y_lk y_lt y_ly y_ln y_nu y_ho y_wk y_wn y_pr y_go y_mk y_mf y_mt y_mn := by
  have f1 : h' (rt_k c k) = t := by rw [T.1 k hk]; exact e1
  have f2 : h' (rt_k c k2) = t := by rw [T.1 k2 hk2]; exact e2
  refine br_f (by decide) ?_
  refine sp_get ht hk hv (fun z => by rw [eo] at z; exact absurd z (by decide)) (fun _ z => absurd (Or.inr e1) z) (fun _ _ u' hv1 => ?_)
  rw [hu_id e1] at hv1
  obtain ⟨z_op, z_st, z_vo, z_he, z_ns, z_nm, z_sl, z_pa, z_tr, z_td, z_ha, z_cc, z_fi, z_wa, z_se, z_lo, z_im, z_ls, z_lk, z_lt, z_ly, z_ln, z_nu, z_ho, z_wk, z_wn, z_pr, z_go, z_mk, z_mf, z_mt, z_mn⟩ := u'
  refine sp_get ht (rt_lt c k) hv' (fun z => by rw [eo] at z; exact absurd z (by decide)) (fun _ z => absurd (Or.inr f1) z) (fun _ _ v' hv1' => ?_)
  rw [hu_id f1] at hv1'
  obtain ⟨y_op, y_st, y_vo, y_he, y_ns, y_nm, y_sl, y_pa, y_tr, y_td, y_ha, y_cc, y_fi, y_wa, y_se, y_lo, y_im, y_ls, y_lk, y_lt, y_ly, y_ln, y_nu, y_ho, y_wk, y_wn, y_pr, y_go, y_mk, y_mf, y_mt, y_mn⟩ := v'
  refine br_t (by rw [tw_sv ht eo hk T]; grind) ?_
  refine sp_get ht hk2 hv1 (fun z => by rw [eo] at z; exact absurd z (by decide)) (fun _ z => absurd (Or.inr e2) z) (fun _ _ u' hv2 => ?_)
  rw [hu_id e2] at hv2
  obtain ⟨z_op, z_st, z_vo, z_he, z_ns, z_nm, z_sl, z_pa, z_tr, z_td, z_ha, z_cc, z_fi, z_wa, z_se, z_lo, z_im, z_ls, z_lk, z_lt, z_ly, z_ln, z_nu, z_ho, z_wk, z_wn, z_pr, z_go, z_mk, z_mf, z_mt, z_mn⟩ := u'
  refine sp_get ht (rt_lt c k2) hv1' (fun z => by rw [eo] at z; exact absurd z (by decide)) (fun _ z => absurd (Or.inr f2) z) (fun _ _ v' hv2' => ?_)
  rw [hu_id f2] at hv2'
  obtain ⟨y_op, y_st, y_vo, y_he, y_ns, y_nm, y_sl, y_pa, y_tr, y_td, y_ha, y_cc, y_fi, y_wa, y_se, y_lo, y_im, y_ls, y_lk, y_lt, y_ly, y_ln, y_nu, y_ho, y_wk, y_wn, y_pr, y_go, y_mk, y_mf, y_mt, y_mn⟩ := v'
  refine br_t (by rw [tw_sv ht eo hk2 T]; grind) ?_
  refine sp_get ht hk hv2 (fun z => by rw [eo] at z; exact absurd z (by decide)) (fun _ z => absurd (Or.inr e1) z) (fun _ _ u' hv3 => ?_)
  rw [hu_id e1] at hv3
  obtain ⟨z_op, z_st, z_vo, z_he, z_ns, z_nm, z_sl, z_pa, z_tr, z_td, z_ha, z_cc, z_fi, z_wa, z_se, z_lo, z_im, z_ls, z_lk, z_lt, z_ly, z_ln, z_nu, z_ho, z_wk, z_wn, z_pr, z_go, z_mk, z_mf, z_mt, z_mn⟩ := u'
  refine br_t es ?_
  have hT : tw_W c N (z_op, z_st, z_vo, z_he, z_ns, z_nm, z_sl, z_pa, z_tr, z_td, z_ha, z_cc, z_fi, z_wa, z_se, z_lo, z_im, z_ls, z_lk, z_lt, z_ly, z_ln, z_nu, z_ho, z_wk, z_wn, z_pr, z_go, z_mk, z_mf, z_mt, z_mn) (y_op, y_st, y_vo, y_he, y_ns, y_nm, y_sl, y_pa, y_tr, y_td, y_ha, y_cc, y_fi, y_wa, y_se, y_lo, y_im, y_ls, y_lk, y_lt, y_ly, y_ln, y_nu, y_ho, y_wk, y_wn, y_pr, y_go, y_mk, y_mf, y_mt, y_mn) := ⟨o, h, h', wr, wr', nu, nu', wn, wn', cc, hv3, hv2', T⟩
  exact lx_547 hc hw hT rfl (fun _ => (vw_tot hv3).trans et) (HJ _ _ _ _ _ _ _ _ _ _ _ _ _ _ _ _ _ _ _ _ _ _ _ _ _ _ _ _ _ _ _ _ _ _ _ _ _ _ _ _ _ _ _ _ _ _ _ _ _ _ _ _ _ _ _ _ _ _ _ _ _ _ _ _ hT)
/-- a move that did not come off -/
theorem lx_313 {post : Int32 → Prop} {L : Nat} {xs : Nat → Int32} {J : Int32 → Int32 → Int32 → Int32 → Int32 → Int32 → Int32 → Int32 → Int32 → Int32 → Int32 → Int32 → Int32 → Int32 → Int32 → Int32 → Int32 → (Nat → Int32) → (Nat → Int32) → (Nat → Int32) → (Nat → Int32) → (Nat → Int32) → (Nat → Int32) → (Nat → Int32) → (Nat → Int32) → (Nat → Int32) → (Nat → Int32) → (Nat → Int32) → (Nat → Int32) → (Nat → Int32) → (Nat → Int32) → (Nat → Int32) → (Nat → Int32) → Int32 → Int32 → Int32 → Int32 → Int32 → Int32 → Int32 → Int32 → Int32 → Int32 → Int32 → Int32 → Int32 → Int32 → Int32 → Int32 → (Nat → Int32) → (Nat → Int32) → (Nat → Int32) → (Nat → Int32) → (Nat → Int32) → (Nat → Int32) → (Nat → Int32) → (Nat → Int32) → (Nat → Int32) → (Nat → Int32) → (Nat → Int32) → (Nat → Int32) → (Nat → Int32) → (Nat → Int32) → (Nat → Int32) → (Nat → Int32) → Prop} {c N s w kc ks : Nat} {x7 x8 x9 x11 x14 x15 x : Int32} (hc : c < 12) (hw : w < 16) (hx : x < -9999) (hT : tw_W c N (z_op, z_st, z_vo, z_he, z_ns, z_nm, z_sl, z_pa, z_tr, z_td, z_ha, z_cc, z_fi, z_wa, z_se, z_lo, z_im, z_ls, z_lk, z_lt, z_ly, z_ln, z_nu, z_ho, z_wk, z_wn, z_pr, z_go, z_mk, z_mf, z_mt, z_mn) (y_op, y_st, y_vo, y_he, y_ns, y_nm, y_sl, y_pa, y_tr, y_td, y_ha, y_cc, y_fi, y_wa, y_se, y_lo, y_im, y_ls, y_lk, y_lt, y_ly, y_ln, y_nu, y_ho, y_wk, y_wn, y_pr, y_go, y_mk, y_mf, y_mt, y_mn)) (et : ts_a z_nu 12 = x11) (HJ : J (nI (s + 1)) z_op z_st z_vo z_he z_ns z_nm z_sl z_pa z_tr z_td z_ha z_cc z_fi z_wa z_se z_lo z_im z_ls z_lk z_lt z_ly z_ln z_nu z_ho z_wk z_wn z_pr z_go z_mk z_mf z_mt z_mn y_op y_st y_vo y_he y_ns y_nm y_sl y_pa y_tr y_td y_ha y_cc y_fi y_wa y_se y_lo y_im y_ls y_lk y_lt y_ly y_ln y_nu y_ho y_wk y_wn y_pr y_go y_mk y_mf y_mt y_mn) :
    (x < -9999 → wL_law_313 post L xs J (nI c) (nI s) (nI w) x7 x8 x9 x11 x14 x15 x x 0 kc ks z_op z_st z_vo z_he z_ns z_nm z_sl z_pa z_tr z_td z_ha z_cc z_fi z_wa z_se z_lo z_im z_ls z_lk z_lt z_ly z_ln z_nu z_ho z_wk z_wn z_pr z_go z_mk z_mf z_mt z_mn y_op y_st y_vo y_he y_ns y_nm y_sl y_pa y_tr y_td y_ha y_cc y_fi y_wa y_se y_lo y_im y_ls y_lk y_lt y_ly y_ln y_nu y_ho y_wk y_wn y_pr y_go y_mk y_mf y_mt y_mn) ∧ (¬ x < -9999 → wL_law_313 post L xs J (nI c) (nI s) (nI w) x7 x8 x9 x11 x14 x15 x x 1 kc ks z_op z_st z_vo z_he z_ns z_nm z_sl z_pa z_tr z_td z_ha z_cc z_fi z_wa z_se z_lo z_im z_ls z_lk z_lt z_ly z_ln z_nu z_ho z_wk z_wn z_pr z_go z_mk z_mf z_mt z_mn y_op y_st y_vo y_he y_ns y_nm y_sl y_pa y_tr y_td y_ha y_cc y_fi y_wa y_se y_lo y_im y_ls y_lk y_lt y_ly y_ln y_nu y_ho y_wk y_wn y_pr y_go y_mk y_mf y_mt y_mn) := by
  refine br_t hx (br_t rfl (br_t hx (br_t rfl ?_)))
  exact lx_547 hc hw hT rfl (fun _ => et) HJ
end LAW
end
section
/-! ===== the law's loop ===== -/
section TURN
variable {z_op z_st z_vo z_he z_ns z_nm z_sl z_pa z_tr z_td z_ha z_cc z_fi z_wa z_se z_lo : Int32} {z_im z_ls z_lk z_lt z_ly z_ln z_nu z_ho z_wk z_wn z_pr z_go z_mk z_mf z_mt z_mn : Nat → Int32} {y_op y_st y_vo y_he y_ns y_nm y_sl y_pa y_tr y_td y_ha y_cc y_fi y_wa y_se y_lo : Int32} {y_im y_ls y_lk y_lt y_ly y_ln y_nu y_ho y_wk y_wn y_pr y_go y_mk y_mf y_mt y_mn : Nat → Int32}
variable {post : Int32 → Prop} {L : Nat} {xs : Nat → Int32} {J : Int32 → Int32 → Int32 → Int32 → Int32 → Int32 → Int32 → Int32 → Int32 → Int32 → Int32 → Int32 → Int32 → Int32 → Int32 → Int32 → Int32 → (Nat → Int32) → (Nat → Int32) → (Nat → Int32) → (Nat → Int32) → (Nat → Int32) → (Nat → Int32) → (Nat → Int32) → (Nat → Int32) → (Nat → Int32) → (Nat → Int32) → (Nat → Int32) → (Nat → Int32) → (Nat → Int32) → (Nat → Int32) → (Nat → Int32) → (Nat → Int32) → Int32 → Int32 → Int32 → Int32 → Int32 → Int32 → Int32 → Int32 → Int32 → Int32 → Int32 → Int32 → Int32 → Int32 → Int32 → Int32 → (Nat → Int32) → (Nat → Int32) → (Nat → Int32) → (Nat → Int32) → (Nat → Int32) → (Nat → Int32) → (Nat → Int32) → (Nat → Int32) → (Nat → Int32) → (Nat → Int32) → (Nat → Int32) → (Nat → Int32) → (Nat → Int32) → (Nat → Int32) → (Nat → Int32) → (Nat → Int32) → Prop} {c N s wo kc ks : Nat}
theorem lx_begin (hc : c < 12) (hw : wo < 16) (hT : tw_W c N (z_op, z_st, z_vo, z_he, z_ns, z_nm, z_sl, z_pa, z_tr, z_td, z_ha, z_cc, z_fi, z_wa, z_se, z_lo, z_im, z_ls, z_lk, z_lt, z_ly, z_ln, z_nu, z_ho, z_wk, z_wn, z_pr, z_go, z_mk, z_mf, z_mt, z_mn) (y_op, y_st, y_vo, y_he, y_ns, y_nm, y_sl, y_pa, y_tr, y_td, y_ha, y_cc, y_fi, y_wa, y_se, y_lo, y_im, y_ls, y_lk, y_lt, y_ly, y_ln, y_nu, y_ho, y_wk, y_wn, y_pr, y_go, y_mk, y_mf, y_mt, y_mn)) {x11 : Int32} (ex : ts_a z_nu 12 = x11) (HJ : ∀ N' (z_op z_st z_vo z_he z_ns z_nm z_sl z_pa z_tr z_td z_ha z_cc z_fi z_wa z_se z_lo : Int32) (z_im z_ls z_lk z_lt z_ly z_ln z_nu z_ho z_wk z_wn z_pr z_go z_mk z_mf z_mt z_mn : Nat → Int32) (y_op y_st y_vo y_he y_ns y_nm y_sl y_pa y_tr y_td y_ha y_cc y_fi y_wa y_se y_lo : Int32) (y_im y_ls y_lk y_lt y_ly y_ln y_nu y_ho y_wk y_wn y_pr y_go y_mk y_mf y_mt y_mn : Nat → Int32), N' ≤ N + 1 → tw_W c N' (z_op, z_st, z_vo, z_he, z_ns, z_nm, z_sl, z_pa, z_tr, z_td, z_ha, z_cc, z_fi, z_wa, z_se, z_lo, z_im, z_ls, z_lk, z_lt, z_ly, z_ln, z_nu, z_ho, z_wk, z_wn, z_pr, z_go, z_mk, z_mf, z_mt, z_mn) (y_op, y_st, y_vo, y_he, y_ns, y_nm, y_sl, y_pa, y_tr, y_td, y_ha, y_cc, y_fi, y_wa, y_se, y_lo, y_im, y_ls, y_lk, y_lt, y_ly, y_ln, y_nu, y_ho, y_wk, y_wn, y_pr, y_go, y_mk, y_mf, y_mt, y_mn) → J (nI (s + 1)) z_op z_st z_vo z_he z_ns z_nm z_sl z_pa z_tr z_td z_ha z_cc z_fi z_wa z_se z_lo z_im z_ls z_lk z_lt z_ly z_ln z_nu z_ho z_wk z_wn z_pr z_go z_mk z_mf z_mt z_mn y_op y_st y_vo y_he y_ns y_nm y_sl y_pa y_tr y_td y_ha y_cc y_fi y_wa y_se y_lo y_im y_ls y_lk y_lt y_ly y_ln y_nu y_ho y_wk y_wn y_pr y_go y_mk y_mf y_mt y_mn) :
    wpX_begin (fun r1 u => match u with | (z_op, z_st, z_vo, z_he, z_ns, z_nm, z_sl, z_pa, z_tr, z_td, z_ha, z_cc, z_fi, z_wa, z_se, z_lo, z_im, z_ls, z_lk, z_lt, z_ly, z_ln, z_nu, z_ho, z_wk, z_wn, z_pr, z_go, z_mk, z_mf, z_mt, z_mn) => wpX_begin (fun r2 u => match u with | (y_op, y_st, y_vo, y_he, y_ns, y_nm, y_sl, y_pa, y_tr, y_td, y_ha, y_cc, y_fi, y_wa, y_se, y_lo, y_im, y_ls, y_lk, y_lt, y_ly, y_ln, y_nu, y_ho, y_wk, y_wn, y_pr, y_go, y_mk, y_mf, y_mt, y_mn) => wL_law_547 post L xs J (nI c) (nI s) (nI wo) x11 r1 r2 kc ks z_op z_st z_vo z_he z_ns z_nm z_sl z_pa z_tr z_td z_ha z_cc z_fi z_wa z_se z_lo z_im z_ls z_lk z_lt z_ly z_ln z_nu z_ho z_wk z_wn z_pr z_go z_mk z_mf z_mt z_mn y_op y_st y_vo y_he y_ns y_nm y_sl y_pa y_tr y_td y_ha y_cc y_fi y_wa y_se y_lo y_im y_ls y_lk y_lt y_ly y_ln y_nu y_ho y_wk y_wn y_pr y_go y_mk y_mf y_mt y_mn) (y_op, y_st, y_vo, y_he, y_ns, y_nm, y_sl, y_pa, y_tr, y_td, y_ha, y_cc, y_fi, y_wa, y_se, y_lo, y_im, y_ls, y_lk, y_lt, y_ly, y_ln, y_nu, y_ho, y_wk, y_wn, y_pr, y_go, y_mk, y_mf, y_mt, y_mn)) (z_op, z_st, z_vo, z_he, z_ns, z_nm, z_sl, z_pa, z_tr, z_td, z_ha, z_cc, z_fi, z_wa, z_se, z_lo, z_im, z_ls, z_lk, z_lt, z_ly, z_ln, z_nu, z_ho, z_wk, z_wn, z_pr, z_go, z_mk, z_mf, z_mt, z_mn) := by
  obtain ⟨o, h, h', w, w', nu, nu', wn, wn', cc, hv, hv', T⟩ := hT
  have et : ts_a nu 12 = x11 := (vw_tot hv).symm.trans ex
  refine sp_begin hv (fun al => ?_) (fun t ht hp hf u' hv1 => ?_)
  · refine sp_begin hv' (fun _ => ?_) (fun t ht hp hf v' hv1' => by rw [al t ht] at hf; exact absurd hf (by decide))
    have hT : tw_W c N (z_op, z_st, z_vo, z_he, z_ns, z_nm, z_sl, z_pa, z_tr, z_td, z_ha, z_cc, z_fi, z_wa, z_se, z_lo, z_im, z_ls, z_lk, z_lt, z_ly, z_ln, z_nu, z_ho, z_wk, z_wn, z_pr, z_go, z_mk, z_mf, z_mt, z_mn) (y_op, y_st, y_vo, y_he, y_ns, y_nm, y_sl, y_pa, y_tr, y_td, y_ha, y_cc, y_fi, y_wa, y_se, y_lo, y_im, y_ls, y_lk, y_lt, y_ly, y_ln, y_nu, y_ho, y_wk, y_wn, y_pr, y_go, y_mk, y_mf, y_mt, y_mn) := ⟨o, h, h', w, w', nu, nu', wn, wn', cc, hv, hv', T⟩
    exact lx_547 hc hw hT rfl (fun _ => (vw_tot hv).trans et) (HJ N _ _ _ _ _ _ _ _ _ _ _ _ _ _ _ _ _ _ _ _ _ _ _ _ _ _ _ _ _ _ _ _ _ _ _ _ _ _ _ _ _ _ _ _ _ _ _ _ _ _ _ _ _ _ _ _ _ _ _ _ _ _ _ _ (by omega) hT)
  · obtain ⟨z_op, z_st, z_vo, z_he, z_ns, z_nm, z_sl, z_pa, z_tr, z_td, z_ha, z_cc, z_fi, z_wa, z_se, z_lo, z_im, z_ls, z_lk, z_lt, z_ly, z_ln, z_nu, z_ho, z_wk, z_wn, z_pr, z_go, z_mk, z_mf, z_mt, z_mn⟩ := u'
    refine sp_begin hv' (fun al => by rw [al t ht] at hf; exact absurd hf (by decide)) (fun t2 ht2 hp2 hf2 v' hv1' => ?_)
    obtain ⟨y_op, y_st, y_vo, y_he, y_ns, y_nm, y_sl, y_pa, y_tr, y_td, y_ha, y_cc, y_fi, y_wa, y_se, y_lo, y_im, y_ls, y_lk, y_lt, y_ly, y_ln, y_nu, y_ho, y_wk, y_wn, y_pr, y_go, y_mk, y_mf, y_mt, y_mn⟩ := v'
    have et2 : t2 = t := by
      rcases Nat.lt_trichotomy t2 t with q | q | q
      · rw [hp t2 q] at hf2; exact absurd hf2 (by decide)
      · exact q
      · rw [hp2 t q] at hf; exact absurd hf (by decide)
    subst et2
    have hT : tw_W c N (z_op, z_st, z_vo, z_he, z_ns, z_nm, z_sl, z_pa, z_tr, z_td, z_ha, z_cc, z_fi, z_wa, z_se, z_lo, z_im, z_ls, z_lk, z_lt, z_ly, z_ln, z_nu, z_ho, z_wk, z_wn, z_pr, z_go, z_mk, z_mf, z_mt, z_mn) (y_op, y_st, y_vo, y_he, y_ns, y_nm, y_sl, y_pa, y_tr, y_td, y_ha, y_cc, y_fi, y_wa, y_se, y_lo, y_im, y_ls, y_lk, y_lt, y_ly, y_ln, y_nu, y_ho, y_wk, y_wn, y_pr, y_go, y_mk, y_mf, y_mt, y_mn) := ⟨_, h, h', _, _, nu, nu', wn, wn', cc, hv1, hv1', tw_begin T⟩
    exact lx_547 hc hw hT rfl (fun _ => (vw_tot hv1).trans et) (HJ N _ _ _ _ _ _ _ _ _ _ _ _ _ _ _ _ _ _ _ _ _ _ _ _ _ _ _ _ _ _ _ _ _ _ _ _ _ _ _ _ _ _ _ _ _ _ _ _ _ _ _ _ _ _ _ _ _ _ _ _ _ _ _ _ (by omega) hT)
theorem lx_get {t k : Nat} (hc : c < 12) (hw : wo < 16) (ht : t < 4) (hk : k < 12) (hT : tw_W c N (z_op, z_st, z_vo, z_he, z_ns, z_nm, z_sl, z_pa, z_tr, z_td, z_ha, z_cc, z_fi, z_wa, z_se, z_lo, z_im, z_ls, z_lk, z_lt, z_ly, z_ln, z_nu, z_ho, z_wk, z_wn, z_pr, z_go, z_mk, z_mf, z_mt, z_mn) (y_op, y_st, y_vo, y_he, y_ns, y_nm, y_sl, y_pa, y_tr, y_td, y_ha, y_cc, y_fi, y_wa, y_se, y_lo, y_im, y_ls, y_lk, y_lt, y_ly, y_ln, y_nu, y_ho, y_wk, y_wn, y_pr, y_go, y_mk, y_mf, y_mt, y_mn)) {x11 : Int32} (ex : ts_a z_nu 12 = x11) (HJ : ∀ N' (z_op z_st z_vo z_he z_ns z_nm z_sl z_pa z_tr z_td z_ha z_cc z_fi z_wa z_se z_lo : Int32) (z_im z_ls z_lk z_lt z_ly z_ln z_nu z_ho z_wk z_wn z_pr z_go z_mk z_mf z_mt z_mn : Nat → Int32) (y_op y_st y_vo y_he y_ns y_nm y_sl y_pa y_tr y_td y_ha y_cc y_fi y_wa y_se y_lo : Int32) (y_im y_ls y_lk y_lt y_ly y_ln y_nu y_ho y_wk y_wn y_pr y_go y_mk y_mf y_mt y_mn : Nat → Int32), N' ≤ N + 1 → tw_W c N' (z_op, z_st, z_vo, z_he, z_ns, z_nm, z_sl, z_pa, z_tr, z_td, z_ha, z_cc, z_fi, z_wa, z_se, z_lo, z_im, z_ls, z_lk, z_lt, z_ly, z_ln, z_nu, z_ho, z_wk, z_wn, z_pr, z_go, z_mk, z_mf, z_mt, z_mn) (y_op, y_st, y_vo, y_he, y_ns, y_nm, y_sl, y_pa, y_tr, y_td, y_ha, y_cc, y_fi, y_wa, y_se, y_lo, y_im, y_ls, y_lk, y_lt, y_ly, y_ln, y_nu, y_ho, y_wk, y_wn, y_pr, y_go, y_mk, y_mf, y_mt, y_mn) → J (nI (s + 1)) z_op z_st z_vo z_he z_ns z_nm z_sl z_pa z_tr z_td z_ha z_cc z_fi z_wa z_se z_lo z_im z_ls z_lk z_lt z_ly z_ln z_nu z_ho z_wk z_wn z_pr z_go z_mk z_mf z_mt z_mn y_op y_st y_vo y_he y_ns y_nm y_sl y_pa y_tr y_td y_ha y_cc y_fi y_wa y_se y_lo y_im y_ls y_lk y_lt y_ly y_ln y_nu y_ho y_wk y_wn y_pr y_go y_mk y_mf y_mt y_mn) :
    wpX_get (fun r1 u => match u with | (z_op, z_st, z_vo, z_he, z_ns, z_nm, z_sl, z_pa, z_tr, z_td, z_ha, z_cc, z_fi, z_wa, z_se, z_lo, z_im, z_ls, z_lk, z_lt, z_ly, z_ln, z_nu, z_ho, z_wk, z_wn, z_pr, z_go, z_mk, z_mf, z_mt, z_mn) => wpL_turned (fun r1 => wpX_get (fun r2 u => match u with | (y_op, y_st, y_vo, y_he, y_ns, y_nm, y_sl, y_pa, y_tr, y_td, y_ha, y_cc, y_fi, y_wa, y_se, y_lo, y_im, y_ls, y_lk, y_lt, y_ly, y_ln, y_nu, y_ho, y_wk, y_wn, y_pr, y_go, y_mk, y_mf, y_mt, y_mn) => wL_law_547 post L xs J (nI c) (nI s) (nI wo) x11 r1 r2 kc ks z_op z_st z_vo z_he z_ns z_nm z_sl z_pa z_tr z_td z_ha z_cc z_fi z_wa z_se z_lo z_im z_ls z_lk z_lt z_ly z_ln z_nu z_ho z_wk z_wn z_pr z_go z_mk z_mf z_mt z_mn y_op y_st y_vo y_he y_ns y_nm y_sl y_pa y_tr y_td y_ha y_cc y_fi y_wa y_se y_lo y_im y_ls y_lk y_lt y_ly y_ln y_nu y_ho y_wk y_wn y_pr y_go y_mk y_mf y_mt y_mn) (y_op, y_st, y_vo, y_he, y_ns, y_nm, y_sl, y_pa, y_tr, y_td, y_ha, y_cc, y_fi, y_wa, y_se, y_lo, y_im, y_ls, y_lk, y_lt, y_ly, y_ln, y_nu, y_ho, y_wk, y_wn, y_pr, y_go, y_mk, y_mf, y_mt, y_mn) (nI t) (nI (rt_k c k))) () r1) (z_op, z_st, z_vo, z_he, z_ns, z_nm, z_sl, z_pa, z_tr, z_td, z_ha, z_cc, z_fi, z_wa, z_se, z_lo, z_im, z_ls, z_lk, z_lt, z_ly, z_ln, z_nu, z_ho, z_wk, z_wn, z_pr, z_go, z_mk, z_mf, z_mt, z_mn) (nI t) (nI k) := by
  obtain ⟨o, h, h', w, w', nu, nu', wn, wn', cc, hv, hv', T⟩ := hT
  have et : ts_a nu 12 = x11 := (vw_tot hv).symm.trans ex
  have hT : tw_W c N (z_op, z_st, z_vo, z_he, z_ns, z_nm, z_sl, z_pa, z_tr, z_td, z_ha, z_cc, z_fi, z_wa, z_se, z_lo, z_im, z_ls, z_lk, z_lt, z_ly, z_ln, z_nu, z_ho, z_wk, z_wn, z_pr, z_go, z_mk, z_mf, z_mt, z_mn) (y_op, y_st, y_vo, y_he, y_ns, y_nm, y_sl, y_pa, y_tr, y_td, y_ha, y_cc, y_fi, y_wa, y_se, y_lo, y_im, y_ls, y_lk, y_lt, y_ly, y_ln, y_nu, y_ho, y_wk, y_wn, y_pr, y_go, y_mk, y_mf, y_mt, y_mn) := ⟨o, h, h', w, w', nu, nu', wn, wn', cc, hv, hv', T⟩
  have eh := T.1 k hk
  refine sp_get ht hk hv (fun eo => ?_) (fun eo ef => ?_) (fun eo ef u' hv1 => ?_)
  · refine ml_turnN ng_bad ?_
    refine sp_get ht (rt_lt c k) hv' (fun _ => ?_) (fun eo' => by rw [eo] at eo'; exact absurd eo' (by decide)) (fun eo' => by rw [eo] at eo'; exact absurd eo' (by decide))
    exact lx_547 hc hw hT rfl (fun _ => (vw_tot hv).trans et) (HJ N _ _ _ _ _ _ _ _ _ _ _ _ _ _ _ _ _ _ _ _ _ _ _ _ _ _ _ _ _ _ _ _ _ _ _ _ _ _ _ _ _ _ _ _ _ _ _ _ _ _ _ _ _ _ _ _ _ _ _ _ _ _ _ _ (by omega) hT)
  · refine ml_turnN ng_busy ?_
    refine sp_get ht (rt_lt c k) hv' (fun eo' => by rw [eo] at eo'; exact absurd eo' (by decide)) (fun _ _ => ?_) (fun _ ef' => by rw [eh] at ef'; exact absurd ef' ef)
    exact lx_547 hc hw hT rfl (fun _ => (vw_tot hv).trans et) (HJ N _ _ _ _ _ _ _ _ _ _ _ _ _ _ _ _ _ _ _ _ _ _ _ _ _ _ _ _ _ _ _ _ _ _ _ _ _ _ _ _ _ _ _ _ _ _ _ _ _ _ _ _ _ _ _ _ _ _ _ _ _ _ _ _ (by omega) hT)
  · obtain ⟨z_op, z_st, z_vo, z_he, z_ns, z_nm, z_sl, z_pa, z_tr, z_td, z_ha, z_cc, z_fi, z_wa, z_se, z_lo, z_im, z_ls, z_lk, z_lt, z_ly, z_ln, z_nu, z_ho, z_wk, z_wn, z_pr, z_go, z_mk, z_mf, z_mt, z_mn⟩ := u'
    refine ml_turn (sv_rg ht hk (vw_rg hv)) ?_
    refine sp_get ht (rt_lt c k) hv' (fun eo' => by rw [eo] at eo'; exact absurd eo' (by decide)) (fun _ ef' => by rw [eh] at ef'; exact absurd ef ef') (fun _ _ v' hv1' => ?_)
    obtain ⟨y_op, y_st, y_vo, y_he, y_ns, y_nm, y_sl, y_pa, y_tr, y_td, y_ha, y_cc, y_fi, y_wa, y_se, y_lo, y_im, y_ls, y_lk, y_lt, y_ly, y_ln, y_nu, y_ho, y_wk, y_wn, y_pr, y_go, y_mk, y_mf, y_mt, y_mn⟩ := v'
    have hT : tw_W c N (z_op, z_st, z_vo, z_he, z_ns, z_nm, z_sl, z_pa, z_tr, z_td, z_ha, z_cc, z_fi, z_wa, z_se, z_lo, z_im, z_ls, z_lk, z_lt, z_ly, z_ln, z_nu, z_ho, z_wk, z_wn, z_pr, z_go, z_mk, z_mf, z_mt, z_mn) (y_op, y_st, y_vo, y_he, y_ns, y_nm, y_sl, y_pa, y_tr, y_td, y_ha, y_cc, y_fi, y_wa, y_se, y_lo, y_im, y_ls, y_lk, y_lt, y_ly, y_ln, y_nu, y_ho, y_wk, y_wn, y_pr, y_go, y_mk, y_mf, y_mt, y_mn) := ⟨o, _, _, w, w', nu, nu', wn, wn', cc, hv1, hv1', tw_get hk T⟩
    exact lx_547 hc hw hT (tw_sv ht eo hk T).symm (fun _ => (vw_tot hv1).trans et) (HJ N _ _ _ _ _ _ _ _ _ _ _ _ _ _ _ _ _ _ _ _ _ _ _ _ _ _ _ _ _ _ _ _ _ _ _ _ _ _ _ _ _ _ _ _ _ _ _ _ _ _ _ _ _ _ _ _ _ _ _ _ _ _ _ _ (by omega) hT)
theorem lx_put {t k : Nat} {v : Int32} (hc : c < 12) (hw : wo < 16) (ht : t < 4) (hk : k < 12) (hr : rg_ok v) (hT : tw_W c N (z_op, z_st, z_vo, z_he, z_ns, z_nm, z_sl, z_pa, z_tr, z_td, z_ha, z_cc, z_fi, z_wa, z_se, z_lo, z_im, z_ls, z_lk, z_lt, z_ly, z_ln, z_nu, z_ho, z_wk, z_wn, z_pr, z_go, z_mk, z_mf, z_mt, z_mn) (y_op, y_st, y_vo, y_he, y_ns, y_nm, y_sl, y_pa, y_tr, y_td, y_ha, y_cc, y_fi, y_wa, y_se, y_lo, y_im, y_ls, y_lk, y_lt, y_ly, y_ln, y_nu, y_ho, y_wk, y_wn, y_pr, y_go, y_mk, y_mf, y_mt, y_mn)) {x11 : Int32} (ex : ts_a z_nu 12 = x11) (HJ : ∀ N' (z_op z_st z_vo z_he z_ns z_nm z_sl z_pa z_tr z_td z_ha z_cc z_fi z_wa z_se z_lo : Int32) (z_im z_ls z_lk z_lt z_ly z_ln z_nu z_ho z_wk z_wn z_pr z_go z_mk z_mf z_mt z_mn : Nat → Int32) (y_op y_st y_vo y_he y_ns y_nm y_sl y_pa y_tr y_td y_ha y_cc y_fi y_wa y_se y_lo : Int32) (y_im y_ls y_lk y_lt y_ly y_ln y_nu y_ho y_wk y_wn y_pr y_go y_mk y_mf y_mt y_mn : Nat → Int32), N' ≤ N + 1 → tw_W c N' (z_op, z_st, z_vo, z_he, z_ns, z_nm, z_sl, z_pa, z_tr, z_td, z_ha, z_cc, z_fi, z_wa, z_se, z_lo, z_im, z_ls, z_lk, z_lt, z_ly, z_ln, z_nu, z_ho, z_wk, z_wn, z_pr, z_go, z_mk, z_mf, z_mt, z_mn) (y_op, y_st, y_vo, y_he, y_ns, y_nm, y_sl, y_pa, y_tr, y_td, y_ha, y_cc, y_fi, y_wa, y_se, y_lo, y_im, y_ls, y_lk, y_lt, y_ly, y_ln, y_nu, y_ho, y_wk, y_wn, y_pr, y_go, y_mk, y_mf, y_mt, y_mn) → J (nI (s + 1)) z_op z_st z_vo z_he z_ns z_nm z_sl z_pa z_tr z_td z_ha z_cc z_fi z_wa z_se z_lo z_im z_ls z_lk z_lt z_ly z_ln z_nu z_ho z_wk z_wn z_pr z_go z_mk z_mf z_mt z_mn y_op y_st y_vo y_he y_ns y_nm y_sl y_pa y_tr y_td y_ha y_cc y_fi y_wa y_se y_lo y_im y_ls y_lk y_lt y_ly y_ln y_nu y_ho y_wk y_wn y_pr y_go y_mk y_mf y_mt y_mn) :
    wpX_put (fun r1 u => match u with | (z_op, z_st, z_vo, z_he, z_ns, z_nm, z_sl, z_pa, z_tr, z_td, z_ha, z_cc, z_fi, z_wa, z_se, z_lo, z_im, z_ls, z_lk, z_lt, z_ly, z_ln, z_nu, z_ho, z_wk, z_wn, z_pr, z_go, z_mk, z_mf, z_mt, z_mn) => wpL_turned (fun r1 => wpX_put (fun r2 u => match u with | (y_op, y_st, y_vo, y_he, y_ns, y_nm, y_sl, y_pa, y_tr, y_td, y_ha, y_cc, y_fi, y_wa, y_se, y_lo, y_im, y_ls, y_lk, y_lt, y_ly, y_ln, y_nu, y_ho, y_wk, y_wn, y_pr, y_go, y_mk, y_mf, y_mt, y_mn) => wL_law_547 post L xs J (nI c) (nI s) (nI wo) x11 r1 r2 kc ks z_op z_st z_vo z_he z_ns z_nm z_sl z_pa z_tr z_td z_ha z_cc z_fi z_wa z_se z_lo z_im z_ls z_lk z_lt z_ly z_ln z_nu z_ho z_wk z_wn z_pr z_go z_mk z_mf z_mt z_mn y_op y_st y_vo y_he y_ns y_nm y_sl y_pa y_tr y_td y_ha y_cc y_fi y_wa y_se y_lo y_im y_ls y_lk y_lt y_ly y_ln y_nu y_ho y_wk y_wn y_pr y_go y_mk y_mf y_mt y_mn) (y_op, y_st, y_vo, y_he, y_ns, y_nm, y_sl, y_pa, y_tr, y_td, y_ha, y_cc, y_fi, y_wa, y_se, y_lo, y_im, y_ls, y_lk, y_lt, y_ly, y_ln, y_nu, y_ho, y_wk, y_wn, y_pr, y_go, y_mk, y_mf, y_mt, y_mn) (nI t) (nI (rt_k c k)) (-v)) () r1) (z_op, z_st, z_vo, z_he, z_ns, z_nm, z_sl, z_pa, z_tr, z_td, z_ha, z_cc, z_fi, z_wa, z_se, z_lo, z_im, z_ls, z_lk, z_lt, z_ly, z_ln, z_nu, z_ho, z_wk, z_wn, z_pr, z_go, z_mk, z_mf, z_mt, z_mn) (nI t) (nI k) v := by
  obtain ⟨o, h, h', w, w', nu, nu', wn, wn', cc, hv, hv', T⟩ := hT
  have et : ts_a nu 12 = x11 := (vw_tot hv).symm.trans ex
  have hT : tw_W c N (z_op, z_st, z_vo, z_he, z_ns, z_nm, z_sl, z_pa, z_tr, z_td, z_ha, z_cc, z_fi, z_wa, z_se, z_lo, z_im, z_ls, z_lk, z_lt, z_ly, z_ln, z_nu, z_ho, z_wk, z_wn, z_pr, z_go, z_mk, z_mf, z_mt, z_mn) (y_op, y_st, y_vo, y_he, y_ns, y_nm, y_sl, y_pa, y_tr, y_td, y_ha, y_cc, y_fi, y_wa, y_se, y_lo, y_im, y_ls, y_lk, y_lt, y_ly, y_ln, y_nu, y_ho, y_wk, y_wn, y_pr, y_go, y_mk, y_mf, y_mt, y_mn) := ⟨o, h, h', w, w', nu, nu', wn, wn', cc, hv, hv', T⟩
  have eh := T.1 k hk
  have hr' : rg_ok (-v) := (rg_neg v).mpr hr
  refine sp_put ht hk hr hv (fun eo => ?_) (fun eo ef => ?_) (fun eo ef u' hv1 => ?_)
  · refine ml_turnN ng_bad ?_
    refine sp_put ht (rt_lt c k) hr' hv' (fun _ => ?_) (fun eo' => by rw [eo] at eo'; exact absurd eo' (by decide)) (fun eo' => by rw [eo] at eo'; exact absurd eo' (by decide))
    exact lx_547 hc hw hT rfl (fun _ => (vw_tot hv).trans et) (HJ N _ _ _ _ _ _ _ _ _ _ _ _ _ _ _ _ _ _ _ _ _ _ _ _ _ _ _ _ _ _ _ _ _ _ _ _ _ _ _ _ _ _ _ _ _ _ _ _ _ _ _ _ _ _ _ _ _ _ _ _ _ _ _ _ (by omega) hT)
  · refine ml_turnN ng_busy ?_
    refine sp_put ht (rt_lt c k) hr' hv' (fun eo' => by rw [eo] at eo'; exact absurd eo' (by decide)) (fun _ _ => ?_) (fun _ ef' => by rw [eh] at ef'; exact absurd ef' ef)
    exact lx_547 hc hw hT rfl (fun _ => (vw_tot hv).trans et) (HJ N _ _ _ _ _ _ _ _ _ _ _ _ _ _ _ _ _ _ _ _ _ _ _ _ _ _ _ _ _ _ _ _ _ _ _ _ _ _ _ _ _ _ _ _ _ _ _ _ _ _ _ _ _ _ _ _ _ _ _ _ _ _ _ _ (by omega) hT)
  · obtain ⟨z_op, z_st, z_vo, z_he, z_ns, z_nm, z_sl, z_pa, z_tr, z_td, z_ha, z_cc, z_fi, z_wa, z_se, z_lo, z_im, z_ls, z_lk, z_lt, z_ly, z_ln, z_nu, z_ho, z_wk, z_wn, z_pr, z_go, z_mk, z_mf, z_mt, z_mn⟩ := u'
    refine ml_turn (sv_rg ht hk (vw_rg hv)) ?_
    refine sp_put ht (rt_lt c k) hr' hv' (fun eo' => by rw [eo] at eo'; exact absurd eo' (by decide)) (fun _ ef' => by rw [eh] at ef'; exact absurd ef ef') (fun _ _ v' hv1' => ?_)
    obtain ⟨y_op, y_st, y_vo, y_he, y_ns, y_nm, y_sl, y_pa, y_tr, y_td, y_ha, y_cc, y_fi, y_wa, y_se, y_lo, y_im, y_ls, y_lk, y_lt, y_ly, y_ln, y_nu, y_ho, y_wk, y_wn, y_pr, y_go, y_mk, y_mf, y_mt, y_mn⟩ := v'
    have hT : tw_W c N (z_op, z_st, z_vo, z_he, z_ns, z_nm, z_sl, z_pa, z_tr, z_td, z_ha, z_cc, z_fi, z_wa, z_se, z_lo, z_im, z_ls, z_lk, z_lt, z_ly, z_ln, z_nu, z_ho, z_wk, z_wn, z_pr, z_go, z_mk, z_mf, z_mt, z_mn) (y_op, y_st, y_vo, y_he, y_ns, y_nm, y_sl, y_pa, y_tr, y_td, y_ha, y_cc, y_fi, y_wa, y_se, y_lo, y_im, y_ls, y_lk, y_lt, y_ly, y_ln, y_nu, y_ho, y_wk, y_wn, y_pr, y_go, y_mk, y_mf, y_mt, y_mn) := ⟨o, _, _, _, _, nu, nu', _, _, cc, hv1, hv1', tw_put hk T⟩
    exact lx_547 hc hw hT (tw_sv ht eo hk T).symm (fun _ => (vw_tot hv1).trans et) (HJ N _ _ _ _ _ _ _ _ _ _ _ _ _ _ _ _ _ _ _ _ _ _ _ _ _ _ _ _ _ _ _ _ _ _ _ _ _ _ _ _ _ _ _ _ _ _ _ _ _ _ _ _ _ _ _ _ _ _ _ _ _ _ _ _ (by omega) hT)
theorem lx_abort {t : Nat} (hc : c < 12) (hw : wo < 16) (h10 : 10 ≤ wo) (ht : t < 4) (hT : tw_W c N (z_op, z_st, z_vo, z_he, z_ns, z_nm, z_sl, z_pa, z_tr, z_td, z_ha, z_cc, z_fi, z_wa, z_se, z_lo, z_im, z_ls, z_lk, z_lt, z_ly, z_ln, z_nu, z_ho, z_wk, z_wn, z_pr, z_go, z_mk, z_mf, z_mt, z_mn) (y_op, y_st, y_vo, y_he, y_ns, y_nm, y_sl, y_pa, y_tr, y_td, y_ha, y_cc, y_fi, y_wa, y_se, y_lo, y_im, y_ls, y_lk, y_lt, y_ly, y_ln, y_nu, y_ho, y_wk, y_wn, y_pr, y_go, y_mk, y_mf, y_mt, y_mn)) {x11 : Int32} (HJ : ∀ N' (z_op z_st z_vo z_he z_ns z_nm z_sl z_pa z_tr z_td z_ha z_cc z_fi z_wa z_se z_lo : Int32) (z_im z_ls z_lk z_lt z_ly z_ln z_nu z_ho z_wk z_wn z_pr z_go z_mk z_mf z_mt z_mn : Nat → Int32) (y_op y_st y_vo y_he y_ns y_nm y_sl y_pa y_tr y_td y_ha y_cc y_fi y_wa y_se y_lo : Int32) (y_im y_ls y_lk y_lt y_ly y_ln y_nu y_ho y_wk y_wn y_pr y_go y_mk y_mf y_mt y_mn : Nat → Int32), N' ≤ N + 1 → tw_W c N' (z_op, z_st, z_vo, z_he, z_ns, z_nm, z_sl, z_pa, z_tr, z_td, z_ha, z_cc, z_fi, z_wa, z_se, z_lo, z_im, z_ls, z_lk, z_lt, z_ly, z_ln, z_nu, z_ho, z_wk, z_wn, z_pr, z_go, z_mk, z_mf, z_mt, z_mn) (y_op, y_st, y_vo, y_he, y_ns, y_nm, y_sl, y_pa, y_tr, y_td, y_ha, y_cc, y_fi, y_wa, y_se, y_lo, y_im, y_ls, y_lk, y_lt, y_ly, y_ln, y_nu, y_ho, y_wk, y_wn, y_pr, y_go, y_mk, y_mf, y_mt, y_mn) → J (nI (s + 1)) z_op z_st z_vo z_he z_ns z_nm z_sl z_pa z_tr z_td z_ha z_cc z_fi z_wa z_se z_lo z_im z_ls z_lk z_lt z_ly z_ln z_nu z_ho z_wk z_wn z_pr z_go z_mk z_mf z_mt z_mn y_op y_st y_vo y_he y_ns y_nm y_sl y_pa y_tr y_td y_ha y_cc y_fi y_wa y_se y_lo y_im y_ls y_lk y_lt y_ly y_ln y_nu y_ho y_wk y_wn y_pr y_go y_mk y_mf y_mt y_mn) :
    wpX_abort (fun r1 u => match u with | (z_op, z_st, z_vo, z_he, z_ns, z_nm, z_sl, z_pa, z_tr, z_td, z_ha, z_cc, z_fi, z_wa, z_se, z_lo, z_im, z_ls, z_lk, z_lt, z_ly, z_ln, z_nu, z_ho, z_wk, z_wn, z_pr, z_go, z_mk, z_mf, z_mt, z_mn) => wpX_abort (fun r2 u => match u with | (y_op, y_st, y_vo, y_he, y_ns, y_nm, y_sl, y_pa, y_tr, y_td, y_ha, y_cc, y_fi, y_wa, y_se, y_lo, y_im, y_ls, y_lk, y_lt, y_ly, y_ln, y_nu, y_ho, y_wk, y_wn, y_pr, y_go, y_mk, y_mf, y_mt, y_mn) => wL_law_547 post L xs J (nI c) (nI s) (nI wo) x11 r1 r2 kc ks z_op z_st z_vo z_he z_ns z_nm z_sl z_pa z_tr z_td z_ha z_cc z_fi z_wa z_se z_lo z_im z_ls z_lk z_lt z_ly z_ln z_nu z_ho z_wk z_wn z_pr z_go z_mk z_mf z_mt z_mn y_op y_st y_vo y_he y_ns y_nm y_sl y_pa y_tr y_td y_ha y_cc y_fi y_wa y_se y_lo y_im y_ls y_lk y_lt y_ly y_ln y_nu y_ho y_wk y_wn y_pr y_go y_mk y_mf y_mt y_mn) (y_op, y_st, y_vo, y_he, y_ns, y_nm, y_sl, y_pa, y_tr, y_td, y_ha, y_cc, y_fi, y_wa, y_se, y_lo, y_im, y_ls, y_lk, y_lt, y_ly, y_ln, y_nu, y_ho, y_wk, y_wn, y_pr, y_go, y_mk, y_mf, y_mt, y_mn) (nI t)) (z_op, z_st, z_vo, z_he, z_ns, z_nm, z_sl, z_pa, z_tr, z_td, z_ha, z_cc, z_fi, z_wa, z_se, z_lo, z_im, z_ls, z_lk, z_lt, z_ly, z_ln, z_nu, z_ho, z_wk, z_wn, z_pr, z_go, z_mk, z_mf, z_mt, z_mn) (nI t) := by
  obtain ⟨o, h, h', w, w', nu, nu', wn, wn', cc, hv, hv', T⟩ := hT
  have hT : tw_W c N (z_op, z_st, z_vo, z_he, z_ns, z_nm, z_sl, z_pa, z_tr, z_td, z_ha, z_cc, z_fi, z_wa, z_se, z_lo, z_im, z_ls, z_lk, z_lt, z_ly, z_ln, z_nu, z_ho, z_wk, z_wn, z_pr, z_go, z_mk, z_mf, z_mt, z_mn) (y_op, y_st, y_vo, y_he, y_ns, y_nm, y_sl, y_pa, y_tr, y_td, y_ha, y_cc, y_fi, y_wa, y_se, y_lo, y_im, y_ls, y_lk, y_lt, y_ly, y_ln, y_nu, y_ho, y_wk, y_wn, y_pr, y_go, y_mk, y_mf, y_mt, y_mn) := ⟨o, h, h', w, w', nu, nu', wn, wn', cc, hv, hv', T⟩
  refine sp_abort ht hv (fun eo => ?_) (fun eo u' w1 hw1 hv1 => ?_)
  · refine sp_abort ht hv' (fun _ => ?_) (fun eo' => by rw [eo] at eo'; exact absurd eo' (by decide))
    exact lx_547 hc hw hT rfl (fun z => absurd z (by omega)) (HJ N _ _ _ _ _ _ _ _ _ _ _ _ _ _ _ _ _ _ _ _ _ _ _ _ _ _ _ _ _ _ _ _ _ _ _ _ _ _ _ _ _ _ _ _ _ _ _ _ _ _ _ _ _ _ _ _ _ _ _ _ _ _ _ _ (by omega) hT)
  · obtain ⟨z_op, z_st, z_vo, z_he, z_ns, z_nm, z_sl, z_pa, z_tr, z_td, z_ha, z_cc, z_fi, z_wa, z_se, z_lo, z_im, z_ls, z_lk, z_lt, z_ly, z_ln, z_nu, z_ho, z_wk, z_wn, z_pr, z_go, z_mk, z_mf, z_mt, z_mn⟩ := u'
    refine sp_abort ht hv' (fun eo' => by rw [eo] at eo'; exact absurd eo' (by decide)) (fun _ v' w1' hw1' hv1' => ?_)
    obtain ⟨y_op, y_st, y_vo, y_he, y_ns, y_nm, y_sl, y_pa, y_tr, y_td, y_ha, y_cc, y_fi, y_wa, y_se, y_lo, y_im, y_ls, y_lk, y_lt, y_ly, y_ln, y_nu, y_ho, y_wk, y_wn, y_pr, y_go, y_mk, y_mf, y_mt, y_mn⟩ := v'
    have kk : ∀ K : Nat → Bool, ∀ t', ko_K o K t' = true → K t' = false := fun K t' z => by
      unfold ko_K at z
      rw [Bool.and_eq_true] at z
      simpa using z.2
    have hT : tw_W c N (z_op, z_st, z_vo, z_he, z_ns, z_nm, z_sl, z_pa, z_tr, z_td, z_ha, z_cc, z_fi, z_wa, z_se, z_lo, z_im, z_ls, z_lk, z_lt, z_ly, z_ln, z_nu, z_ho, z_wk, z_wn, z_pr, z_go, z_mk, z_mf, z_mt, z_mn) (y_op, y_st, y_vo, y_he, y_ns, y_nm, y_sl, y_pa, y_tr, y_td, y_ha, y_cc, y_fi, y_wa, y_se, y_lo, y_im, y_ls, y_lk, y_lt, y_ly, y_ln, y_nu, y_ho, y_wk, y_wn, y_pr, y_go, y_mk, y_mf, y_mt, y_mn) := ⟨_, _, _, _, _, nu, nu', _, _, cc, hv1, hv1', tw_kill (fun t' ht' z k hk => hw1 t' ht' (kk _ t' z) k hk) (fun t' ht' z k hk => hw1' t' ht' (kk _ t' z) k hk) T⟩
    exact lx_547 hc hw hT (by rw [cn_rot hc T.1]) (fun z => absurd z (by omega)) (HJ N _ _ _ _ _ _ _ _ _ _ _ _ _ _ _ _ _ _ _ _ _ _ _ _ _ _ _ _ _ _ _ _ _ _ _ _ _ _ _ _ _ _ _ _ _ _ _ _ _ _ _ _ _ _ _ _ _ _ _ _ _ _ _ _ (by omega) hT)
theorem lx_crash {m : Nat} (hc : c < 12) (hw : wo < 16) (h10 : 10 ≤ wo) (hm : m < 4) (hT : tw_W c N (z_op, z_st, z_vo, z_he, z_ns, z_nm, z_sl, z_pa, z_tr, z_td, z_ha, z_cc, z_fi, z_wa, z_se, z_lo, z_im, z_ls, z_lk, z_lt, z_ly, z_ln, z_nu, z_ho, z_wk, z_wn, z_pr, z_go, z_mk, z_mf, z_mt, z_mn) (y_op, y_st, y_vo, y_he, y_ns, y_nm, y_sl, y_pa, y_tr, y_td, y_ha, y_cc, y_fi, y_wa, y_se, y_lo, y_im, y_ls, y_lk, y_lt, y_ly, y_ln, y_nu, y_ho, y_wk, y_wn, y_pr, y_go, y_mk, y_mf, y_mt, y_mn)) {x11 : Int32} (HJ : ∀ N' (z_op z_st z_vo z_he z_ns z_nm z_sl z_pa z_tr z_td z_ha z_cc z_fi z_wa z_se z_lo : Int32) (z_im z_ls z_lk z_lt z_ly z_ln z_nu z_ho z_wk z_wn z_pr z_go z_mk z_mf z_mt z_mn : Nat → Int32) (y_op y_st y_vo y_he y_ns y_nm y_sl y_pa y_tr y_td y_ha y_cc y_fi y_wa y_se y_lo : Int32) (y_im y_ls y_lk y_lt y_ly y_ln y_nu y_ho y_wk y_wn y_pr y_go y_mk y_mf y_mt y_mn : Nat → Int32), N' ≤ N + 1 → tw_W c N' (z_op, z_st, z_vo, z_he, z_ns, z_nm, z_sl, z_pa, z_tr, z_td, z_ha, z_cc, z_fi, z_wa, z_se, z_lo, z_im, z_ls, z_lk, z_lt, z_ly, z_ln, z_nu, z_ho, z_wk, z_wn, z_pr, z_go, z_mk, z_mf, z_mt, z_mn) (y_op, y_st, y_vo, y_he, y_ns, y_nm, y_sl, y_pa, y_tr, y_td, y_ha, y_cc, y_fi, y_wa, y_se, y_lo, y_im, y_ls, y_lk, y_lt, y_ly, y_ln, y_nu, y_ho, y_wk, y_wn, y_pr, y_go, y_mk, y_mf, y_mt, y_mn) → J (nI (s + 1)) z_op z_st z_vo z_he z_ns z_nm z_sl z_pa z_tr z_td z_ha z_cc z_fi z_wa z_se z_lo z_im z_ls z_lk z_lt z_ly z_ln z_nu z_ho z_wk z_wn z_pr z_go z_mk z_mf z_mt z_mn y_op y_st y_vo y_he y_ns y_nm y_sl y_pa y_tr y_td y_ha y_cc y_fi y_wa y_se y_lo y_im y_ls y_lk y_lt y_ly y_ln y_nu y_ho y_wk y_wn y_pr y_go y_mk y_mf y_mt y_mn) :
    wpX_crash (fun r1 u => match u with | (z_op, z_st, z_vo, z_he, z_ns, z_nm, z_sl, z_pa, z_tr, z_td, z_ha, z_cc, z_fi, z_wa, z_se, z_lo, z_im, z_ls, z_lk, z_lt, z_ly, z_ln, z_nu, z_ho, z_wk, z_wn, z_pr, z_go, z_mk, z_mf, z_mt, z_mn) => ((nI m = 3 → wL_law_542 post L xs J (nI c) (nI s) (nI wo) x11 r1 3 kc ks z_op z_st z_vo z_he z_ns z_nm z_sl z_pa z_tr z_td z_ha z_cc z_fi z_wa z_se z_lo z_im z_ls z_lk z_lt z_ly z_ln z_nu z_ho z_wk z_wn z_pr z_go z_mk z_mf z_mt z_mn y_op y_st y_vo y_he y_ns y_nm y_sl y_pa y_tr y_td y_ha y_cc y_fi y_wa y_se y_lo y_im y_ls y_lk y_lt y_ly y_ln y_nu y_ho y_wk y_wn y_pr y_go y_mk y_mf y_mt y_mn) ∧ (¬ nI m = 3 → ¬ (3 : Int32) = 0 ∧ wL_law_542 post L xs J (nI c) (nI s) (nI wo) x11 r1 ((nI m + nI c) - (nI m + nI c) / 3 * 3) kc ks z_op z_st z_vo z_he z_ns z_nm z_sl z_pa z_tr z_td z_ha z_cc z_fi z_wa z_se z_lo z_im z_ls z_lk z_lt z_ly z_ln z_nu z_ho z_wk z_wn z_pr z_go z_mk z_mf z_mt z_mn y_op y_st y_vo y_he y_ns y_nm y_sl y_pa y_tr y_td y_ha y_cc y_fi y_wa y_se y_lo y_im y_ls y_lk y_lt y_ly y_ln y_nu y_ho y_wk y_wn y_pr y_go y_mk y_mf y_mt y_mn))) (z_op, z_st, z_vo, z_he, z_ns, z_nm, z_sl, z_pa, z_tr, z_td, z_ha, z_cc, z_fi, z_wa, z_se, z_lo, z_im, z_ls, z_lk, z_lt, z_ly, z_ln, z_nu, z_ho, z_wk, z_wn, z_pr, z_go, z_mk, z_mf, z_mt, z_mn) (nI m) := by
  obtain ⟨o, h, h', w, w', nu, nu', wn, wn', cc, hv, hv', T⟩ := hT
  have kk : ∀ K : Nat → Bool, ∀ t', ko_K o K t' = true → K t' = false := fun K t' z => by
    unfold ko_K at z
    rw [Bool.and_eq_true] at z
    simpa using z.2
  by_cases e3 : m = 3
  · subst e3
    refine sp_leader hv (fun u' w1 hw1 hv1 => ?_)
    obtain ⟨z_op, z_st, z_vo, z_he, z_ns, z_nm, z_sl, z_pa, z_tr, z_td, z_ha, z_cc, z_fi, z_wa, z_se, z_lo, z_im, z_ls, z_lk, z_lt, z_ly, z_ln, z_nu, z_ho, z_wk, z_wn, z_pr, z_go, z_mk, z_mf, z_mt, z_mn⟩ := u'
    refine br_t rfl ?_
    refine sp_leader hv' (fun v' w1' hw1' hv1' => ?_)
    obtain ⟨y_op, y_st, y_vo, y_he, y_ns, y_nm, y_sl, y_pa, y_tr, y_td, y_ha, y_cc, y_fi, y_wa, y_se, y_lo, y_im, y_ls, y_lk, y_lt, y_ly, y_ln, y_nu, y_ho, y_wk, y_wn, y_pr, y_go, y_mk, y_mf, y_mt, y_mn⟩ := v'
    have hT : tw_W c N (z_op, z_st, z_vo, z_he, z_ns, z_nm, z_sl, z_pa, z_tr, z_td, z_ha, z_cc, z_fi, z_wa, z_se, z_lo, z_im, z_ls, z_lk, z_lt, z_ly, z_ln, z_nu, z_ho, z_wk, z_wn, z_pr, z_go, z_mk, z_mf, z_mt, z_mn) (y_op, y_st, y_vo, y_he, y_ns, y_nm, y_sl, y_pa, y_tr, y_td, y_ha, y_cc, y_fi, y_wa, y_se, y_lo, y_im, y_ls, y_lk, y_lt, y_ly, y_ln, y_nu, y_ho, y_wk, y_wn, y_pr, y_go, y_mk, y_mf, y_mt, y_mn) := ⟨_, _, _, _, _, nu, nu', _, _, cc, hv1, hv1', tw_kill (fun t' ht' z k hk => hw1 t' ht' (kk _ t' z) k hk) (fun t' ht' z k hk => hw1' t' ht' (kk _ t' z) k hk) T⟩
    exact lx_547 hc hw hT rfl (fun z => absurd z (by omega)) (HJ N _ _ _ _ _ _ _ _ _ _ _ _ _ _ _ _ _ _ _ _ _ _ _ _ _ _ _ _ _ _ _ _ _ _ _ _ _ _ _ _ _ _ _ _ _ _ _ _ _ _ _ _ _ _ _ _ _ _ _ _ _ _ _ _ (by omega) hT)
  · have m3 : m < 3 := by omega
    refine sp_crash m3 hv (fun u' w1 hw1 hv1 => ?_)
    obtain ⟨z_op, z_st, z_vo, z_he, z_ns, z_nm, z_sl, z_pa, z_tr, z_td, z_ha, z_cc, z_fi, z_wa, z_se, z_lo, z_im, z_ls, z_lk, z_lt, z_ly, z_ln, z_nu, z_ho, z_wk, z_wn, z_pr, z_go, z_mk, z_mf, z_mt, z_mn⟩ := u'
    refine br_f (by show ¬ nI m = nI 3; rw [nI_eq (by omega) (by omega)]; exact e3) ⟨by decide, ?_⟩
    have em : nI m + nI c - (nI m + nI c) / 3 * 3 = nI ((m + c) % 3) := by
      rw [nI_add, show (3 : Int32) = nI 3 from rfl, pk_rem (by omega) (by omega) (by omega)]
    rw [em]
    refine sp_crash (show (m + c) % 3 < 3 by omega) hv' (fun v' w1' hw1' hv1' => ?_)
    obtain ⟨y_op, y_st, y_vo, y_he, y_ns, y_nm, y_sl, y_pa, y_tr, y_td, y_ha, y_cc, y_fi, y_wa, y_se, y_lo, y_im, y_ls, y_lk, y_lt, y_ly, y_ln, y_nu, y_ho, y_wk, y_wn, y_pr, y_go, y_mk, y_mf, y_mt, y_mn⟩ := v'
    have hK : ∀ t, t < 4 → kd_K h' ((m + c) % 3) t = kd_K h m t := fun t _ => by
      unfold kd_K
      rw [hs_rot hc m3 T.1]
    have hv2' := vw_cong (ko_cong hK) (kh_cong hK (vw_h5 hv')) hv1'
    have hT : tw_W c N (z_op, z_st, z_vo, z_he, z_ns, z_nm, z_sl, z_pa, z_tr, z_td, z_ha, z_cc, z_fi, z_wa, z_se, z_lo, z_im, z_ls, z_lk, z_lt, z_ly, z_ln, z_nu, z_ho, z_wk, z_wn, z_pr, z_go, z_mk, z_mf, z_mt, z_mn) (y_op, y_st, y_vo, y_he, y_ns, y_nm, y_sl, y_pa, y_tr, y_td, y_ha, y_cc, y_fi, y_wa, y_se, y_lo, y_im, y_ls, y_lk, y_lt, y_ly, y_ln, y_nu, y_ho, y_wk, y_wn, y_pr, y_go, y_mk, y_mf, y_mt, y_mn) := ⟨_, _, _, _, _, nu, nu', _, _, cc, hv1, hv2', tw_kill (fun t' ht' z k hk => hw1 t' ht' (kk _ t' z) k hk) (fun t' ht' z k hk => hw1' t' ht' (by rw [hK t' ht']; exact kk _ t' z) k hk) T⟩
    exact lx_547 hc hw hT (by rw [cb_rot hc m3 T.1]) (fun z => absurd z (by omega)) (HJ N _ _ _ _ _ _ _ _ _ _ _ _ _ _ _ _ _ _ _ _ _ _ _ _ _ _ _ _ _ _ _ _ _ _ _ _ _ _ _ _ _ _ _ _ _ _ _ _ _ _ _ _ _ _ _ _ _ _ _ _ _ _ _ _ (by omega) hT)
end TURN
end
section
/-! ===== commit and move in the law ===== -/
section TURN2
variable {z_op z_st z_vo z_he z_ns z_nm z_sl z_pa z_tr z_td z_ha z_cc z_fi z_wa z_se z_lo : Int32} {z_im z_ls z_lk z_lt z_ly z_ln z_nu z_ho z_wk z_wn z_pr z_go z_mk z_mf z_mt z_mn : Nat → Int32} {y_op y_st y_vo y_he y_ns y_nm y_sl y_pa y_tr y_td y_ha y_cc y_fi y_wa y_se y_lo : Int32} {y_im y_ls y_lk y_lt y_ly y_ln y_nu y_ho y_wk y_wn y_pr y_go y_mk y_mf y_mt y_mn : Nat → Int32}
variable {post : Int32 → Prop} {L : Nat} {xs : Nat → Int32} {J : Int32 → Int32 → Int32 → Int32 → Int32 → Int32 → Int32 → Int32 → Int32 → Int32 → Int32 → Int32 → Int32 → Int32 → Int32 → Int32 → Int32 → (Nat → Int32) → (Nat → Int32) → (Nat → Int32) → (Nat → Int32) → (Nat → Int32) → (Nat → Int32) → (Nat → Int32) → (Nat → Int32) → (Nat → Int32) → (Nat → Int32) → (Nat → Int32) → (Nat → Int32) → (Nat → Int32) → (Nat → Int32) → (Nat → Int32) → (Nat → Int32) → Int32 → Int32 → Int32 → Int32 → Int32 → Int32 → Int32 → Int32 → Int32 → Int32 → Int32 → Int32 → Int32 → Int32 → Int32 → Int32 → (Nat → Int32) → (Nat → Int32) → (Nat → Int32) → (Nat → Int32) → (Nat → Int32) → (Nat → Int32) → (Nat → Int32) → (Nat → Int32) → (Nat → Int32) → (Nat → Int32) → (Nat → Int32) → (Nat → Int32) → (Nat → Int32) → (Nat → Int32) → (Nat → Int32) → (Nat → Int32) → Prop} {c N s wo kc ks : Nat}
theorem ck_rot {h h' : Nat → Nat} {o : Nat → Bool} {t tr td : Nat} (hc : c < 12) (hd : td < 3) (e : ∀ k, k < 12 → h' (rt_k c k) = h k) : (∀ t', ck_K o h' t tr ((td + c) % 3) t' = ck_K o h t tr td t') ∧ ck_r h' t tr ((td + c) % 3) = ck_r h t tr td := by
  constructor
  · intro t'
    unfold ck_K
    rw [hs_rot hc hd e]
  · unfold ck_r
    rw [hs_rot hc hd e]
theorem tw_commit {o : Nat → Bool} {h h' : Nat → Nat} {w w' w1 w1' : Nat → Nat → Bool} {nu nu' wn wn' : Nat → Int32} {t : Nat} {K : Nat → Bool} {r : Bool} (ht : t < 4) (eo : o t = true)
    (hw : ∀ t, t < 4 → ko_K o K t = true → ∀ k, k < 12 → w1 t k = w t k) (hw' : ∀ t, t < 4 → ko_K o K t = true → ∀ k, k < 12 → w1' t k = w' t k) (T : tw_T c o h h' w w' nu nu' wn wn') :
    tw_T c (ko_K o K) (kh_K h K) (kh_K h' K) w1 w1' (fun k => if r = true ∧ w t k = true then wn (t * 12 + k) else nu k) (fun k => if r = true ∧ w' t k = true then wn' (t * 12 + k) else nu' k) wn wn' := by
  obtain ⟨b1, b2, b3, b4⟩ := tw_kill hw hw' T
  refine ⟨b1, b2, fun k hk => ?_, b4⟩
  dsimp only
  rw [T.2.1 t ht eo k hk]
  by_cases e : r = true ∧ w t k = true
  · rw [if_pos e, if_pos e]
    exact T.2.2.2 t ht eo k hk e.2
  · rw [if_neg e, if_neg e]
    exact T.2.2.1 k hk
theorem lx_commit {t tr td : Nat} (hc : c < 12) (hw : wo < 16) (h10 : 10 ≤ wo) (ht : t < 4) (htr : tr < 8) (htd : td < 3) (hN : N < 900) (hT : tw_W c N (z_op, z_st, z_vo, z_he, z_ns, z_nm, z_sl, z_pa, z_tr, z_td, z_ha, z_cc, z_fi, z_wa, z_se, z_lo, z_im, z_ls, z_lk, z_lt, z_ly, z_ln, z_nu, z_ho, z_wk, z_wn, z_pr, z_go, z_mk, z_mf, z_mt, z_mn) (y_op, y_st, y_vo, y_he, y_ns, y_nm, y_sl, y_pa, y_tr, y_td, y_ha, y_cc, y_fi, y_wa, y_se, y_lo, y_im, y_ls, y_lk, y_lt, y_ly, y_ln, y_nu, y_ho, y_wk, y_wn, y_pr, y_go, y_mk, y_mf, y_mt, y_mn)) {x11 : Int32} (ex : ts_a z_nu 12 = x11) (HJ : ∀ N' (z_op z_st z_vo z_he z_ns z_nm z_sl z_pa z_tr z_td z_ha z_cc z_fi z_wa z_se z_lo : Int32) (z_im z_ls z_lk z_lt z_ly z_ln z_nu z_ho z_wk z_wn z_pr z_go z_mk z_mf z_mt z_mn : Nat → Int32) (y_op y_st y_vo y_he y_ns y_nm y_sl y_pa y_tr y_td y_ha y_cc y_fi y_wa y_se y_lo : Int32) (y_im y_ls y_lk y_lt y_ly y_ln y_nu y_ho y_wk y_wn y_pr y_go y_mk y_mf y_mt y_mn : Nat → Int32), N' ≤ N + 1 → tw_W c N' (z_op, z_st, z_vo, z_he, z_ns, z_nm, z_sl, z_pa, z_tr, z_td, z_ha, z_cc, z_fi, z_wa, z_se, z_lo, z_im, z_ls, z_lk, z_lt, z_ly, z_ln, z_nu, z_ho, z_wk, z_wn, z_pr, z_go, z_mk, z_mf, z_mt, z_mn) (y_op, y_st, y_vo, y_he, y_ns, y_nm, y_sl, y_pa, y_tr, y_td, y_ha, y_cc, y_fi, y_wa, y_se, y_lo, y_im, y_ls, y_lk, y_lt, y_ly, y_ln, y_nu, y_ho, y_wk, y_wn, y_pr, y_go, y_mk, y_mf, y_mt, y_mn) → J (nI (s + 1)) z_op z_st z_vo z_he z_ns z_nm z_sl z_pa z_tr z_td z_ha z_cc z_fi z_wa z_se z_lo z_im z_ls z_lk z_lt z_ly z_ln z_nu z_ho z_wk z_wn z_pr z_go z_mk z_mf z_mt z_mn y_op y_st y_vo y_he y_ns y_nm y_sl y_pa y_tr y_td y_ha y_cc y_fi y_wa y_se y_lo y_im y_ls y_lk y_lt y_ly y_ln y_nu y_ho y_wk y_wn y_pr y_go y_mk y_mf y_mt y_mn) :
    wpX_commit (fun r1 u => match u with | (z_op, z_st, z_vo, z_he, z_ns, z_nm, z_sl, z_pa, z_tr, z_td, z_ha, z_cc, z_fi, z_wa, z_se, z_lo, z_im, z_ls, z_lk, z_lt, z_ly, z_ln, z_nu, z_ho, z_wk, z_wn, z_pr, z_go, z_mk, z_mf, z_mt, z_mn) => ¬ (3 : Int32) = 0 ∧ (wpX_commit (fun r2 u => match u with | (y_op, y_st, y_vo, y_he, y_ns, y_nm, y_sl, y_pa, y_tr, y_td, y_ha, y_cc, y_fi, y_wa, y_se, y_lo, y_im, y_ls, y_lk, y_lt, y_ly, y_ln, y_nu, y_ho, y_wk, y_wn, y_pr, y_go, y_mk, y_mf, y_mt, y_mn) => (((r1 = 0 → (wpX_total (fun r3 => (((r3 = x11 → wL_law_479 post L xs J (nI c) (nI s) (nI wo) x11 r1 r2 kc ks z_op z_st z_vo z_he z_ns z_nm z_sl z_pa z_tr z_td z_ha z_cc z_fi z_wa z_se z_lo z_im z_ls z_lk z_lt z_ly z_ln z_nu z_ho z_wk z_wn z_pr z_go z_mk z_mf z_mt z_mn y_op y_st y_vo y_he y_ns y_nm y_sl y_pa y_tr y_td y_ha y_cc y_fi y_wa y_se y_lo y_im y_ls y_lk y_lt y_ly y_ln y_nu y_ho y_wk y_wn y_pr y_go y_mk y_mf y_mt y_mn) ∧ (¬ r3 = x11 → post 0)))) (z_op, z_st, z_vo, z_he, z_ns, z_nm, z_sl, z_pa, z_tr, z_td, z_ha, z_cc, z_fi, z_wa, z_se, z_lo, z_im, z_ls, z_lk, z_lt, z_ly, z_ln, z_nu, z_ho, z_wk, z_wn, z_pr, z_go, z_mk, z_mf, z_mt, z_mn))) ∧ (¬ r1 = 0 → wL_law_479 post L xs J (nI c) (nI s) (nI wo) x11 r1 r2 kc ks z_op z_st z_vo z_he z_ns z_nm z_sl z_pa z_tr z_td z_ha z_cc z_fi z_wa z_se z_lo z_im z_ls z_lk z_lt z_ly z_ln z_nu z_ho z_wk z_wn z_pr z_go z_mk z_mf z_mt z_mn y_op y_st y_vo y_he y_ns y_nm y_sl y_pa y_tr y_td y_ha y_cc y_fi y_wa y_se y_lo y_im y_ls y_lk y_lt y_ly y_ln y_nu y_ho y_wk y_wn y_pr y_go y_mk y_mf y_mt y_mn)))) (y_op, y_st, y_vo, y_he, y_ns, y_nm, y_sl, y_pa, y_tr, y_td, y_ha, y_cc, y_fi, y_wa, y_se, y_lo, y_im, y_ls, y_lk, y_lt, y_ly, y_ln, y_nu, y_ho, y_wk, y_wn, y_pr, y_go, y_mk, y_mf, y_mt, y_mn) (nI t) (nI tr) ((nI td + nI c) - (nI td + nI c) / 3 * 3))) (z_op, z_st, z_vo, z_he, z_ns, z_nm, z_sl, z_pa, z_tr, z_td, z_ha, z_cc, z_fi, z_wa, z_se, z_lo, z_im, z_ls, z_lk, z_lt, z_ly, z_ln, z_nu, z_ho, z_wk, z_wn, z_pr, z_go, z_mk, z_mf, z_mt, z_mn) (nI t) (nI tr) (nI td) := by
  obtain ⟨o, h, h', w, w', nu, nu', wn, wn', cc, hv, hv', T⟩ := hT
  have et : ts_a nu 12 = x11 := (vw_tot hv).symm.trans ex
  have em : nI td + nI c - (nI td + nI c) / 3 * 3 = nI ((td + c) % 3) := by
    rw [nI_add, show (3 : Int32) = nI 3 from rfl, pk_rem (by omega) (by omega) (by omega)]
  rw [em]
  have d3 : (td + c) % 3 < 3 := by omega
  have hT : tw_W c N (z_op, z_st, z_vo, z_he, z_ns, z_nm, z_sl, z_pa, z_tr, z_td, z_ha, z_cc, z_fi, z_wa, z_se, z_lo, z_im, z_ls, z_lk, z_lt, z_ly, z_ln, z_nu, z_ho, z_wk, z_wn, z_pr, z_go, z_mk, z_mf, z_mt, z_mn) (y_op, y_st, y_vo, y_he, y_ns, y_nm, y_sl, y_pa, y_tr, y_td, y_ha, y_cc, y_fi, y_wa, y_se, y_lo, y_im, y_ls, y_lk, y_lt, y_ly, y_ln, y_nu, y_ho, y_wk, y_wn, y_pr, y_go, y_mk, y_mf, y_mt, y_mn) := ⟨o, h, h', w, w', nu, nu', wn, wn', cc, hv, hv', T⟩
  refine sp_commit hN ht htr htd hv (fun eo => ⟨by decide, ?_⟩) (fun eo u' w1 hw1 hv1 => ?_)
  · refine sp_commit hN ht htr d3 hv' (fun _ => ?_) (fun eo' => by rw [eo] at eo'; exact absurd eo' (by decide))
    refine br_f (by decide) ?_
    exact lx_547 hc hw hT rfl (fun z => absurd z (by omega)) (HJ N _ _ _ _ _ _ _ _ _ _ _ _ _ _ _ _ _ _ _ _ _ _ _ _ _ _ _ _ _ _ _ _ _ _ _ _ _ _ _ _ _ _ _ _ _ _ _ _ _ _ _ _ _ _ _ _ _ _ _ _ _ _ _ _ (by omega) hT)
  · obtain ⟨z_op, z_st, z_vo, z_he, z_ns, z_nm, z_sl, z_pa, z_tr, z_td, z_ha, z_cc, z_fi, z_wa, z_se, z_lo, z_im, z_ls, z_lk, z_lt, z_ly, z_ln, z_nu, z_ho, z_wk, z_wn, z_pr, z_go, z_mk, z_mf, z_mt, z_mn⟩ := u'
    refine ⟨by decide, ?_⟩
    refine sp_commit hN ht htr d3 hv' (fun eo' => by rw [eo] at eo'; exact absurd eo' (by decide)) (fun _ v' w1' hw1' hv1' => ?_)
    obtain ⟨y_op, y_st, y_vo, y_he, y_ns, y_nm, y_sl, y_pa, y_tr, y_td, y_ha, y_cc, y_fi, y_wa, y_se, y_lo, y_im, y_ls, y_lk, y_lt, y_ly, y_ln, y_nu, y_ho, y_wk, y_wn, y_pr, y_go, y_mk, y_mf, y_mt, y_mn⟩ := v'
    obtain ⟨rK, rr⟩ := ck_rot (o := o) (t := t) (tr := tr) hc htd T.1
    have rK' : ck_K o h' t tr ((td + c) % 3) = ck_K o h t tr td := funext rK
    rw [rK', rr] at hv1'
    rw [rK'] at hw1'
    rw [rr]
    have hT : tw_W c (N + 1) (z_op, z_st, z_vo, z_he, z_ns, z_nm, z_sl, z_pa, z_tr, z_td, z_ha, z_cc, z_fi, z_wa, z_se, z_lo, z_im, z_ls, z_lk, z_lt, z_ly, z_ln, z_nu, z_ho, z_wk, z_wn, z_pr, z_go, z_mk, z_mf, z_mt, z_mn) (y_op, y_st, y_vo, y_he, y_ns, y_nm, y_sl, y_pa, y_tr, y_td, y_ha, y_cc, y_fi, y_wa, y_se, y_lo, y_im, y_ls, y_lk, y_lt, y_ly, y_ln, y_nu, y_ho, y_wk, y_wn, y_pr, y_go, y_mk, y_mf, y_mt, y_mn) := ⟨_, _, _, _, _, _, _, _, _, _, hv1, hv1', tw_commit ht eo hw1 hw1' T⟩
    have fin : wL_law_479 post L xs J (nI c) (nI s) (nI wo) x11 (nI (ck_r h t tr td).toNat) (nI (ck_r h t tr td).toNat) kc ks z_op z_st z_vo z_he z_ns z_nm z_sl z_pa z_tr z_td z_ha z_cc z_fi z_wa z_se z_lo z_im z_ls z_lk z_lt z_ly z_ln z_nu z_ho z_wk z_wn z_pr z_go z_mk z_mf z_mt z_mn y_op y_st y_vo y_he y_ns y_nm y_sl y_pa y_tr y_td y_ha y_cc y_fi y_wa y_se y_lo y_im y_ls y_lk y_lt y_ly y_ln y_nu y_ho y_wk y_wn y_pr y_go y_mk y_mf y_mt y_mn := lx_547 hc hw hT rfl (fun z => absurd z (by omega)) (HJ (N + 1) _ _ _ _ _ _ _ _ _ _ _ _ _ _ _ _ _ _ _ _ _ _ _ _ _ _ _ _ _ _ _ _ _ _ _ _ _ _ _ _ _ _ _ _ _ _ _ _ _ _ _ _ _ _ _ _ _ _ _ _ _ _ _ _ (by omega) hT)
    refine br_c (fun z => ml_total (br_t ?_ fin)) (fun z => fin)
    have er : ck_r h t tr td = false := (tb_z _).mp z
    rw [vw_tot hv1, ← et]
    refine ts_ext 12 (fun k hk => ?_)
    rw [er, if_neg (fun q => absurd q.1 (by decide))]
theorem lx_move {t k k2 a : Nat} (hc : c < 12) (hw : wo < 16) (ht : t < 4) (hk : k < 12) (hk2 : k2 < 12) (hne : k ≠ k2) (ha : a < 128) (hT : tw_W c N (z_op, z_st, z_vo, z_he, z_ns, z_nm, z_sl, z_pa, z_tr, z_td, z_ha, z_cc, z_fi, z_wa, z_se, z_lo, z_im, z_ls, z_lk, z_lt, z_ly, z_ln, z_nu, z_ho, z_wk, z_wn, z_pr, z_go, z_mk, z_mf, z_mt, z_mn) (y_op, y_st, y_vo, y_he, y_ns, y_nm, y_sl, y_pa, y_tr, y_td, y_ha, y_cc, y_fi, y_wa, y_se, y_lo, y_im, y_ls, y_lk, y_lt, y_ly, y_ln, y_nu, y_ho, y_wk, y_wn, y_pr, y_go, y_mk, y_mf, y_mt, y_mn)) {x11 : Int32} (ex : ts_a z_nu 12 = x11) (HJ : ∀ N' (z_op z_st z_vo z_he z_ns z_nm z_sl z_pa z_tr z_td z_ha z_cc z_fi z_wa z_se z_lo : Int32) (z_im z_ls z_lk z_lt z_ly z_ln z_nu z_ho z_wk z_wn z_pr z_go z_mk z_mf z_mt z_mn : Nat → Int32) (y_op y_st y_vo y_he y_ns y_nm y_sl y_pa y_tr y_td y_ha y_cc y_fi y_wa y_se y_lo : Int32) (y_im y_ls y_lk y_lt y_ly y_ln y_nu y_ho y_wk y_wn y_pr y_go y_mk y_mf y_mt y_mn : Nat → Int32), N' ≤ N + 1 → tw_W c N' (z_op, z_st, z_vo, z_he, z_ns, z_nm, z_sl, z_pa, z_tr, z_td, z_ha, z_cc, z_fi, z_wa, z_se, z_lo, z_im, z_ls, z_lk, z_lt, z_ly, z_ln, z_nu, z_ho, z_wk, z_wn, z_pr, z_go, z_mk, z_mf, z_mt, z_mn) (y_op, y_st, y_vo, y_he, y_ns, y_nm, y_sl, y_pa, y_tr, y_td, y_ha, y_cc, y_fi, y_wa, y_se, y_lo, y_im, y_ls, y_lk, y_lt, y_ly, y_ln, y_nu, y_ho, y_wk, y_wn, y_pr, y_go, y_mk, y_mf, y_mt, y_mn) → J (nI (s + 1)) z_op z_st z_vo z_he z_ns z_nm z_sl z_pa z_tr z_td z_ha z_cc z_fi z_wa z_se z_lo z_im z_ls z_lk z_lt z_ly z_ln z_nu z_ho z_wk z_wn z_pr z_go z_mk z_mf z_mt z_mn y_op y_st y_vo y_he y_ns y_nm y_sl y_pa y_tr y_td y_ha y_cc y_fi y_wa y_se y_lo y_im y_ls y_lk y_lt y_ly y_ln y_nu y_ho y_wk y_wn y_pr y_go y_mk y_mf y_mt y_mn) :
    wpX_move (fun r1 u => match u with | (z_op, z_st, z_vo, z_he, z_ns, z_nm, z_sl, z_pa, z_tr, z_td, z_ha, z_cc, z_fi, z_wa, z_se, z_lo, z_im, z_ls, z_lk, z_lt, z_ly, z_ln, z_nu, z_ho, z_wk, z_wn, z_pr, z_go, z_mk, z_mf, z_mt, z_mn) => wpX_move (fun r2 u => match u with | (y_op, y_st, y_vo, y_he, y_ns, y_nm, y_sl, y_pa, y_tr, y_td, y_ha, y_cc, y_fi, y_wa, y_se, y_lo, y_im, y_ls, y_lk, y_lt, y_ly, y_ln, y_nu, y_ho, y_wk, y_wn, y_pr, y_go, y_mk, y_mf, y_mt, y_mn) => ((r1 < (-9999) → wL_law_313 post L xs J (nI c) (nI s) (nI wo) (nI t) (nI k) (nI (rt_k c k)) x11 (nI k2) (nI (rt_k c k2)) r1 r2 0 kc ks z_op z_st z_vo z_he z_ns z_nm z_sl z_pa z_tr z_td z_ha z_cc z_fi z_wa z_se z_lo z_im z_ls z_lk z_lt z_ly z_ln z_nu z_ho z_wk z_wn z_pr z_go z_mk z_mf z_mt z_mn y_op y_st y_vo y_he y_ns y_nm y_sl y_pa y_tr y_td y_ha y_cc y_fi y_wa y_se y_lo y_im y_ls y_lk y_lt y_ly y_ln y_nu y_ho y_wk y_wn y_pr y_go y_mk y_mf y_mt y_mn) ∧ (¬ r1 < (-9999) → wL_law_313 post L xs J (nI c) (nI s) (nI wo) (nI t) (nI k) (nI (rt_k c k)) x11 (nI k2) (nI (rt_k c k2)) r1 r2 1 kc ks z_op z_st z_vo z_he z_ns z_nm z_sl z_pa z_tr z_td z_ha z_cc z_fi z_wa z_se z_lo z_im z_ls z_lk z_lt z_ly z_ln z_nu z_ho z_wk z_wn z_pr z_go z_mk z_mf z_mt z_mn y_op y_st y_vo y_he y_ns y_nm y_sl y_pa y_tr y_td y_ha y_cc y_fi y_wa y_se y_lo y_im y_ls y_lk y_lt y_ly y_ln y_nu y_ho y_wk y_wn y_pr y_go y_mk y_mf y_mt y_mn))) (y_op, y_st, y_vo, y_he, y_ns, y_nm, y_sl, y_pa, y_tr, y_td, y_ha, y_cc, y_fi, y_wa, y_se, y_lo, y_im, y_ls, y_lk, y_lt, y_ly, y_ln, y_nu, y_ho, y_wk, y_wn, y_pr, y_go, y_mk, y_mf, y_mt, y_mn) (nI t) (nI (rt_k c k2) + 12 * nI (rt_k c k)) (nI a)) (z_op, z_st, z_vo, z_he, z_ns, z_nm, z_sl, z_pa, z_tr, z_td, z_ha, z_cc, z_fi, z_wa, z_se, z_lo, z_im, z_ls, z_lk, z_lt, z_ly, z_ln, z_nu, z_ho, z_wk, z_wn, z_pr, z_go, z_mk, z_mf, z_mt, z_mn) (nI t) (nI k + 12 * nI k2) (nI a) := by
  obtain ⟨o, h, h', w, w', nu, nu', wn, wn', cc, hv, hv', T⟩ := hT
  have et : ts_a nu 12 = x11 := (vw_tot hv).symm.trans ex
  have hT : tw_W c N (z_op, z_st, z_vo, z_he, z_ns, z_nm, z_sl, z_pa, z_tr, z_td, z_ha, z_cc, z_fi, z_wa, z_se, z_lo, z_im, z_ls, z_lk, z_lt, z_ly, z_ln, z_nu, z_ho, z_wk, z_wn, z_pr, z_go, z_mk, z_mf, z_mt, z_mn) (y_op, y_st, y_vo, y_he, y_ns, y_nm, y_sl, y_pa, y_tr, y_td, y_ha, y_cc, y_fi, y_wa, y_se, y_lo, y_im, y_ls, y_lk, y_lt, y_ly, y_ln, y_nu, y_ho, y_wk, y_wn, y_pr, y_go, y_mk, y_mf, y_mt, y_mn) := ⟨o, h, h', w, w', nu, nu', wn, wn', cc, hv, hv', T⟩
  have eh := T.1 k hk
  have eh2 := T.1 k2 hk2
  have hne' : rt_k c k2 ≠ rt_k c k := fun z => hne ((rt_inj hk2 hk).mp z.symm)
  refine sp_move ht hk hk2 hne ha hv (fun eo => ?_) (fun eo ef => ?_) (fun eo ef er => ?_) (fun eo ef er u' hv1 => ?_)
  · refine sp_move ht (rt_lt c k2) (rt_lt c k) hne' ha hv' (fun _ => ?_) (fun eo' => by rw [eo] at eo'; exact absurd eo' (by decide)) (fun eo' => by rw [eo] at eo'; exact absurd eo' (by decide)) (fun eo' => by rw [eo] at eo'; exact absurd eo' (by decide))
    exact lx_313 hc hw (by decide) hT ((vw_tot hv).trans et) (HJ N _ _ _ _ _ _ _ _ _ _ _ _ _ _ _ _ _ _ _ _ _ _ _ _ _ _ _ _ _ _ _ _ _ _ _ _ _ _ _ _ _ _ _ _ _ _ _ _ _ _ _ _ _ _ _ _ _ _ _ _ _ _ _ _ (by omega) hT)
  · refine sp_move ht (rt_lt c k2) (rt_lt c k) hne' ha hv' (fun eo' => by rw [eo] at eo'; exact absurd eo' (by decide)) (fun _ _ => ?_) (fun _ ef' => by rw [eh, eh2] at ef'; exact absurd ⟨ef'.2, ef'.1⟩ ef) (fun _ ef' => by rw [eh, eh2] at ef'; exact absurd ⟨ef'.2, ef'.1⟩ ef)
    exact lx_313 hc hw (by decide) hT ((vw_tot hv).trans et) (HJ N _ _ _ _ _ _ _ _ _ _ _ _ _ _ _ _ _ _ _ _ _ _ _ _ _ _ _ _ _ _ _ _ _ _ _ _ _ _ _ _ _ _ _ _ _ _ _ _ _ _ _ _ _ _ _ _ _ _ _ _ _ _ _ _ (by omega) hT)
  all_goals have s1 := tw_sv ht eo hk T
  all_goals have s2 := tw_sv ht eo hk2 T
  all_goals have r1 : sv_v w' wn' nu' t (rt_k c k) + nI a = -(sv_v w wn nu t k - nI a) := by rw [s1]; grind
  all_goals have r2 : sv_v w' wn' nu' t (rt_k c k2) - nI a = -(sv_v w wn nu t k2 + nI a) := by rw [s2]; grind
  · refine sp_move ht (rt_lt c k2) (rt_lt c k) hne' ha hv' (fun eo' => by rw [eo] at eo'; exact absurd eo' (by decide)) (fun _ ef' => by rw [eh, eh2] at ef'; exact absurd ⟨ef.2, ef.1⟩ ef') (fun _ _ _ => ?_) (fun _ _ er' => by rw [r1, r2, rg_neg, rg_neg] at er'; exact absurd ⟨er'.2, er'.1⟩ er)
    exact lx_313 hc hw (by decide) hT ((vw_tot hv).trans et) (HJ N _ _ _ _ _ _ _ _ _ _ _ _ _ _ _ _ _ _ _ _ _ _ _ _ _ _ _ _ _ _ _ _ _ _ _ _ _ _ _ _ _ _ _ _ _ _ _ _ _ _ _ _ _ _ _ _ _ _ _ _ _ _ _ _ (by omega) hT)
  · obtain ⟨z_op, z_st, z_vo, z_he, z_ns, z_nm, z_sl, z_pa, z_tr, z_td, z_ha, z_cc, z_fi, z_wa, z_se, z_lo, z_im, z_ls, z_lk, z_lt, z_ly, z_ln, z_nu, z_ho, z_wk, z_wn, z_pr, z_go, z_mk, z_mf, z_mt, z_mn⟩ := u'
    refine sp_move ht (rt_lt c k2) (rt_lt c k) hne' ha hv' (fun eo' => by rw [eo] at eo'; exact absurd eo' (by decide)) (fun _ ef' => by rw [eh, eh2] at ef'; exact absurd ⟨ef.2, ef.1⟩ ef') (fun _ _ er' => by rw [r1, r2, rg_neg, rg_neg] at er'; exact absurd ⟨er.2, er.1⟩ er') (fun _ _ er' v' hv1' => ?_)
    obtain ⟨y_op, y_st, y_vo, y_he, y_ns, y_nm, y_sl, y_pa, y_tr, y_td, y_ha, y_cc, y_fi, y_wa, y_se, y_lo, y_im, y_ls, y_lk, y_lt, y_ly, y_ln, y_nu, y_ho, y_wk, y_wn, y_pr, y_go, y_mk, y_mf, y_mt, y_mn⟩ := v'
    have n1 : ¬ sv_v w wn nu t k - nI a < -9999 := er.1.1
    have n2 : ¬ sv_v w' wn' nu' t (rt_k c k2) - nI a < -9999 := er'.1.1
    refine br_f n1 (br_f (by decide) (br_f n2 ?_))
    have T2 := tw_put (t := t) (v := sv_v w wn nu t k2 + nI a) hk2 (tw_put (t := t) (v := sv_v w wn nu t k - nI a) hk T)
    have i1 : t * 12 + rt_k c k2 ≠ t * 12 + rt_k c k := by omega
    rw [r1, r2, hu_com, wu_com, up_com _ _ _ i1] at hv1'
    refine lx_342 hc hw ht hk hk2 eo hv1 hv1' T2 ?_ ?_ ?_ et (fun z_op z_st z_vo z_he z_ns z_nm z_sl z_pa z_tr z_td z_ha z_cc z_fi z_wa z_se z_lo z_im z_ls z_lk z_lt z_ly z_ln z_nu z_ho z_wk z_wn z_pr z_go z_mk z_mf z_mt z_mn y_op y_st y_vo y_he y_ns y_nm y_sl y_pa y_tr y_td y_ha y_cc y_fi y_wa y_se y_lo y_im y_ls y_lk y_lt y_ly y_ln y_nu y_ho y_wk y_wn y_pr y_go y_mk y_mf y_mt y_mn hT => HJ N _ _ _ _ _ _ _ _ _ _ _ _ _ _ _ _ _ _ _ _ _ _ _ _ _ _ _ _ _ _ _ _ _ _ _ _ _ _ _ _ _ _ _ _ _ _ _ _ _ _ _ _ _ _ _ _ _ _ _ _ _ _ _ _ (by omega) hT)
    · unfold hu_s
      rw [if_neg hne, if_pos rfl]
    · unfold hu_s
      rw [if_pos rfl]
    · unfold sv_v
      rw [if_pos, pk_un (by omega), pk_us]
      unfold wu_s
      rw [if_neg (fun q => hne q.2), if_pos ⟨rfl, rfl⟩]
end TURN2
end
section
/-! ===== the constructor, the loop, the law ===== -/
section TOP
variable {z_op z_st z_vo z_he z_ns z_nm z_sl z_pa z_tr z_td z_ha z_cc z_fi z_wa z_se z_lo : Int32} {z_im z_ls z_lk z_lt z_ly z_ln z_nu z_ho z_wk z_wn z_pr z_go z_mk z_mf z_mt z_mn : Nat → Int32} {y_op y_st y_vo y_he y_ns y_nm y_sl y_pa y_tr y_td y_ha y_cc y_fi y_wa y_se y_lo : Int32} {y_im y_ls y_lk y_lt y_ly y_ln y_nu y_ho y_wk y_wn y_pr y_go y_mk y_mf y_mt y_mn : Nat → Int32}
theorem ml_init {post : St1 → Prop} (H : ∀ b8, (∀ k, k < 12 → b8 k = -1) → post (0, 0, 0, 0, 0, 0, 0, 0, 0, 0, 0, 0, 0, 0, 0, 0, fun _ => 0, fun _ => 0, fun _ => 0, fun _ => 0, fun _ => 0, fun _ => 0, fun _ => 0, b8, fun _ => 0, fun _ => 0, fun _ => 0, fun _ => 0, fun _ => 0, fun _ => 0, fun _ => 0, fun _ => 0)) :
    wpX_init post 16 1396 (0, 0, 0, 0, 0, 0, 0, 0, 0, 0, 0, 0, 0, 0, 0, 0) := by
  refine ⟨by decide, by decide, by decide, by decide, by decide, by decide, by decide, by decide, by decide, by decide, by decide, by decide, by decide, by decide, by decide, by decide, by decide, by decide, by decide, by decide, by decide, by decide, by decide, by decide, by decide, by decide, by decide, by decide, by decide, by decide, by decide, by decide, ?_⟩
  refine pk_loop (σ := Nat → Int32) (fun f i s => wX_init_136 post 16 1396 16 1396 0 0 0 0 0 0 0 0 0 0 0 0 0 0 0 0 f (nI i) (fun _ => 0) (fun _ => 0) (fun _ => 0) (fun _ => 0) (fun _ => 0) (fun _ => 0) (fun _ => 0) s (fun _ => 0) (fun _ => 0) (fun _ => 0) (fun _ => 0) (fun _ => 0) (fun _ => 0) (fun _ => 0) (fun _ => 0)) (fun i s => ∀ k, k < i → s k = -1) 12 0 (fun _ => 0) (by omega) (fun k hk => absurd hk (by omega)) ?_ ?_
  · intro f b8 h8
    exact pk_le 12 12 (fun _ => H b8 h8) (fun z => absurd z (by omega))
  · intro f i b8 hi h8 hn
    refine pk_le 12 i (fun z => absurd z (by omega)) (fun _ => ⟨pk_in i 12 hi, ?_⟩)
    intro c8 e8
    rw [nI_clamp (by omega)] at e8
    subst e8
    refine nm_r (nI_1 i) (hn _ (fun k hk => ?_))
    by_cases e : k = i
    · rw [e, pk_us]
    · rw [pk_un e]
      exact h8 k (by omega)
theorem vw_new {b8 : Nat → Int32} (h8 : ∀ k, k < 12 → b8 k = -1) : vw_V 0 (fun _ => false) (fun _ => 4) (fun _ _ => false) (fun _ => 0) (fun _ => 0) 0 (0, 0, 0, 0, 0, 0, 0, 0, 0, 0, 0, 0, 0, 0, 0, 0, fun _ => 0, fun _ => 0, fun _ => 0, fun _ => 0, fun _ => 0, fun _ => 0, fun _ => 0, b8, fun _ => 0, fun _ => 0, fun _ => 0, fun _ => 0, fun _ => 0, fun _ => 0, fun _ => 0, fun _ => 0) := by
  have r0 : rg_ok 0 := by unfold rg_ok; decide
  refine ⟨⟨rfl, rfl, by decide, fun k hk => ⟨(by decide : 4 < 5), by rw [h8 k hk, hc_4]⟩, fun t ht k hk => tb_zero k (by omega), ⟨fun k hk z => absurd z (by decide : ¬ 4 < 4), fun t ht e => absurd e Bool.false_ne_true, fun _ _ => r0, fun _ _ => r0, fun _ _ => rfl, fun _ _ e => absurd e Bool.false_ne_true⟩, fun m hm => ⟨0, by omega, rfl, fun i hi => absurd hi (by omega), fun k hk _ => rfl, rfl⟩, ⟨0, by omega, rfl, fun i hi => absurd hi (by omega)⟩⟩, fun _ _ => rfl, fun _ _ => rfl, rfl⟩
theorem sh_c : ∀ k, k < 32 → ((nI k &&& 31).toBitVec.smod 32).toNat = k := tb_sl
theorem lx_39 {xs : Nat → Int32} {L c kc ks : Nat} (hL : L ≤ 260) (hc : c < 12) : ∀ f s N (z_op z_st z_vo z_he z_ns z_nm z_sl z_pa z_tr z_td z_ha z_cc z_fi z_wa z_se z_lo : Int32) (z_im z_ls z_lk z_lt z_ly z_ln z_nu z_ho z_wk z_wn z_pr z_go z_mk z_mf z_mt z_mn : Nat → Int32) (y_op y_st y_vo y_he y_ns y_nm y_sl y_pa y_tr y_td y_ha y_cc y_fi y_wa y_se y_lo : Int32) (y_im y_ls y_lk y_lt y_ly y_ln y_nu y_ho y_wk y_wn y_pr y_go y_mk y_mf y_mt y_mn : Nat → Int32), 1 ≤ s → (L - s < f) → N ≤ s → s < 900 → tw_W c N (z_op, z_st, z_vo, z_he, z_ns, z_nm, z_sl, z_pa, z_tr, z_td, z_ha, z_cc, z_fi, z_wa, z_se, z_lo, z_im, z_ls, z_lk, z_lt, z_ly, z_ln, z_nu, z_ho, z_wk, z_wn, z_pr, z_go, z_mk, z_mf, z_mt, z_mn) (y_op, y_st, y_vo, y_he, y_ns, y_nm, y_sl, y_pa, y_tr, y_td, y_ha, y_cc, y_fi, y_wa, y_se, y_lo, y_im, y_ls, y_lk, y_lt, y_ly, y_ln, y_nu, y_ho, y_wk, y_wn, y_pr, y_go, y_mk, y_mf, y_mt, y_mn) → wL_law_39 (fun r => r = 1) L xs (nI c) kc ks f (nI s) z_op z_st z_vo z_he z_ns z_nm z_sl z_pa z_tr z_td z_ha z_cc z_fi z_wa z_se z_lo z_im z_ls z_lk z_lt z_ly z_ln z_nu z_ho z_wk z_wn z_pr z_go z_mk z_mf z_mt z_mn y_op y_st y_vo y_he y_ns y_nm y_sl y_pa y_tr y_td y_ha y_cc y_fi y_wa y_se y_lo y_im y_ls y_lk y_lt y_ly y_ln y_nu y_ho y_wk y_wn y_pr y_go y_mk y_mf y_mt y_mn := by
  intro f
  induction f with
  | zero => intro s N z_op z_st z_vo z_he z_ns z_nm z_sl z_pa z_tr z_td z_ha z_cc z_fi z_wa z_se z_lo z_im z_ls z_lk z_lt z_ly z_ln z_nu z_ho z_wk z_wn z_pr z_go z_mk z_mf z_mt z_mn y_op y_st y_vo y_he y_ns y_nm y_sl y_pa y_tr y_td y_ha y_cc y_fi y_wa y_se y_lo y_im y_ls y_lk y_lt y_ly y_ln y_nu y_ho y_wk y_wn y_pr y_go y_mk y_mf y_mt y_mn _ z; exact absurd z (by omega)
  | succ f ih =>
    intro s N z_op z_st z_vo z_he z_ns z_nm z_sl z_pa z_tr z_td z_ha z_cc z_fi z_wa z_se z_lo z_im z_ls z_lk z_lt z_ly z_ln z_nu z_ho z_wk z_wn z_pr z_go z_mk z_mf z_mt z_mn y_op y_st y_vo y_he y_ns y_nm y_sl y_pa y_tr y_td y_ha y_cc y_fi y_wa y_se y_lo y_im y_ls y_lk y_lt y_ly y_ln y_nu y_ho y_wk y_wn y_pr y_go y_mk y_mf y_mt y_mn hs1 hf hN hs9 hT
    refine pk_le L s (fun _ => rfl) (fun hsL => ?_)
    have HJ : ∀ N' (z_op z_st z_vo z_he z_ns z_nm z_sl z_pa z_tr z_td z_ha z_cc z_fi z_wa z_se z_lo : Int32) (z_im z_ls z_lk z_lt z_ly z_ln z_nu z_ho z_wk z_wn z_pr z_go z_mk z_mf z_mt z_mn : Nat → Int32) (y_op y_st y_vo y_he y_ns y_nm y_sl y_pa y_tr y_td y_ha y_cc y_fi y_wa y_se y_lo : Int32) (y_im y_ls y_lk y_lt y_ly y_ln y_nu y_ho y_wk y_wn y_pr y_go y_mk y_mf y_mt y_mn : Nat → Int32), N' ≤ N + 1 → tw_W c N' (z_op, z_st, z_vo, z_he, z_ns, z_nm, z_sl, z_pa, z_tr, z_td, z_ha, z_cc, z_fi, z_wa, z_se, z_lo, z_im, z_ls, z_lk, z_lt, z_ly, z_ln, z_nu, z_ho, z_wk, z_wn, z_pr, z_go, z_mk, z_mf, z_mt, z_mn) (y_op, y_st, y_vo, y_he, y_ns, y_nm, y_sl, y_pa, y_tr, y_td, y_ha, y_cc, y_fi, y_wa, y_se, y_lo, y_im, y_ls, y_lk, y_lt, y_ly, y_ln, y_nu, y_ho, y_wk, y_wn, y_pr, y_go, y_mk, y_mf, y_mt, y_mn) → wL_law_39 (fun r => r = 1) L xs (nI c) kc ks f (nI (s + 1)) z_op z_st z_vo z_he z_ns z_nm z_sl z_pa z_tr z_td z_ha z_cc z_fi z_wa z_se z_lo z_im z_ls z_lk z_lt z_ly z_ln z_nu z_ho z_wk z_wn z_pr z_go z_mk z_mf z_mt z_mn y_op y_st y_vo y_he y_ns y_nm y_sl y_pa y_tr y_td y_ha y_cc y_fi y_wa y_se y_lo y_im y_ls y_lk y_lt y_ly y_ln y_nu y_ho y_wk y_wn y_pr y_go y_mk y_mf y_mt y_mn :=
      fun N' z_op z_st z_vo z_he z_ns z_nm z_sl z_pa z_tr z_td z_ha z_cc z_fi z_wa z_se z_lo z_im z_ls z_lk z_lt z_ly z_ln z_nu z_ho z_wk z_wn z_pr z_go z_mk z_mf z_mt z_mn y_op y_st y_vo y_he y_ns y_nm y_sl y_pa y_tr y_td y_ha y_cc y_fi y_wa y_se y_lo y_im y_ls y_lk y_lt y_ly y_ln y_nu y_ho y_wk y_wn y_pr y_go y_mk y_mf y_mt y_mn h1 h2 => ih (s + 1) N' _ _ _ _ _ _ _ _ _ _ _ _ _ _ _ _ _ _ _ _ _ _ _ _ _ _ _ _ _ _ _ _ _ _ _ _ _ _ _ _ _ _ _ _ _ _ _ _ _ _ _ _ _ _ _ _ _ _ _ _ _ _ _ _ (by omega) (by omega) (by omega) (by omega) h2
    clear ih
    have hin : vp_in (nI s) L := pk_in s L hsL
    refine ⟨hin, ?_⟩
    obtain ⟨wo, hw, ew⟩ := pk_andE (xs (nI s).toNatClampNeg) (m := 15) 4 (by decide)
    refine nm_r ew ⟨hin, ?_⟩
    intro x6 _
    obtain ⟨t, ht, e7⟩ := pk_andE x6 (m := 3) 2 (by decide)
    refine nm_r e7 ⟨by decide, ?_⟩
    obtain ⟨k0, hk0, e8⟩ := pk_andE (x6 >>> ((2 : Int32) &&& 31)) (m := 15) 4 (by decide)
    have e8' : ((x6 >>> ((2 : Int32) &&& 31)) &&& 15) - ((x6 >>> ((2 : Int32) &&& 31)) &&& 15) / 12 * 12 = nI (k0 % 12) := by
      rw [e8, show (12 : Int32) = nI 12 from rfl, pk_rem (by omega) (by omega) (by omega)]
    refine nm_r e8' ⟨by decide, ?_⟩
    have hk : k0 % 12 < 12 := by omega
    generalize k0 % 12 = k at hk
    have e9 : nI k + nI c - (nI k + nI c) / 12 * 12 = nI (rt_k c k) := by
      rw [nI_add, show (12 : Int32) = nI 12 from rfl, pk_rem (by omega) (by omega) (by omega)]
      rfl
    refine nm_r e9 ?_
    obtain ⟨v0, hv0, ev⟩ := pk_andE (x6 >>> ((6 : Int32) &&& 31)) (m := 255) 8 (by decide)
    rw [ev]
    refine nm_e ?_
    refine ml_total ?_
    refine pk_le 3 wo (fun _ => ?_) (fun _ => lx_begin hc hw hT rfl HJ)
    refine pk_le 5 wo (fun _ => ?_) (fun _ => lx_get hc hw ht hk hT rfl HJ)
    refine pk_le 8 wo (fun _ => ?_) (fun _ => lx_put hc hw ht hk (rg_v v0 hv0) hT rfl HJ)
    refine pk_le 10 wo (fun w10 => ?_) (fun _ => ?_)
    · refine pk_le 13 wo (fun _ => ?_) (fun _ => ?_)
      · refine pk_le 14 wo (fun _ => ?_) (fun _ => lx_abort hc hw w10 ht hT HJ)
        obtain ⟨m, hm, em⟩ := pk_andE (x6 >>> ((6 : Int32) &&& 31)) (m := 3) 2 (by decide)
        refine nm_r em ?_
        exact lx_crash hc hw w10 hm hT HJ
      · obtain ⟨tr, htr, etr⟩ := pk_andE (x6 >>> ((6 : Int32) &&& 31)) (m := 7) 3 (by decide)
        refine nm_r etr ⟨by decide, ?_⟩
        obtain ⟨m, hm, em⟩ := pk_andE (x6 >>> ((9 : Int32) &&& 31)) (m := 3) 2 (by decide)
        have em' : ((x6 >>> ((9 : Int32) &&& 31)) &&& 3) - ((x6 >>> ((9 : Int32) &&& 31)) &&& 3) / 3 * 3 = nI (m % 3) := by
          rw [em]
          show nI m - nI m / nI 3 * nI 3 = _
          rw [pk_rem (by omega) (by omega) (by omega)]
        refine nm_r em' ?_
        exact lx_commit hc hw w10 ht htr (by omega) (by omega) hT rfl HJ
    · refine ⟨by decide, by decide, ?_⟩
      have ed : nI v0 - nI v0 / 11 * 11 = nI (v0 % 11) := by
        rw [show (11 : Int32) = nI 11 from rfl, pk_rem (by omega) (by omega) (by omega)]
      have e14 : nI k + 1 + (nI v0 - nI v0 / 11 * 11) - (nI k + 1 + (nI v0 - nI v0 / 11 * 11)) / 12 * 12 = nI ((k + 1 + v0 % 11) % 12) := by
        rw [ed, nI_1, nI_add, show (12 : Int32) = nI 12 from rfl, pk_rem (by omega) (by omega) (by omega)]
      refine nm_r e14 ⟨by decide, ?_⟩
      have hk2 : (k + 1 + v0 % 11) % 12 < 12 := by omega
      have hne : k ≠ (k + 1 + v0 % 11) % 12 := by omega
      generalize (k + 1 + v0 % 11) % 12 = k2 at hk2 hne
      have e15 : nI k2 + nI c - (nI k2 + nI c) / 12 * 12 = nI (rt_k c k2) := by
        rw [nI_add, show (12 : Int32) = nI 12 from rfl, pk_rem (by omega) (by omega) (by omega)]
        rfl
      refine nm_r e15 ?_
      obtain ⟨a, ha, ea⟩ := pk_andE (x6 >>> ((14 : Int32) &&& 31)) (m := 127) 7 (by decide)
      refine nm_r ea ?_
      exact lx_move hc hw ht hk hk2 hne ha hT rfl HJ
theorem lx_19 {xs : Nat → Int32} {L c : Nat} (hL : L ≤ 260) (hc : c < 12) : wL_law_19 (fun r => r = 1) L xs (nI c) 0 0 := by
  refine ⟨by decide, by decide, 16, 1396, by decide, by decide, ?_⟩
  refine ml_init (fun b8 h8 => ⟨by decide, by decide, 16, 1396, by decide, by decide, ?_⟩)
  refine ml_init (fun c8 g8 => ⟨L + 1, ?_⟩)
  refine lx_39 hL hc (L + 1) 1 0 _ _ _ _ _ _ _ _ _ _ _ _ _ _ _ _ _ _ _ _ _ _ _ _ _ _ _ _ _ _ _ _ _ _ _ _ _ _ _ _ _ _ _ _ _ _ _ _ _ _ _ _ _ _ _ _ _ _ _ _ _ _ _ _ (by omega) (by omega) (by omega) (by omega) ⟨_, _, _, _, _, _, _, _, _, _, vw_new h8, vw_new g8, ⟨fun k hk => rfl, fun t ht e => absurd e Bool.false_ne_true, fun k hk => (by decide : (0 : Int32) = -0), fun t ht e => absurd e Bool.false_ne_true⟩⟩
end TOP
theorem i_vc (xs : Nat → Int32) (L : Nat) (hL : L ≤ 260) : wpL_law (fun r => r = 1) L xs := by
  refine br_c (fun z => lx_19 (c := 5) hL (by omega)) (fun z => ?_)
  have h0 : 0 < L := by
    rcases Nat.eq_zero_or_pos L with e | e
    · subst e
      exact absurd (by decide) z
    · exact e
  refine ⟨pk_in 0 L h0, by decide, ?_⟩
  obtain ⟨j, hj, ej⟩ := pk_andE (xs (0 : Int32).toNatClampNeg) (m := 255) 8 (by decide)
  have e : (xs (0 : Int32).toNatClampNeg &&& 255) - (xs (0 : Int32).toNatClampNeg &&& 255) / 12 * 12 = nI (j % 12) := by
    rw [ej, show (12 : Int32) = nI 12 from rfl, pk_rem (by omega) (by omega) (by omega)]
  rw [e]
  exact lx_19 hL (by omega)
end
