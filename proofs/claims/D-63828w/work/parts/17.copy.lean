theorem zE_mk {ws : va_W} {e0 e1 e2 e3 : Nat} (h0 : ws[5]? = some (e0, .inr (1, [.int 0, .int 9, .int 4, .int 5]))) (h1 : ws[6]? = some (e1, .inr (1, [.int 1, .int 24, .int 16, .int 8]))) (h2 : ws[7]? = some (e2, .inr (2, [.int 2, .int 116, .int 48]))) (h3 : ws[8]? = some (e3, .inr (3, [.int 3, .int 260, .int 256]))) : zE ws e0 e1 e2 e3 := ⟨h0, h1, h2, h3⟩
/-! what is made: d thousands of slots, at most d cells -/
def ad {α : Type} (n : Nat) (o : Option (α × Nat)) : Option (α × Nat) := o.map fun x => (x.1, n + x.2)
def bd {α β : Type} (o : Option (α × Nat)) (k : α → Option (β × Nat)) : Option (β × Nat) := o.bind fun x => (k x.1).map fun y => (y.1, x.2 + y.2)
theorem ad_k {α : Type} {n u rc : Nat} {ra : α} {o : Option (α × Nat)} {y : α × Nat} (h : ad n o = some y) (hA : ra = y.1) (hC : rc = u + y.2) : ∃ y', o = some y' ∧ ra = y'.1 ∧ rc = (u + n) + y'.2 := by
  unfold ad at h
  cases o with
  | none => cases h
  | some y' =>
    cases h
    exact ⟨y', rfl, hA, by rw [hC, Nat.add_assoc]⟩
theorem bd_k {α β : Type} {u rc : Nat} {ra : β} {o : Option (α × Nat)} {k : α → Option (β × Nat)} {y : β × Nat} (h : bd o k = some y) (hA : ra = y.1) (hC : rc = u + y.2) : ∃ (a : α) (d : Nat) (y' : β × Nat), o = some (a, d) ∧ k a = some y' ∧ ra = y'.1 ∧ rc = (u + d) + y'.2 := by
  unfold bd at h
  cases o with
  | none => cases h
  | some x =>
    obtain ⟨a, d⟩ := x
    obtain ⟨y', h1, h2⟩ : ∃ y', k a = some y' ∧ (y'.1, d + y'.2) = y := by
      have h' : (k a).map (fun y => (y.1, d + y.2)) = some y := h
      cases hk : k a with
      | none => rw [hk] at h'; cases h'
      | some y' => rw [hk] at h'; exact ⟨y', rfl, Option.some.inj h'⟩
    subst h2
    exact ⟨a, d, y', rfl, h1, hA, by rw [hC, Nat.add_assoc]⟩
def gcp {α : Type} (N : Int32) (n : Nat) (k : Option α) : Option α := if Int32.ofNat n < N ∧ n < 134217728 ∧ N.toNatClampNeg ≤ 134217728 then k else none
theorem gcp_k {α : Type} {N : Int32} {n : Nat} {k : Option α} {r : α} (h : gcp N n k = some r) : (Int32.ofNat n < N ∧ n < 134217728 ∧ N.toNatClampNeg ≤ 134217728) ∧ k = some r := by
  unfold gcp at h
  split at h
  · rename_i c
    exact ⟨c, h⟩
  · cases h
def gna {α : Type} (N : Int32) (k : Option α) : Option α := if N < 0 ∨ 134217728 < N.toNatClampNeg then none else k
theorem gna_k {α : Type} {N : Int32} {k : Option α} {r : α} (h : gna N k = some r) : (¬ N < 0 ∧ N.toNatClampNeg ≤ 134217728) ∧ k = some r := by
  unfold gna at h
  split at h
  · cases h
  · rename_i c
    exact ⟨⟨fun h => c (Or.inl h), Nat.le_of_not_lt (fun h => c (Or.inr h))⟩, h⟩
theorem z_cI {G : zG} {D : va_G} {cA : ClassId} {s : State} {ty : FieldType} (t0 : Nat) {c0 : ClassId} (h0 : (zty G)[t0]? = some (c0, ty)) (hp : refKind ty = false) (hK : va_K D classes (zty G ++ [(cA, ty)]) s) : cA = c0 := by
  have h1 := (hK.2 t0 (c0, ty) (by rw [List.getElem?_append_left (by have := (List.getElem?_eq_some_iff.mp h0).1; exact this)]; exact h0)).2
  have h2 := (hK.2 3 (cA, ty) rfl).2
  cases ty with
  | object C => cases hp
  | _ => exact Option.some.inj ((show s.vm.findClass _ = some cA from h2).symm.trans h1)
theorem kv_Tree_64 : zKS "BranchStore$Tree" 64 y_Arrays_copyOf prog_21_method_123_code 3 (some (.array .int)) 2 := ⟨k_372, k_373, k_17, k_374, by decide +kernel⟩
set_option maxHeartbeats 4000000 in
set_option maxRecDepth 100000 in
theorem c_copyOf (l : Launch) (G : zG) (sz : Nat) (a n : Nat) (f : Nat → Int32) (N : Int32) (h1 : Int32.ofNat n < N) (h2 : n < 134217728) (h3 : N.toNatClampNeg ≤ 134217728) :
    Met l y_Arrays_copyOf (Cond.code y_Arrays_copyOf prog_21_method_123_code 3 (some (.array .int)) :: lw_ok) { frames := 1, cells := 1, slots := N.toNatClampNeg, locals := 60 } (zPc G sz [.ref a, .int N] (wI G a n f))
      ((fun (A : Nat → Prop) => va_Qr (fun _ : Nat => True) (fun u ra t => ra = u ∧ zB G A (wI G a n f ++ wI G u N.toNatClampNeg (va_cpy f (fun _ => 0) 0 0 n)) t) A) (va_A (wI G a n f) sz)) 1 N.toNatClampNeg (va_A (wI G a n f) sz) := by
  refine zMet (Qc := fun (A : Nat → Prop) => va_Qr (fun _ : Nat => True) (fun u ra t => ra = u ∧ zB G A (wI G a n f ++ wI G u N.toNatClampNeg (va_cpy f (fun _ => 0) 0 0 n)) t) A) (by decide) (Nat.le_of_ble_eq_true rfl) (fun xp xe xs xm xb xme xc A ls Q H locs C hN hK hP hD hS hA hl hQ => ?_)
  obtain ⟨hx, hb, hr, hts, hown, hlocks, hml, hin⟩ := C
  have hl : lv_has ls 3 [(0, .ref a), (1, .int N)] := hl
  have hn0 : ¬ N < 0 := fun h => by
    have e1 := nI_toInt (n := n) (by omega)
    have e2 : (nI n).toInt < N.toInt := Int32.lt_iff_toInt_lt.mp h1
    have e3 : N.toInt < (0 : Int32).toInt := Int32.lt_iff_toInt_lt.mp h
    have e4 : (0 : Int32).toInt = 0 := rfl
    omega
  have hcl : (Int32.ofNat n).toNatClampNeg = n := nI_clamp (by omega)
  have hle : n ≤ N.toNatClampNeg := by
    have e1 := nI_toInt (n := n) (by omega)
    have e2 : (nI n).toInt < N.toInt := Int32.lt_iff_toInt_lt.mp h1
    have e3 : N.toNatClampNeg = N.toInt.toNat := rfl
    omega
  refine lv_iload_n hx hb d_Arrays_copyOf_0 rfl (lv_at hl 1 rfl) ?_
  refine lv_aload_n hx hb d_Arrays_copyOf_1 rfl (lv_at hl 0 rfl) ?_
  refine va_alen hx hb hK hP 0 0 rfl rfl rfl d_Arrays_copyOf_2 ?_
  refine lv_icmp_ne (tgt := 14) hx hb d_Arrays_copyOf_3 (by decide) (fun _ => ?_) (fun q => ?_)
  · refine lv_iload_n hx hb d_Arrays_copyOf_14 rfl (lv_at hl 1 rfl) ?_
    refine va_newa (a0 := (N.toNatClampNeg, .inl (fun _ => 0))) (N' := N.toNatClampNeg) (ty := .int) (atype := .int) hx hb (hts _ k_59) rfl hK hP hD hS hA (fun _ => rfl) hn0 rfl (by show _ * 4 ≤ _; omega) (Nat.le_refl _) (by show 0 + _ ≤ N.toNatClampNeg; omega) d_Arrays_copyOf_15 (fun u cA H hK' hP hD hS => ?_)
    obtain rfl := z_cI 0 rfl rfl hK'
    have hP : va_P G.1 classes (wI G a n f ++ wI G u N.toNatClampNeg (fun _ => 0)) H := hP
    have hD : va_D A (wI G a n f ++ wI G u N.toNatClampNeg (fun _ => 0)) := hD
    refine lv_astore_n (lv' := [(2, .ref u), (0, .ref a), (1, .int N)]) hx hb d_Arrays_copyOf_17 rfl hl (by decide) rfl (fun ls hl => ?_)
    refine lv_aload_n hx hb d_Arrays_copyOf_18 rfl (lv_at hl 1 rfl) ?_
    refine lv_iconst (v := 0) hx hb d_Arrays_copyOf_19 (by decide) ?_
    refine lv_aload_n hx hb d_Arrays_copyOf_20 rfl (lv_at hl 0 rfl) ?_
    refine lv_iconst (v := 0) hx hb d_Arrays_copyOf_21 (by decide) ?_
    refine lv_aload_n hx hb d_Arrays_copyOf_22 rfl (lv_at hl 1 rfl) ?_
    refine va_alen hx hb hK hP 0 0 rfl rfl rfl d_Arrays_copyOf_23 ?_
    refine lv_iload_n hx hb d_Arrays_copyOf_24 rfl (lv_at hl 2 rfl) ?_
    refine va_mmin hx hb (hml.trans hl.1.symm) hown (hts _ k_382) (hts _ k_257) (hts _ k_16) (hts _ k_258) (Nat.le_of_ble_eq_true rfl) (Nat.le_of_ble_eq_true rfl) (Nat.le_of_ble_eq_true rfl) (by show 0 + _ ≤ N.toNatClampNeg; omega) d_Arrays_copyOf_25 ?_
    have hmin : (if N < Int32.ofNat n then N else Int32.ofNat n) = Int32.ofNat n := if_neg (fun h => Int32.lt_irrefl (Int32.lt_trans h h1))
    rw [show (Prod.fst (n, (Sum.inl f : (Nat → Int32) ⊕ (Nat → Int64) ⊕ (Nat → UInt32) ⊕ (Nat → UInt64) ⊕ (Nat → Option Nat)))) = n from rfl, hmin]
    refine va_copyi hx hb (hml.trans hl.1.symm) hown (hts _ k_383) (hts _ k_385) (hts _ k_384) (hts _ k_18) hK hP hD hS 0 1 0 0 (n0 := n) (n1 := N.toNatClampNeg) (ty := .int) rfl rfl rfl rfl rfl (by decide) (by decide) (nI_pos (by omega)) (by rw [hcl]; exact Nat.le_of_eq (Nat.zero_add n)) (by rw [hcl]; show 0 + n ≤ _; omega) (fun i _ => rfl) (Nat.le_of_ble_eq_true rfl) (Nat.le_of_ble_eq_true rfl) d_Arrays_copyOf_28 (fun H locs hP hD hS => ?_)
    have hP : va_P G.1 classes (wI G a n f ++ wI G u N.toNatClampNeg (va_cpy f (fun _ => 0) 0 0 n)) H := by rw [hcl] at hP; exact hP
    have hD : va_D A (wI G a n f ++ wI G u N.toNatClampNeg (va_cpy f (fun _ => 0) 0 0 n)) := by rw [hcl] at hD; exact hD
    refine lv_aload_n hx hb d_Arrays_copyOf_31 rfl (lv_at hl 0 rfl) ?_
    exact zretr u hQ hS.2.2 hx hb hr (Or.inr ⟨_, rfl⟩) hlocks hP hD hS rfl (Nat.le_refl _) (by omega) d_Arrays_copyOf_32
  · exfalso
    rw [show N = Int32.ofNat n from q] at h1
    exact Int32.lt_irrefl h1
