/-! the model's world -/
abbrev mW (dA : ClassId) (a : Nat → Nat) (sA past held text parted asShown told : Nat → Int32) (pasts runs typed spot from_ reason cause orders order : Int32) : va_W :=
  [(a 0, .inr (3, [.ref (a 1), .ref (a 2), .ref (a 3), .int pasts, .int runs, .ref (a 4), .int typed, .ref (a 5), .ref (a 6), .int spot, .int from_, .int reason, .int cause, .int orders, .int order, .ref (a 7)])), (a 1, .inl (dA, 284, .inl sA)), (a 2, .inl (dA, 1136, .inl past)), (a 3, .inl (dA, 284, .inl held)), (a 4, .inl (dA, 60, .inl text)), (a 5, .inl (dA, 13, .inl parted)), (a 6, .inl (dA, 16, .inl asShown)), (a 7, .inl (dA, 3, .inl told))]
abbrev mPc (av : List Value) (D : va_G) (dA : ClassId) (a : Nat → Nat) (sA past held text parted asShown told : Nat → Int32) (pasts runs typed spot from_ reason cause orders order : Int32) : Array Value → State → Prop :=
  va_Pc av (fun U => va_P D gCl (mW dA a sA past held text parted asShown told pasts runs typed spot from_ reason cause orders order) U.heap ∧ va_K D gCl [(dA, .int)] U)
def mDD (A : Nat → Prop) (dA : ClassId) (a : Nat → Nat) : Prop := ∀ (sA past held text parted asShown told : Nat → Int32) (pasts runs typed spot from_ reason cause orders order : Int32), va_D A (mW dA a sA past held text parted asShown told pasts runs typed spot from_ reason cause orders order)
section MB
variable {s : State} {H : Heap} {As av : List Value} {D : va_G} {dA : ClassId} {a : Nat → Nat} {sA past held text parted asShown told : Nat → Int32} {pasts runs typed spot from_ reason cause orders order : Int32}
theorem m_blind : FrameBlind (mPc av D dA a sA past held text parted asShown told pasts runs typed spot from_ reason cause orders order) := fun _ U g mk q => ⟨q.1, q.2.1, va_K.moved (u := U) (U := U.calling g mk _) (Vm.Alike.refl U.vm) q.2.2⟩
theorem m_preV (hK : va_K D gCl [(dA, .int)] s) (hP : va_P D gCl (mW dA a sA past held text parted asShown told pasts runs typed spot from_ reason cause orders order) H) : PreV s H RX3 (a 0) (mPc (.ref (a 0) :: As) D dA a sA past held text parted asShown told pasts runs typed spot from_ reason cause orders order) As :=
  ⟨m_blind, va_recv hK hP (ci := 3) (q0 := 0) rfl rfl, fun U hU hW => ⟨rfl, by rw [hU]; exact hP, va_K.moved hW.alike hK⟩⟩
theorem m_preW (hK : va_K D gCl [(dA, .int)] s) (hP : va_P D gCl (mW dA a sA past held text parted asShown told pasts runs typed spot from_ reason cause orders order) H) : PreS s H (mPc As D dA a sA past held text parted asShown told pasts runs typed spot from_ reason cause orders order) As :=
  ⟨m_blind, fun U hU hW => ⟨rfl, by rw [hU]; exact hP, va_K.moved hW.alike hK⟩⟩
end MB
